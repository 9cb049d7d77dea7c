set_option maxRecDepth 100000
set_option maxHeartbeats 4000000 in
theorem x_X1_init {l : Launch} {E : gE} {X : State → Prop} {Z : Nat → Nat} {Y : Nat → Option Nat} (hE : E.2.1 = clsX) (hX : xOK l E X Z Y) (S : xS) (D : xD) (R : xR) (q o : Nat) (hq : S q = (2, 3, o)) (hw : E.2.2 q) (hg : GI E Z (del S q) D R) (hki : KI E Z (del S q) D R) (hd : ∀ j, D q j = 0) (hr : ∀ j, R q j = none) : xC l E X yX1_init cX1_init 1 none 4 3 12 [.ref q] S D R (fun rv S' D' R' => rv = none ∧ (GI E Z S' D' R' ∧ ext (del S q) S' D D' R R' ∧ stR S' D' R' q plS) ∧ sle S S') := by
  refine xC.of hX.1 (by decide) [some (.ref q)] (Nat.le_of_ble_eq_true rfl) rfl rfl (fun Γ hΓ => ?_)
  have hq2 : (S q).1 = 2 := by rw [hq]
  have hzo : (del S q (Z 0)).1 = 28 ∧ (del S q (Z 0)).2.1 = 0 := ⟨hki.1.1, hki.1.2.1⟩
  have hz1 := hki.1.2.2.1
  have hz1q := (del_old (S := S) (q := q) (p := Z 1) (by rw [hz1.1]; decide)).1
  rw [del_n hz1q] at hz1
  refine g_aload_n hΓ rfl dX1_init_0 ?_
  refine g_objInit hΓ rfl q161 q154 q155 (by decide) (Nat.le_of_ble_eq_true rfl) rfl dX1_init_1 ?_
  refine g_aload_n hΓ rfl dX1_init_4 ?_
  refine x_new (c := 10) hE hΓ (xn_new hX) 11 q in_J2 rfl ⟨by decide, rfl⟩ tyJ2 tyJ2_ok rfl q162 q163 q127 fs0_10 (by omega) (by omega) dX1_init_5 (fun q1 S1 δ1 ρ1 q1z q1w S1e δ1e ρ1e => ?_)
  have S1f : ∀ q9 : Nat, (S q9).1 ≠ 0 → S1 q9 = S q9 := fun q9 h9 => by rw [S1e]; exact uS_n (fun e9 => h9 (by rw [e9]; exact q1z))
  have S1q : S1 q1 = (11, 3, q) := by rw [S1e]; exact uS_s _ _ _ _ _
  have δ1z : ∀ j9 : Int, δ1 q1 j9 = 0 := fun j9 => by rw [δ1e, uN_s]
  have δ1f : ∀ (q9 : Nat) (j9 : Int), q9 ≠ q1 → δ1 q9 j9 = D q9 j9 := fun q9 j9 h9 => by rw [δ1e, uN_n h9]
  have ρ1z : ∀ j9 : Int, ρ1 q1 j9 = none := fun j9 => by rw [ρ1e, uN_s]
  have ρ1f : ∀ (q9 : Nat) (j9 : Int), q9 ≠ q1 → ρ1 q9 j9 = R q9 j9 := fun q9 j9 h9 => by rw [ρ1e, uN_n h9]
  have kd2 : (S1 q).1 = 2 := kup hq2 (by decide) S1f
  have kd3 : (S1 (Z 1)).1 = 35 := kup hz1.1 (by decide) S1f
  have ln3 : (S1 (Z 1)).2.1 = 6 := nup hz1.1 (by decide) hz1.2.1 S1f
  have kdq1 : (S1 q1).1 = 11 := by rw [S1q]
  have lnq1 : (S1 q1).2.1 = 3 := by rw [S1q]
  refine g_dup hΓ rfl dX1_init_8 ?_
  refine x_callI (As := []) (rest := [.ref q1, .ref q]) hΓ (x_J2_init hE hX S1 δ1 ρ1 q1 11 kdq1 (by decide) q1w ) rfl q164 q165 q127 q166 ndJ2_init rfl rfl (by decide) (by decide) (by omega) (by omega) rfl (Nat.le_of_ble_eq_true rfl) dX1_init_9 rfl (fun v4 S4 τ4 ρ4 h4 => ?_)
  obtain ⟨rfl, h4, S4e⟩ := h4
  have S4e := S4e.symm; subst S4e
  have τ4f := h4.1
  have ρ4r := h4.2.1
  have ρ4f := h4.2.2
  refine x_putFa (c := 1) hE hΓ in_X1 rfl kd2 ⟨by decide, rfl⟩ tyX1 tyX1_ok nmX1 hw 0 (ji := 0) rfl (by decide) (by decide) rfl q195 rfl rfl rfl rfl rfl rfl (some q1) rfl (by first | rfl | (rcases va_rf_or none with h9 | ⟨q9, h9⟩ <;> rw [h9] <;> rfl)) (by first | rfl | (rcases va_rf_or none with h9 | ⟨q9, h9⟩ <;> rw [h9] <;> rfl)) dX1_init_12 (fun ρ5 ρ5e => ?_)
  have ρ5r : ρ5 q 0 = some q1 := by rw [ρ5e]; exact ur_s _ _ _ _
  have ρ5f : ∀ (q9 : Nat) (j9 : Int), (q9 ≠ q ∨ j9 ≠ 0) → ρ5 q9 j9 = ρ4 q9 j9 := fun q9 j9 hh => by rw [ρ5e]; exact ur_n hh
  refine g_aload_n hΓ rfl dX1_init_15 ?_
  refine x_new (c := 10) hE hΓ (xn_new hX) 10 q in_J2 rfl ⟨by decide, rfl⟩ tyJ2 tyJ2_ok rfl q162 q163 q127 fs0_10 (by omega) (by omega) dX1_init_16 (fun q6 S6 δ6 ρ6 q6z q6w S6e δ6e ρ6e => ?_)
  have S6f : ∀ q9 : Nat, (S1 q9).1 ≠ 0 → S6 q9 = S1 q9 := fun q9 h9 => by rw [S6e]; exact uS_n (fun e9 => h9 (by rw [e9]; exact q6z))
  have S6q : S6 q6 = (10, 3, q) := by rw [S6e]; exact uS_s _ _ _ _ _
  have δ6z : ∀ j9 : Int, δ6 q6 j9 = 0 := fun j9 => by rw [δ6e, uN_s]
  have δ6f : ∀ (q9 : Nat) (j9 : Int), q9 ≠ q6 → δ6 q9 j9 = τ4 q9 j9 := fun q9 j9 h9 => by rw [δ6e, uN_n h9]
  have ρ6z : ∀ j9 : Int, ρ6 q6 j9 = none := fun j9 => by rw [ρ6e, uN_s]
  have ρ6f : ∀ (q9 : Nat) (j9 : Int), q9 ≠ q6 → ρ6 q9 j9 = ρ5 q9 j9 := fun q9 j9 h9 => by rw [ρ6e, uN_n h9]
  have kd7 : (S6 q).1 = 2 := kup kd2 (by decide) S6f
  have kd8 : (S6 (Z 1)).1 = 35 := kup kd3 (by decide) S6f
  have ln8 : (S6 (Z 1)).2.1 = 6 := nup kd3 (by decide) ln3 S6f
  have kd9 : (S6 q1).1 = 11 := kup kdq1 (by decide) S6f
  have ln9 : (S6 q1).2.1 = 3 := nup kdq1 (by decide) lnq1 S6f
  have kdq6 : (S6 q6).1 = 10 := by rw [S6q]
  have lnq6 : (S6 q6).2.1 = 3 := by rw [S6q]
  refine g_dup hΓ rfl dX1_init_19 ?_
  refine x_callI (As := []) (rest := [.ref q6, .ref q]) hΓ (x_J2_init hE hX S6 δ6 ρ6 q6 10 kdq6 (by decide) q6w ) rfl q164 q165 q127 q166 ndJ2_init rfl rfl (by decide) (by decide) (by omega) (by omega) rfl (Nat.le_of_ble_eq_true rfl) dX1_init_20 rfl (fun v10 S10 τ10 ρ10 h10 => ?_)
  obtain ⟨rfl, h10, S10e⟩ := h10
  have S10e := S10e.symm; subst S10e
  have τ10f := h10.1
  have ρ10r := h10.2.1
  have ρ10f := h10.2.2
  refine x_putFa (c := 1) hE hΓ in_X1 rfl kd7 ⟨by decide, rfl⟩ tyX1 tyX1_ok nmX1 hw 1 (ji := 1) rfl (by decide) (by decide) rfl q198 rfl rfl rfl rfl rfl rfl (some q6) rfl (by first | rfl | (rcases va_rf_or none with h9 | ⟨q9, h9⟩ <;> rw [h9] <;> rfl)) (by first | rfl | (rcases va_rf_or none with h9 | ⟨q9, h9⟩ <;> rw [h9] <;> rfl)) dX1_init_23 (fun ρ11 ρ11e => ?_)
  have ρ11r : ρ11 q 1 = some q6 := by rw [ρ11e]; exact ur_s _ _ _ _
  have ρ11f : ∀ (q9 : Nat) (j9 : Int), (q9 ≠ q ∨ j9 ≠ 1) → ρ11 q9 j9 = ρ10 q9 j9 := fun q9 j9 hh => by rw [ρ11e]; exact ur_n hh
  refine g_aload_n hΓ rfl dX1_init_26 ?_
  refine g_bipush hΓ (by decide) dX1_init_27 ?_
  refine x_newi hΓ (xn_new hX) 45 q ⟨by decide, rfl⟩ q189 (by omega) (by omega) (by omega) dX1_init_29 (fun q12 S12 δ12 ρ12 q12z q12w S12e δ12e ρ12e => ?_)
  have S12f : ∀ q9 : Nat, (S6 q9).1 ≠ 0 → S12 q9 = S6 q9 := fun q9 h9 => by rw [S12e]; exact uS_n (fun e9 => h9 (by rw [e9]; exact q12z))
  have S12q : S12 q12 = (45, 6, q) := by rw [S12e]; exact uS_s _ _ _ _ _
  have δ12z : ∀ j9 : Int, δ12 q12 j9 = 0 := fun j9 => by rw [δ12e, uN_s]
  have δ12f : ∀ (q9 : Nat) (j9 : Int), q9 ≠ q12 → δ12 q9 j9 = τ10 q9 j9 := fun q9 j9 h9 => by rw [δ12e, uN_n h9]
  have ρ12z : ∀ j9 : Int, ρ12 q12 j9 = none := fun j9 => by rw [ρ12e, uN_s]
  have ρ12f : ∀ (q9 : Nat) (j9 : Int), q9 ≠ q12 → ρ12 q9 j9 = ρ11 q9 j9 := fun q9 j9 h9 => by rw [ρ12e, uN_n h9]
  have kd13 : (S12 q).1 = 2 := kup kd7 (by decide) S12f
  have kd14 : (S12 (Z 1)).1 = 35 := kup kd8 (by decide) S12f
  have ln14 : (S12 (Z 1)).2.1 = 6 := nup kd8 (by decide) ln8 S12f
  have kd15 : (S12 q1).1 = 11 := kup kd9 (by decide) S12f
  have ln15 : (S12 q1).2.1 = 3 := nup kd9 (by decide) ln9 S12f
  have kd16 : (S12 q6).1 = 10 := kup kdq6 (by decide) S12f
  have ln16 : (S12 q6).2.1 = 3 := nup kdq6 (by decide) lnq6 S12f
  have kdq12 : (S12 q12).1 = 45 := by rw [S12q]
  have lnq12 : (S12 q12).2.1 = 6 := by rw [S12q]
  refine x_putFa (c := 1) hE hΓ in_X1 rfl kd13 ⟨by decide, rfl⟩ tyX1 tyX1_ok nmX1 hw 2 (ji := 2) rfl (by decide) (by decide) rfl q201 rfl rfl rfl rfl rfl rfl (some q12) rfl (by first | rfl | (rcases va_rf_or none with h9 | ⟨q9, h9⟩ <;> rw [h9] <;> rfl)) (by first | rfl | (rcases va_rf_or none with h9 | ⟨q9, h9⟩ <;> rw [h9] <;> rfl)) dX1_init_31 (fun ρ17 ρ17e => ?_)
  have ρ17r : ρ17 q 2 = some q12 := by rw [ρ17e]; exact ur_s _ _ _ _
  have ρ17f : ∀ (q9 : Nat) (j9 : Int), (q9 ≠ q ∨ j9 ≠ 2) → ρ17 q9 j9 = ρ12 q9 j9 := fun q9 j9 hh => by rw [ρ17e]; exact ur_n hh
  refine g_getsN hΓ rfl (xn_s_begun hX) (xn_190 hX) dX1_init_34 ?_
  show gW Γ E (xM E S12 δ12 ρ17) (0 + 1 + 0 + 1 + 0 + 1) (0 + 3 + 0 + 3 + 0 + 6) _ _ (.ref (Z 1) :: _)
  refine g_iconst hΓ dX1_init_37 ?_
  refine g_aload_n hΓ rfl dX1_init_38 ?_
  refine x_geta (r := some q12) (c := 1) hE hΓ in_X1 rfl kd13 ⟨by decide, rfl⟩ 2 (ji := 2) rfl (by decide) (by decide) rfl q201 rfl rfl ρ17r dX1_init_39 ?_
  show gW Γ E (xM E S12 δ12 ρ17) (0 + 1 + 0 + 1 + 0 + 1) (0 + 3 + 0 + 3 + 0 + 6) _ _ (.ref q12 :: _)
  refine g_iconst hΓ dX1_init_42 ?_
  refine g_bipush hΓ (by decide) dX1_init_43 ?_
  have hzj : ∀ j9 : Int, δ12 (Z 1) j9 = D (Z 1) j9 := fun j9 => (((((δ12f (Z 1) j9 (ne_k kd8 q12z (by decide))).trans (τ10f (Z 1) j9 (Or.inl (ne_k kd14 kd16 (by decide))))).trans (δ6f (Z 1) j9 (ne_k kd3 q6z (by decide)))).trans (τ4f (Z 1) j9 (Or.inl (ne_k kd14 kd15 (by decide))))).trans (δ1f (Z 1) j9 (ne_k hz1.1 q1z (by decide))))
  refine x_copyx hΓ (xn_new hX) rfl q192 q194 q193 q128 kd14 ln14 ⟨by decide, rfl⟩ hz1.2.2.2 kdq12 lnq12 ⟨by decide, rfl⟩ q12w (by omega) (by decide) (Nat.le_of_ble_eq_true rfl) rfl dX1_init_45 (fun τ18 τ18g τ18r => ?_)
  have z1 : (S q1).1 = 0 := q1z
  have z2 : (S q6).1 = 0 := sle_z (S1 := S1) S1f q6z
  have z3 : (S q12).1 = 0 := sle_z (S1 := S6) (sle_t S1f S6f) q12z
  have hsl : sle S S12 := (sle_t (sle_t S1f S6f) S12f)
  exact x_vret hΓ dX1_init_48 (by omega) (by omega) ⟨rfl, (st_mk hg hzo (by rw [del_s]) (del_z z1) (del_z z2) (del_z z3) hw q1w q6w q12w (del_sle hsl) (fun p9 h9 n0 n1 n2 n3 => by rw [S12e, uS_n n3, S6e, uS_n n2, S1e, uS_n n1]; rw [del_n n0] at h9; exact h9) (by rw [hsl q (by rw [hq2]; decide)]; exact hq2) (by rw [S12f q1 (by rw [S6f q1 (by rw [S1q]; exact (by decide : (11 : Nat) ≠ 0)), S1q]; exact (by decide : (11 : Nat) ≠ 0)), S6f q1 (by rw [S1q]; exact (by decide : (11 : Nat) ≠ 0)), S1q]) (by rw [S12f q6 (by rw [S6q]; exact (by decide : (10 : Nat) ≠ 0)), S6q]) (by rw [S12q]) (fun p9 h9 => funext fun j9 => ((τ18g p9 j9 (fun e9 => (del_old h9).2 (by rw [e9]; exact z3))).trans ((δ12f p9 j9 (fun e9 => (del_old h9).2 (by rw [e9]; exact z3))).trans ((τ10f p9 j9 (Or.inl (fun e9 => (del_old h9).2 (by rw [e9]; exact z2)))).trans ((δ6f p9 j9 (fun e9 => (del_old h9).2 (by rw [e9]; exact z2))).trans ((τ4f p9 j9 (Or.inl (fun e9 => (del_old h9).2 (by rw [e9]; exact z1)))).trans (δ1f p9 j9 (fun e9 => (del_old h9).2 (by rw [e9]; exact z1))))))))) (fun p9 h9 => funext fun j9 => ((ρ17f p9 j9 (Or.inl (del_old h9).1)).trans ((ρ12f p9 j9 (fun e9 => (del_old h9).2 (by rw [e9]; exact z3))).trans ((ρ11f p9 j9 (Or.inl (del_old h9).1)).trans ((ρ10f p9 j9 (Or.inl (fun e9 => (del_old h9).2 (by rw [e9]; exact z2)))).trans ((ρ6f p9 j9 (fun e9 => (del_old h9).2 (by rw [e9]; exact z2))).trans ((ρ5f p9 j9 (Or.inl (del_old h9).1)).trans ((ρ4f p9 j9 (Or.inl (fun e9 => (del_old h9).2 (by rw [e9]; exact z1)))).trans (ρ1f p9 j9 (fun e9 => (del_old h9).2 (by rw [e9]; exact z1))))))))))) (((((((ρ17f q 0 (Or.inr (by decide))).trans (ρ12f q 0 (ne_k kd7 q12z (by decide)))).trans (ρ11f q 0 (Or.inr (by decide)))).trans (ρ10f q 0 (Or.inl (ne_k kd13 kd16 (by decide))))).trans (ρ6f q 0 (ne_k kd2 q6z (by decide)))).trans ρ5r)) ((((ρ17f q 1 (Or.inr (by decide))).trans (ρ12f q 1 (ne_k kd7 q12z (by decide)))).trans ρ11r)) (ρ17r) ((((((((ρ17f q1 1 (Or.inl (ne_k kd15 kd13 (by decide)))).trans (ρ12f q1 1 (ne_k kd9 q12z (by decide)))).trans (ρ11f q1 1 (Or.inl (ne_k kd15 kd13 (by decide))))).trans (ρ10f q1 1 (Or.inl (ne_k kd15 kd16 (by decide))))).trans (ρ6f q1 1 (ne_k kdq1 q6z (by decide)))).trans (ρ5f q1 1 (Or.inl (ne_k kd15 kd13 (by decide))))).trans ρ4r)) ((τ18g _ _ (fun e9 => absurd ((congrArg (fun z => (S12 z).1) e9).symm.trans (by rw [kd15]) ) (by rw [kdq12]; decide))).trans ((((((δ12f q1 2 (ne_k kd9 q12z (by decide))).trans (τ10f q1 2 (Or.inl (ne_k kd15 kd16 (by decide))))).trans (δ6f q1 2 (ne_k kdq1 q6z (by decide)))).trans (τ4f q1 2 (Or.inr (by decide)))).trans (δ1z 2)))) (((((ρ17f q6 1 (Or.inl (ne_k kd16 kd13 (by decide)))).trans (ρ12f q6 1 (ne_k kdq6 q12z (by decide)))).trans (ρ11f q6 1 (Or.inl (ne_k kd16 kd13 (by decide))))).trans ρ10r)) ((τ18g _ _ (fun e9 => absurd ((congrArg (fun z => (S12 z).1) e9).symm.trans (by rw [kd16]) ) (by rw [kdq12]; decide))).trans ((((δ12f q6 2 (ne_k kdq6 q12z (by decide))).trans (τ10f q6 2 (Or.inr (by decide)))).trans (δ6z 2)))) (fun j9 x9 y9 => by rw [τ18r, cpI, if_pos (by omega), show (0 : Int) + (j9 - 0) = j9 by omega, hzj]; exact hz1.2.2.1 j9 x9 y9)), (sle_t (sle_t S1f S6f) S12f)⟩
set_option maxHeartbeats 4000000 in
theorem x_X7_init {l : Launch} {E : gE} {X : State → Prop} {Z : Nat → Nat} {Y : Nat → Option Nat} (hE : E.2.1 = clsX) (hX : xOK l E X Z Y) (S : xS) (D : xD) (R : xR) (q nm o : Nat) (hq : S q = (7, 2, o)) (hw : E.2.2 q) (hg : GI E Z (del S q) D R) (hki : KI E Z (del S q) D R) (hnm : (del S q nm).1 = 30) : xC l E X yX7_init cX7_init 2 none 4 1 3 [.ref q, .ref nm] S D R (fun rv S' D' R' => rv = none ∧ (GI E Z S' D' R' ∧ ext (del S q) S' D D' R R' ∧ R' q 0 = some nm ∧ R' q 1 = some (rf R' q 1) ∧ (S (rf R' q 1)).1 = 0 ∧ S' (rf R' q 1) = (12, 3, q) ∧ R' (rf R' q 1) 1 = some (Z 0) ∧ D' (rf R' q 1) 2 = 0) ∧ sle S S') := by
  refine xC.of hX.1 (by decide) [some (.ref q), some (.ref nm)] (Nat.le_of_ble_eq_true rfl) rfl rfl (fun Γ hΓ => ?_)
  have hq2 : (S q).1 = 7 := by rw [hq]
  have hzo : (del S q (Z 0)).1 = 28 ∧ (del S q (Z 0)).2.1 = 0 := ⟨hki.1.1, hki.1.2.1⟩
  have hnq := (del_old (S := S) (q := q) (p := nm) (by rw [hnm]; decide)).1
  have hnm2 := hnm
  rw [del_n hnq] at hnm2
  refine g_aload_n hΓ rfl dX7_init_0 ?_
  refine g_objInit hΓ rfl q762 q154 q155 (by decide) (Nat.le_of_ble_eq_true rfl) rfl dX7_init_1 ?_
  refine g_aload_n hΓ rfl dX7_init_4 ?_
  refine x_new (c := 10) hE hΓ (xn_new hX) 12 q in_J2 rfl ⟨by decide, rfl⟩ tyJ2 tyJ2_ok rfl q763 q163 q127 fs0_10 (by omega) (by omega) dX7_init_5 (fun q1 S1 δ1 ρ1 q1z q1w S1e δ1e ρ1e => ?_)
  have S1f : ∀ q9 : Nat, (S q9).1 ≠ 0 → S1 q9 = S q9 := fun q9 h9 => by rw [S1e]; exact uS_n (fun e9 => h9 (by rw [e9]; exact q1z))
  have S1q : S1 q1 = (12, 3, q) := by rw [S1e]; exact uS_s _ _ _ _ _
  have δ1z : ∀ j9 : Int, δ1 q1 j9 = 0 := fun j9 => by rw [δ1e, uN_s]
  have δ1f : ∀ (q9 : Nat) (j9 : Int), q9 ≠ q1 → δ1 q9 j9 = D q9 j9 := fun q9 j9 h9 => by rw [δ1e, uN_n h9]
  have ρ1z : ∀ j9 : Int, ρ1 q1 j9 = none := fun j9 => by rw [ρ1e, uN_s]
  have ρ1f : ∀ (q9 : Nat) (j9 : Int), q9 ≠ q1 → ρ1 q9 j9 = R q9 j9 := fun q9 j9 h9 => by rw [ρ1e, uN_n h9]
  have kd2 : (S1 q).1 = 7 := kup hq2 (by decide) S1f
  have kd3 : (S1 nm).1 = 30 := kup hnm2 (by decide) S1f
  have kdq1 : (S1 q1).1 = 12 := by rw [S1q]
  have lnq1 : (S1 q1).2.1 = 3 := by rw [S1q]
  refine g_dup hΓ rfl dX7_init_8 ?_
  refine x_callI (As := []) (rest := [.ref q1, .ref q]) hΓ (x_J2_init hE hX S1 δ1 ρ1 q1 12 kdq1 (by decide) q1w ) rfl q764 q165 q127 q166 ndJ2_init rfl rfl (by decide) (by decide) (by omega) (by omega) rfl (Nat.le_of_ble_eq_true rfl) dX7_init_9 rfl (fun v4 S4 τ4 ρ4 h4 => ?_)
  obtain ⟨rfl, h4, S4e⟩ := h4
  have S4e := S4e.symm; subst S4e
  have τ4f := h4.1
  have ρ4r := h4.2.1
  have ρ4f := h4.2.2
  refine x_putFa (c := 7) hE hΓ in_X7 rfl kd2 ⟨by decide, rfl⟩ tyX7 tyX7_ok nmX7 hw 1 (ji := 1) rfl (by decide) (by decide) rfl q767 rfl rfl rfl rfl rfl rfl (some q1) rfl (by first | rfl | (rcases va_rf_or none with h9 | ⟨q9, h9⟩ <;> rw [h9] <;> rfl)) (by first | rfl | (rcases va_rf_or none with h9 | ⟨q9, h9⟩ <;> rw [h9] <;> rfl)) dX7_init_12 (fun ρ5 ρ5e => ?_)
  have ρ5r : ρ5 q 1 = some q1 := by rw [ρ5e]; exact ur_s _ _ _ _
  have ρ5f : ∀ (q9 : Nat) (j9 : Int), (q9 ≠ q ∨ j9 ≠ 1) → ρ5 q9 j9 = ρ4 q9 j9 := fun q9 j9 hh => by rw [ρ5e]; exact ur_n hh
  refine g_aload_n hΓ rfl dX7_init_15 ?_
  refine g_aload_n hΓ rfl dX7_init_16 ?_
  refine x_putFa (c := 7) hE hΓ in_X7 rfl kd2 ⟨by decide, rfl⟩ tyX7 tyX7_ok nmX7 hw 0 (ji := 0) rfl (by decide) (by decide) rfl q765 rfl rfl rfl rfl rfl rfl (some nm) rfl (by first | rfl | (rcases va_rf_or none with h9 | ⟨q9, h9⟩ <;> rw [h9] <;> rfl)) (by first | rfl | (rcases va_rf_or none with h9 | ⟨q9, h9⟩ <;> rw [h9] <;> rfl)) dX7_init_17 (fun ρ6 ρ6e => ?_)
  have ρ6r : ρ6 q 0 = some nm := by rw [ρ6e]; exact ur_s _ _ _ _
  have ρ6f : ∀ (q9 : Nat) (j9 : Int), (q9 ≠ q ∨ j9 ≠ 0) → ρ6 q9 j9 = ρ5 q9 j9 := fun q9 j9 hh => by rw [ρ6e]; exact ur_n hh
  have e1 : ρ6 q 1 = some q1 := ((ρ6f q 1 (Or.inr (by decide))).trans ρ5r)
  have e0 : ρ6 q 0 = some nm := ρ6r
  have es : ρ6 q1 1 = some (Z 0) := (((ρ6f q1 1 (Or.inl (ne_k kdq1 kd2 (by decide)))).trans (ρ5f q1 1 (Or.inl (ne_k kdq1 kd2 (by decide))))).trans ρ4r)
  have ed : τ4 q1 2 = 0 := ((τ4f q1 2 (Or.inr (by decide))).trans (δ1z 2))
  have hmk := le_mk hg hzo (by rw [del_s]) (del_z q1z) hw q1w hnm (del_sle S1f) (fun p9 h9 n0 n1 => by rw [S1e, uS_n n1]; rw [del_n n0] at h9; exact h9) (by rw [S1f q (by rw [hq2]; decide)]; exact hq2) S1q (fun p9 h9 => funext fun j9 => ((τ4f p9 j9 (Or.inl (fun e9 => (del_old h9).2 (by rw [e9]; exact q1z)))).trans (δ1f p9 j9 (fun e9 => (del_old h9).2 (by rw [e9]; exact q1z))))) (fun p9 h9 => funext fun j9 => ((ρ6f p9 j9 (Or.inl (del_old h9).1)).trans ((ρ5f p9 j9 (Or.inl (del_old h9).1)).trans ((ρ4f p9 j9 (Or.inl (fun e9 => (del_old h9).2 (by rw [e9]; exact q1z)))).trans (ρ1f p9 j9 (fun e9 => (del_old h9).2 (by rw [e9]; exact q1z))))))) e0 e1 es ed
  exact x_vret hΓ dX7_init_20 (by omega) (by omega) ⟨rfl, ⟨hmk.1, hmk.2, e0, by rw [rf_s e1]; exact e1, by rw [rf_s e1]; exact q1z, by rw [rf_s e1]; exact S1q, by rw [rf_s e1]; exact es, by rw [rf_s e1]; exact ed⟩, S1f⟩
set_option maxHeartbeats 4000000 in
theorem x_X7_init_3 {l : Launch} {E : gE} {X : State → Prop} {Z : Nat → Nat} {Y : Nat → Option Nat} (hE : E.2.1 = clsX) (hX : xOK l E X Z Y) (S : xS) (D : xD) (R : xR) (q o : Nat) (hq : S q = (7, 2, o)) (hw : E.2.2 q) (hg : GI E Z (del S q) D R) (hki : KI E Z (del S q) D R) : xC l E X yX7_init_3 cX7_init_3 1 none 5 1 3 [.ref q] S D R (fun rv S' D' R' => rv = none ∧ (GI E Z S' D' R' ∧ ext (del S q) S' D D' R R' ∧ R' q 0 = some (Z 35) ∧ R' q 1 = some (rf R' q 1) ∧ (S (rf R' q 1)).1 = 0 ∧ S' (rf R' q 1) = (12, 3, q) ∧ R' (rf R' q 1) 1 = some (Z 0) ∧ D' (rf R' q 1) 2 = 0) ∧ sle S S') := by
  refine xC.of hX.1 (by decide) [some (.ref q)] (Nat.le_of_ble_eq_true rfl) rfl rfl (fun Γ hΓ => ?_)
  have hq2 : (S q).1 = 7 := by rw [hq]
  have hzo : (del S q (Z 0)).1 = 28 ∧ (del S q (Z 0)).2.1 = 0 := ⟨hki.1.1, hki.1.2.1⟩
  refine g_aload_n hΓ rfl dX7_init_3_0 ?_
  refine g_ldcS hΓ rfl (xn_t_nilL hX) dX7_init_3_1 ?_
  refine x_callI (As := [.ref (Z 35)]) (rest := []) hΓ (x_X7_init hE hX S D R q (Z 35) o hq hw hg hki (hki.2.1 35 (by decide)).1 ) rfl q1181 q760 q143 q761 ndX7_init rfl rfl (by decide) (by decide) (by omega) (by omega) rfl (Nat.le_of_ble_eq_true rfl) dX7_init_3_3 rfl (fun v1 S1 τ1 ρ1 h1 => ?_)
  obtain ⟨rfl, h1, S1f⟩ := h1
  have kd2 : (S1 q).1 = 7 := kup hq2 (by decide) S1f
  exact x_vret hΓ dX7_init_3_6 (by omega) (by omega) ⟨rfl, h1, S1f⟩
set_option maxHeartbeats 4000000 in
theorem x_X7_init_2 {l : Launch} {E : gE} {X : State → Prop} {Z : Nat → Nat} {Y : Nat → Option Nat} (hE : E.2.1 = clsX) (hX : xOK l E X Z Y) (S : xS) (D : xD) (R : xR) (q c kc o : Nat) (hq : S q = (7, 2, o)) (hw : E.2.2 q) (hg : GI E Z (del S q) D R) (hki : KI E Z (del S q) D R) (hc : (S c).1 = kc) (hkc : kc = 10 ∨ kc = 13) (hn : D c 2 ≤ 10) : xC l E X yX7_init_2 cX7_init_2 2 none 6 3 73 [.ref q, .ref c] S D R (fun rv S' D' R' => rv = none ∧ (GI E Z S' D' R' ∧ ext (del S q) S' D D' R R' ∧ R' q 0 = some (Z 35) ∧ D' (rf R' q 1) 2 = D c 2 ∧ (S' (rf R' q 1)).1 = 12 ∧ ∀ i, 0 ≤ i → i < D c 2 → lE R' (rf R' q 1) i = lE R c i) ∧ sle S S') := by
  refine xC.of hX.1 (by decide) [some (.ref q), some (.ref c)] (Nat.le_of_ble_eq_true rfl) rfl rfl (fun Γ hΓ => ?_)
  have hq2 : (S q).1 = 7 := by rw [hq]
  have hzo : (del S q (Z 0)).1 = 28 ∧ (del S q (Z 0)).2.1 = 0 := ⟨hki.1.1, hki.1.2.1⟩
  have hkr : 10 ≤ kc ∧ kc ≤ 17 := by omega
  have hcq : c ≠ q := ne_k hc hq2 (by omega)
  have hcd : (del S q c).1 = kc := by rw [del_n hcq]; exact hc
  have hcl := (hg.2.1 c (by omega) (by omega))
  refine g_aload_n hΓ rfl dX7_init_2_0 ?_
  refine x_callI (As := []) (rest := []) hΓ (x_X7_init_3 hE hX S D R q o hq hw hg hki ) rfl q1177 q1178 q143 q1179 ndX7_init_3 rfl rfl (by decide) (by decide) (by omega) (by omega) rfl (Nat.le_of_ble_eq_true rfl) dX7_init_2_1 rfl (fun v1 S1 τ1 ρ1 h1 => ?_)
  obtain ⟨rfl, h1, S1f⟩ := h1
  have kd2 : (S1 q).1 = 7 := kup hq2 (by decide) S1f
  have kd3 : (S1 c).1 = kc := kup hc (by omega) S1f
  obtain ⟨s9, es9⟩ : ∃ z9 : Nat, z9 = rf ρ1 q 1 := ⟨_, rfl⟩
  rw [← es9] at h1
  have ks9 : (S1 s9).1 = 12 := by rw [h1.2.2.2.2.2.1]
  have hlcx := ls_ext h1.2.1 (by omega) hcl
  have ec9 : τ1 c 2 = D c 2 := congrFun hlcx.2.2.1 2
  have hki1 := KI_ext h1.2.1 hki
  refine g_aload_n hΓ rfl dX7_init_2_4 ?_
  refine x_geta (r := some s9) (c := 7) hE hΓ in_X7 rfl kd2 ⟨by decide, rfl⟩ 1 (ji := 1) rfl (by decide) (by decide) rfl q767 rfl rfl h1.2.2.2.1 dX7_init_2_5 ?_
  show gW Γ E (xM E S1 τ1 ρ1) (0 + 1) (0 + 3) _ _ (.ref s9 :: _)
  refine g_aload_n hΓ rfl dX7_init_2_8 ?_
  have hza5 : τ1 s9 2 = 0 := h1.2.2.2.2.2.2.2
  have hzc5 : τ1 c 2 = D c 2 := ec9
  refine x_callV (As := [.ref c]) (rest := []) (c := 10) hE hΓ (x_J2_addAll hE hX S1 τ1 ρ1 s9 c 12 kc ks9 (by decide) h1.1 kd3 hkr (by rcases hkc with h9 | h9 <;> rw [h9] <;> rfl) (by omega) hki1.2.2.2 ) ks9 ⟨by decide, rfl⟩ rfl rfl q1182 q1183 q1184 q127 q1185 ndJ2_addAll rfl (by decide) (by decide) (by omega) (by omega) rfl (Nat.le_of_ble_eq_true rfl) dX7_init_2_9 rfl (fun v4 S4 τ4 ρ4 h4 => ?_)
  obtain ⟨rfl, h4, S4f⟩ := h4
  have kd6 : (S4 q).1 = 7 := kup kd2 (by decide) S4f
  have kd7 : (S4 c).1 = kc := kup kd3 (by omega) S4f
  have kd8 : (S4 s9).1 = 12 := kup ks9 (by decide) S4f
  show gW Γ E (xM E S4 τ4 ρ4) _ _ _ _ (.int (iI (if τ1 c 2 = 0 then 0 else 1)) :: _)
  refine g_pop hΓ rfl dX7_init_2_12 ?_
  have hz9 := h4.2.2.2.2 (by rw [rf_s h1.2.2.2.2.2.2.1])
  have hqs : q ≠ s9 := fun e9 => by have h9 := h1.2.2.2.2.1; rw [← e9, hq2] at h9; exact absurd h9 (by decide)
  have kq1 : (S1 q).1 = 7 := kd2
  have erq := (hz9 q (by rw [kq1]; decide) hqs).2
  have e1 : ρ4 q 1 = some s9 := (congrFun erq 1).trans h1.2.2.2.1
  have ho9 : ∀ p9, (del S q p9).1 ≠ 0 → (S1 p9).1 ≠ 0 ∧ p9 ≠ s9 := fun p9 h9 => ⟨by rw [h1.2.1.1 p9 h9]; exact h9, fun e9 => (del_old h9).2 (by rw [e9]; exact h1.2.2.2.2.1)⟩
  exact x_vret hΓ dX7_init_2_13 (by omega) (by omega) ⟨rfl, ⟨h4.1, ⟨fun p9 h9 => (S4f p9 (ho9 p9 h9).1).trans (h1.2.1.1 p9 h9), fun p9 h9 => ((hz9 p9 (ho9 p9 h9).1 (ho9 p9 h9).2).1).trans (h1.2.1.2.1 p9 h9), fun p9 h9 => ((hz9 p9 (ho9 p9 h9).1 (ho9 p9 h9).2).2).trans (h1.2.1.2.2 p9 h9)⟩, (congrFun erq 0).trans h1.2.2.1, by rw [rf_s e1, h4.2.1, ec9], by rw [rf_s e1, S4f s9 (by rw [ks9]; decide)]; exact ks9, fun i9 x9 y9 => by rw [rf_s e1, h4.2.2.2.1 i9 x9 (by rw [ec9]; exact y9)]; exact hlcx.2.2.2 i9⟩, (sle_t S1f S4f)⟩
