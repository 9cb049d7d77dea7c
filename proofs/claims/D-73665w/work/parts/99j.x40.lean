set_option maxRecDepth 100000
set_option maxHeartbeats 4000000 in
theorem x_X9_init {l : Launch} {E : gE} {X : State → Prop} {Z : Nat → Nat} {Y : Nat → Option Nat} (hE : E.2.1 = clsX) (hX : xOK l E X Z Y) (S : xS) (D : xD) (R : xR) (q c kc o : Nat) (mo : Int) (hq : S q = (99, 2, o)) (hw : E.2.2 q) (hg : GI E Z S D R) (hki : KI E Z S D R) (hc : (S c).1 = kc) (hkc : kc = 10 ∨ kc = 13) (hn : D c 2 ≤ 10) : xC l E X yX9_init cX9_init 3 none 7 4 75 [.ref q, .int (iI mo), .ref c] S D R (fun rv S' D' R' => rv = none ∧ (GI E Z S' D' R' ∧ S' q = (9, 2, o) ∧ (∀ p, (S p).1 ≠ 0 → p ≠ q → S' p = S p ∧ D' p = D p ∧ R' p = R p) ∧ D' q 0 = mo ∧ R' q 1 = some (rf R' q 1) ∧ (S' (rf R' q 1)).1 = 7 ∧ D' (rf R' (rf R' q 1) 1) 2 = D c 2 ∧ ∀ i, 0 ≤ i → i < D c 2 → lE R' (rf R' (rf R' q 1) 1) i = lE R c i)) := by
  refine xC.of hX.1 (by decide) [some (.ref q), some (.int (iI mo)), some (.ref c)] (Nat.le_of_ble_eq_true rfl) rfl rfl (fun Γ hΓ => ?_)
  have hq2 : (S q).1 = 99 := by rw [hq]
  have hq3 : (S q).2.1 = 2 := by rw [hq]
  have hkr : 10 ≤ kc ∧ kc ≤ 17 := by omega
  have hcq : c ≠ q := ne_k hc hq2 (by omega)
  refine g_aload_n hΓ rfl dX9_init_0 ?_
  refine g_objInit hΓ rfl q1172 q154 q155 (by decide) (Nat.le_of_ble_eq_true rfl) rfl dX9_init_1 ?_
  refine g_aload_n hΓ rfl dX9_init_4 ?_
  refine g_iload_n hΓ rfl dX9_init_5 ?_
  refine x_putFi (c := 9) hE hΓ in_X9 rfl hq2 ⟨by decide, rfl⟩ tyX9 tyX9_ok nmX9 hw 0 (ji := 0) rfl (by decide) (by decide) rfl q1197 rfl rfl rfl rfl rfl rfl rfl rfl dX9_init_6 (fun τ1 τ1e => ?_)
  have τ1r : τ1 q 0 = mo := by rw [τ1e]; exact us_s _ _ _ _
  have τ1f : ∀ (q9 : Nat) (j9 : Int), (q9 ≠ q ∨ j9 ≠ 0) → τ1 q9 j9 = D q9 j9 := fun q9 j9 hh => by rw [τ1e]; exact us_n hh
  refine g_aload_n hΓ rfl dX9_init_9 ?_
  refine x_new (c := 7) hE hΓ (xn_new hX) 7 0 in_X7 rfl ⟨by decide, rfl⟩ tyX7 tyX7_ok rfl q1173 q758 q143 fs0_7 (by omega) (by omega) dX9_init_10 (fun q2 S2 δ2 ρ2 q2z q2w S2e δ2e ρ2e => ?_)
  have S2f : ∀ q9 : Nat, (S q9).1 ≠ 0 → S2 q9 = S q9 := fun q9 h9 => by rw [S2e]; exact uS_n (fun e9 => h9 (by rw [e9]; exact q2z))
  have S2q : S2 q2 = (7, 2, 0) := by rw [S2e]; exact uS_s _ _ _ _ _
  have δ2z : ∀ j9 : Int, δ2 q2 j9 = 0 := fun j9 => by rw [δ2e, uN_s]
  have δ2f : ∀ (q9 : Nat) (j9 : Int), q9 ≠ q2 → δ2 q9 j9 = τ1 q9 j9 := fun q9 j9 h9 => by rw [δ2e, uN_n h9]
  have ρ2z : ∀ j9 : Int, ρ2 q2 j9 = none := fun j9 => by rw [ρ2e, uN_s]
  have ρ2f : ∀ (q9 : Nat) (j9 : Int), q9 ≠ q2 → ρ2 q9 j9 = R q9 j9 := fun q9 j9 h9 => by rw [ρ2e, uN_n h9]
  have kd3 : (S2 q).1 = 99 := kup hq2 (by decide) S2f
  have ln3 : (S2 q).2.1 = 2 := nup hq2 (by decide) hq3 S2f
  have kd4 : (S2 c).1 = kc := kup hc (by omega) S2f
  have kdq2 : (S2 q2).1 = 7 := by rw [S2q]
  have lnq2 : (S2 q2).2.1 = 2 := by rw [S2q]
  refine g_dup hΓ rfl dX9_init_13 ?_
  refine g_aload_n hΓ rfl dX9_init_14 ?_
  have hf9 : fr S D τ1 [99] := (fun q9 j9 hk9 => τ1f q9 j9 (Or.inl (fun e9 => hk9 (by rw [e9, hq2, mdN _ (by decide)]; decide))))
  have hg1 := GI_nd hf9 (by decide) hg
  have hk1 := KI_nd hf9 (by decide) hki
  have hdn := del_new hg1 q2z S2e δ2e ρ2e
  have ct : c ≠ q2 := fun e9 => by have h9 := q2z; rw [← e9, hc] at h9; omega
  have qt : q ≠ q2 := fun e9 => by have h9 := q2z; rw [← e9, hq2] at h9; exact absurd h9 (by decide)
  have ec1 : δ2 c 2 = D c 2 := ((δ2f c 2 (ne_k hc q2z (by omega))).trans (τ1f c 2 (Or.inl (ne_k kd4 kd3 (by omega)))))
  have eR1 : ∀ j9 : Int, ρ2 c j9 = R c j9 := fun j9 => ρ2f c j9 ct
  refine x_callI (As := [.ref c]) (rest := [.ref q2, .ref q]) hΓ (x_X7_init_2 hE hX S2 δ2 ρ2 q2 c kc 0 S2q q2w hdn.1 (KI_ext hdn.2 hk1) kd4 hkc (by rw [ec1]; exact hn) ) rfl q1174 q1175 q143 q1176 ndX7_init_2 rfl rfl (by decide) (by decide) (by omega) (by omega) rfl (Nat.le_of_ble_eq_true rfl) dX9_init_15 rfl (fun v5 S5 τ5 ρ5 h5 => ?_)
  obtain ⟨rfl, h5, S5f⟩ := h5
  have kd6 : (S5 q).1 = 99 := kup kd3 (by decide) S5f
  have ln6 : (S5 q).2.1 = 2 := nup kd3 (by decide) ln3 S5f
  have kd7 : (S5 c).1 = kc := kup kd4 (by omega) S5f
  have kd8 : (S5 q2).1 = 7 := kup kdq2 (by decide) S5f
  have ln8 : (S5 q2).2.1 = 2 := nup kdq2 (by decide) lnq2 S5f
  have kq3 : (S5 q).1 = 99 := kd6
  refine x_putFa (c := 9) hE hΓ in_X9 rfl kd6 ⟨by decide, rfl⟩ tyX9 tyX9_ok nmX9 hw 1 (ji := 1) rfl (by decide) (by decide) rfl q1199 rfl rfl rfl rfl rfl rfl (some q2) rfl (by first | rfl | (rcases va_rf_or none with h9 | ⟨q9, h9⟩ <;> rw [h9] <;> rfl)) (by first | rfl | (rcases va_rf_or none with h9 | ⟨q9, h9⟩ <;> rw [h9] <;> rfl)) dX9_init_18 (fun ρ9 ρ9e => ?_)
  have ρ9r : ρ9 q 1 = some q2 := by rw [ρ9e]; exact ur_s _ _ _ _
  have ρ9f : ∀ (q9 : Nat) (j9 : Int), (q9 ≠ q ∨ j9 ≠ 1) → ρ9 q9 j9 = ρ5 q9 j9 := fun q9 j9 hh => by rw [ρ9e]; exact ur_n hh
  have hxk := xM_K (E := E) (D := τ5) (R := ρ9) (k' := 9) (o := o) kd6 (by decide) (by decide) rfl
  rw [ln6] at hxk
  obtain ⟨S9, eS9⟩ : ∃ z9 : xS, z9 = uS S5 q 9 2 o := ⟨_, rfl⟩
  rw [← eS9] at hxk
  rw [hxk]
  have kt1 : (S2 q2).1 = 7 := by rw [S2q]
  have kt3 : (S5 q2).1 = 7 := by rw [S5f q2 (by rw [kt1]; decide)]; exact kt1
  have s9q : S9 q = (9, 2, o) := by rw [eS9]; exact uS_s _ _ _ _ _
  have s9n : ∀ p, p ≠ q → S9 p = S5 p := fun p hp => by rw [eS9]; exact uS_n hp
  have e1 : ρ9 q 1 = some q2 := ρ9r
  have hsa : saF S9 ρ9 q := ⟨by rw [rf_s e1]; exact e1, by rw [rf_s e1, s9n q2 (Ne.symm qt)]; exact kt3⟩
  have hG9 := GI_rek (S' := S9) (D' := τ5) (R' := ρ9) h5.1 kq3 eS9 (fun _ _ _ => rfl) (fun q9 j9 h9 => ρ9f q9 j9 (Or.inl h9)) hw hsa
  have ho9 : ∀ p, (S p).1 ≠ 0 → p ≠ q → p ≠ q2 ∧ (del S2 q2 p).1 ≠ 0 := fun p hp h9 => by
    have h8 : p ≠ q2 := fun e9 => hp (by rw [e9]; exact q2z)
    exact ⟨h8, by rw [del_n h8, S2f p hp]; exact hp⟩
  have erf : rf ρ9 q2 1 = rf ρ5 q2 1 := by rw [rf, rf, ρ9f _ _ (Or.inl (Ne.symm qt))]
  have hls := h5.2.2.2.2.1
  have hlne : rf ρ5 q2 1 ≠ q := fun e9 => by rw [e9, kq3] at hls; exact absurd hls (by decide)
  have hlc3 := h5.1.2.1 (rf ρ5 q2 1) (by rw [hls]; decide) (by rw [hls]; decide)
  obtain ⟨b9, kb9, hb1, hb2, hb3, hb4, -⟩ := lsOK_b hlc3 (by rw [hls]; decide)
  have hbne : rf ρ5 (rf ρ5 q2 1) 1 ≠ q := fun e9 => by rw [← hb2] at e9; rw [e9, kq3] at hb3; omega
  have elE : ∀ i9 : Int, lE ρ9 (rf ρ5 q2 1) i9 = lE ρ5 (rf ρ5 q2 1) i9 := fun i9 => by
    have h8 : rf ρ9 (rf ρ5 q2 1) 1 = rf ρ5 (rf ρ5 q2 1) 1 := rf_c (ρ9f _ _ (Or.inl hlne))
    rw [lE, lE, h8]; exact rf_c (ρ9f _ _ (Or.inl hbne))
  have hcd : (del S2 q2 c).1 ≠ 0 := (ho9 c (by omega) hcq).2
  have hcl := hg.2.1 c (by omega) (by omega)
  have hlEc : ∀ i9 : Int, lE ρ2 c i9 = lE R c i9 := fun i9 => by
    obtain ⟨b8, kb8, h81, h82, h83, h84, -⟩ := lsOK_b hcl (by omega)
    have h7 : rf ρ2 c 1 = rf R c 1 := by rw [rf, rf, eR1]
    have h6 : rf R c 1 ≠ q2 := fun e9 => by rw [← h82] at e9; have h5 := q2z; rw [← e9, h83] at h5; omega
    rw [lE, lE, h7]; exact rf_c (ρ2f _ _ h6)
  exact x_vret hΓ dX9_init_21 (by omega) (by omega) ⟨rfl, hG9, s9q, fun p9 h9 h8 => ⟨(s9n p9 h8).trans ((h5.2.1.1 p9 (ho9 p9 h9 h8).2).trans ((del_n (ho9 p9 h9 h8).1).trans (S2f p9 h9))), (h5.2.1.2.1 p9 (ho9 p9 h9 h8).2).trans (funext fun j9 => (δ2f p9 j9 (ho9 p9 h9 h8).1).trans (τ1f p9 j9 (Or.inl h8))), (funext fun j9 => ρ9f p9 j9 (Or.inl h8)).trans ((h5.2.1.2.2 p9 (ho9 p9 h9 h8).2).trans (funext fun j9 => ρ2f p9 j9 (ho9 p9 h9 h8).1))⟩, (congrFun (h5.2.1.2.1 q (by rw [del_n qt, S2f q (by rw [hq2]; decide), hq2]; decide)) 0).trans ((δ2f q 0 qt).trans τ1r), hsa.1, hsa.2, by rw [rf_s e1, erf, h5.2.2.2.1, ec1], fun i9 x9 y9 => by rw [rf_s e1, erf, elE, h5.2.2.2.2.2 i9 x9 (by rw [ec1]; exact y9)]; exact hlEc i9⟩
set_option maxHeartbeats 4000000 in
theorem x_X8_cut {l : Launch} {E : gE} {X : State → Prop} {Z : Nat → Nat} {Y : Nat → Option Nat} (hE : E.2.1 = clsX) (hX : xOK l E X Z Y) (S : xS) (D : xD) (R : xR) (a : Nat) (n : Int) (ha : (S a).1 = 53) (hna : (S a).2.1 = 24) (hA : E.2.2 a) (hn : 0 ≤ n ∧ n ≤ 24) : xC l E X yX8_cut cX8_cut 3 (some (.array .int)) 1 1 24 [.ref a, .int (iI n)] S D R (fun rv S' D' R' => ∃ q9 : Nat, rv = some (.ref q9) ∧ ((S q9).1 = 0 ∧ E.2.2 q9 ∧ S' = uS S q9 40 n.toNat 0 ∧ (∀ (p : Nat) (j : Int), p ≠ q9 → D' p j = D p j) ∧ (∀ (p : Nat) (j : Int), p ≠ q9 → R' p j = R p j) ∧ ∀ j : Int, 0 ≤ j → j < n → D' q9 j = D a j) ∧ sle S S') := by
  refine xC.of hX.1 (by decide) [some (.ref a), some (.int (iI n)), none] (Nat.le_of_ble_eq_true rfl) rfl rfl (fun Γ hΓ => ?_)
  refine g_iload_n hΓ rfl dX8_cut_0 ?_
  refine x_newi hΓ (xn_new hX) 40 0 ⟨by decide, rfl⟩ q189 (by omega) (by omega) (by omega) dX8_cut_1 (fun q1 S1 δ1 ρ1 q1z q1w S1e δ1e ρ1e => ?_)
  have S1f : ∀ q9 : Nat, (S q9).1 ≠ 0 → S1 q9 = S q9 := fun q9 h9 => by rw [S1e]; exact uS_n (fun e9 => h9 (by rw [e9]; exact q1z))
  have S1q : S1 q1 = (40, (n).toNat, 0) := by rw [S1e]; exact uS_s _ _ _ _ _
  have δ1z : ∀ j9 : Int, δ1 q1 j9 = 0 := fun j9 => by rw [δ1e, uN_s]
  have δ1f : ∀ (q9 : Nat) (j9 : Int), q9 ≠ q1 → δ1 q9 j9 = D q9 j9 := fun q9 j9 h9 => by rw [δ1e, uN_n h9]
  have ρ1z : ∀ j9 : Int, ρ1 q1 j9 = none := fun j9 => by rw [ρ1e, uN_s]
  have ρ1f : ∀ (q9 : Nat) (j9 : Int), q9 ≠ q1 → ρ1 q9 j9 = R q9 j9 := fun q9 j9 h9 => by rw [ρ1e, uN_n h9]
  have kd2 : (S1 a).1 = 53 := kup ha (by decide) S1f
  have ln2 : (S1 a).2.1 = 24 := nup ha (by decide) hna S1f
  have kdq1 : (S1 q1).1 = 40 := by rw [S1q]
  have lnq1 : (S1 q1).2.1 = (n).toNat := by rw [S1q]
  refine g_astore_n hΓ dX8_cut_3 rfl (Nat.le_of_ble_eq_true rfl) (lv' := [some (.ref a), some (.int (iI n)), some (.ref q1)]) rfl ?_
  refine g_aload_n hΓ rfl dX8_cut_4 ?_
  refine g_iconst hΓ dX8_cut_5 ?_
  refine g_aload_n hΓ rfl dX8_cut_6 ?_
  refine g_iconst hΓ dX8_cut_7 ?_
  refine g_iload_n hΓ rfl dX8_cut_8 ?_
  refine x_copyi hΓ (xn_new hX) rfl q793 q194 q193 q128 kd2 ln2 ⟨by decide, rfl⟩ hA kdq1 lnq1 ⟨by decide, rfl⟩ q1w (by omega) (by decide) (Nat.le_of_ble_eq_true rfl) rfl dX8_cut_9 (fun τ3 τ3g τ3r => ?_)
  refine g_aload_n hΓ rfl dX8_cut_12 ?_
  exact x_aret hΓ (Or.inr ⟨_, rfl⟩) (Or.inr ⟨_, rfl⟩) dX8_cut_13 (by omega) (by omega) ⟨q1, rfl, ⟨q1z, q1w, S1e, fun p9 j9 h9 => (τ3g p9 j9 h9).trans (δ1f p9 j9 h9), ρ1f, fun j9 x9 y9 => by rw [τ3r, cpI, if_pos (by omega), show (0 : Int) + (j9 - 0) = j9 by omega]; exact δ1f a j9 (fun e9 => by have h9 := q1z; rw [← e9, ha] at h9; exact absurd h9 (by decide))⟩, S1f⟩
set_option maxHeartbeats 4000000 in
theorem x_X8_init_2 {l : Launch} {E : gE} {X : State → Prop} {Z : Nat → Nat} {Y : Nat → Option Nat} (hE : E.2.1 = clsX) (hX : xOK l E X Z Y) (S : xS) (D : xD) (R : xR) (q pa o : Nat) (n : Int) (hq : S q = (8, 7, o)) (hw : E.2.2 q) (hg : GI E Z (del S q) D R) (hpa : (S pa).1 = 40 ∧ ((S pa).2.1 : Int) = 2 * n) (hok : skOK n (D pa)) (hd : ∀ j, D q j = 0) : xC l E X yX8_init_2 cX8_init_2 6 none 1 4 77 [.ref q, .ref pa] S D R (fun rv S' D' R' => rv = none ∧ (GI E Z S' D' R' ∧ ext (del S q) S' D D' R R' ∧ skR S' D' R' q n (D pa)) ∧ sle S S') := by
  refine xC.of hX.1 (by decide) [some (.ref q), some (.ref pa), none, none, none, none] (Nat.le_of_ble_eq_true rfl) rfl rfl (fun Γ hΓ => ?_)
  have hq2 : (S q).1 = 8 := by rw [hq]
  have hn1 := hok.1
  have hn2 := hok.2.1
  have hpq : pa ≠ q := ne_k hpa.1 hq2 (by decide)
  refine g_aload_n hΓ rfl dX8_init_2_0 ?_
  refine g_objInit hΓ rfl q797 q154 q155 (by decide) (Nat.le_of_ble_eq_true rfl) rfl dX8_init_2_1 ?_
  refine g_aload_n hΓ rfl dX8_init_2_4 ?_
  refine g_bipush hΓ (by decide) dX8_init_2_5 ?_
  refine x_newi hΓ (xn_new hX) 42 q ⟨by decide, rfl⟩ q189 (by omega) (by omega) (by omega) dX8_init_2_7 (fun q1 S1 δ1 ρ1 q1z q1w S1e δ1e ρ1e => ?_)
  have S1f : ∀ q9 : Nat, (S q9).1 ≠ 0 → S1 q9 = S q9 := fun q9 h9 => by rw [S1e]; exact uS_n (fun e9 => h9 (by rw [e9]; exact q1z))
  have S1q : S1 q1 = (42, 34, q) := by rw [S1e]; exact uS_s _ _ _ _ _
  have δ1z : ∀ j9 : Int, δ1 q1 j9 = 0 := fun j9 => by rw [δ1e, uN_s]
  have δ1f : ∀ (q9 : Nat) (j9 : Int), q9 ≠ q1 → δ1 q9 j9 = D q9 j9 := fun q9 j9 h9 => by rw [δ1e, uN_n h9]
  have ρ1z : ∀ j9 : Int, ρ1 q1 j9 = none := fun j9 => by rw [ρ1e, uN_s]
  have ρ1f : ∀ (q9 : Nat) (j9 : Int), q9 ≠ q1 → ρ1 q9 j9 = R q9 j9 := fun q9 j9 h9 => by rw [ρ1e, uN_n h9]
  have kd2 : (S1 q).1 = 8 := kup hq2 (by decide) S1f
  have kd3 : (S1 pa).1 = 40 := kup hpa.1 (by decide) S1f
  have ln3 : (S1 pa).2.1 = (S pa).2.1 := nup hpa.1 (by decide) rfl S1f
  have kdq1 : (S1 q1).1 = 42 := by rw [S1q]
  have lnq1 : (S1 q1).2.1 = 34 := by rw [S1q]
  refine x_putFa (c := 8) hE hΓ in_X8 rfl kd2 ⟨by decide, rfl⟩ tyX8 tyX8_ok nmX8 hw 4 (ji := 4) rfl (by decide) (by decide) rfl q808 rfl rfl rfl rfl rfl rfl (some q1) rfl (by first | rfl | (rcases va_rf_or none with h9 | ⟨q9, h9⟩ <;> rw [h9] <;> rfl)) (by first | rfl | (rcases va_rf_or none with h9 | ⟨q9, h9⟩ <;> rw [h9] <;> rfl)) dX8_init_2_9 (fun ρ4 ρ4e => ?_)
  have ρ4r : ρ4 q 4 = some q1 := by rw [ρ4e]; exact ur_s _ _ _ _
  have ρ4f : ∀ (q9 : Nat) (j9 : Int), (q9 ≠ q ∨ j9 ≠ 4) → ρ4 q9 j9 = ρ1 q9 j9 := fun q9 j9 hh => by rw [ρ4e]; exact ur_n hh
  refine g_aload_n hΓ rfl dX8_init_2_12 ?_
  refine g_bipush hΓ (by decide) dX8_init_2_13 ?_
  refine x_newi hΓ (xn_new hX) 43 q ⟨by decide, rfl⟩ q189 (by omega) (by omega) (by omega) dX8_init_2_15 (fun q5 S5 δ5 ρ5 q5z q5w S5e δ5e ρ5e => ?_)
  have S5f : ∀ q9 : Nat, (S1 q9).1 ≠ 0 → S5 q9 = S1 q9 := fun q9 h9 => by rw [S5e]; exact uS_n (fun e9 => h9 (by rw [e9]; exact q5z))
  have S5q : S5 q5 = (43, 16, q) := by rw [S5e]; exact uS_s _ _ _ _ _
  have δ5z : ∀ j9 : Int, δ5 q5 j9 = 0 := fun j9 => by rw [δ5e, uN_s]
  have δ5f : ∀ (q9 : Nat) (j9 : Int), q9 ≠ q5 → δ5 q9 j9 = δ1 q9 j9 := fun q9 j9 h9 => by rw [δ5e, uN_n h9]
  have ρ5z : ∀ j9 : Int, ρ5 q5 j9 = none := fun j9 => by rw [ρ5e, uN_s]
  have ρ5f : ∀ (q9 : Nat) (j9 : Int), q9 ≠ q5 → ρ5 q9 j9 = ρ4 q9 j9 := fun q9 j9 h9 => by rw [ρ5e, uN_n h9]
  have kd6 : (S5 q).1 = 8 := kup kd2 (by decide) S5f
  have kd7 : (S5 pa).1 = 40 := kup kd3 (by decide) S5f
  have ln7 : (S5 pa).2.1 = (S pa).2.1 := nup kd3 (by decide) ln3 S5f
  have kd8 : (S5 q1).1 = 42 := kup kdq1 (by decide) S5f
  have ln8 : (S5 q1).2.1 = 34 := nup kdq1 (by decide) lnq1 S5f
  have kdq5 : (S5 q5).1 = 43 := by rw [S5q]
  have lnq5 : (S5 q5).2.1 = 16 := by rw [S5q]
  refine x_putFa (c := 8) hE hΓ in_X8 rfl kd6 ⟨by decide, rfl⟩ tyX8 tyX8_ok nmX8 hw 5 (ji := 5) rfl (by decide) (by decide) rfl q810 rfl rfl rfl rfl rfl rfl (some q5) rfl (by first | rfl | (rcases va_rf_or none with h9 | ⟨q9, h9⟩ <;> rw [h9] <;> rfl)) (by first | rfl | (rcases va_rf_or none with h9 | ⟨q9, h9⟩ <;> rw [h9] <;> rfl)) dX8_init_2_17 (fun ρ9 ρ9e => ?_)
  have ρ9r : ρ9 q 5 = some q5 := by rw [ρ9e]; exact ur_s _ _ _ _
  have ρ9f : ∀ (q9 : Nat) (j9 : Int), (q9 ≠ q ∨ j9 ≠ 5) → ρ9 q9 j9 = ρ5 q9 j9 := fun q9 j9 hh => by rw [ρ9e]; exact ur_n hh
  refine g_aload_n hΓ rfl dX8_init_2_20 ?_
  refine g_bipush hΓ (by decide) dX8_init_2_21 ?_
  refine x_newi hΓ (xn_new hX) 44 q ⟨by decide, rfl⟩ q189 (by omega) (by omega) (by omega) dX8_init_2_23 (fun q10 S10 δ10 ρ10 q10z q10w S10e δ10e ρ10e => ?_)
  have S10f : ∀ q9 : Nat, (S5 q9).1 ≠ 0 → S10 q9 = S5 q9 := fun q9 h9 => by rw [S10e]; exact uS_n (fun e9 => h9 (by rw [e9]; exact q10z))
  have S10q : S10 q10 = (44, 16, q) := by rw [S10e]; exact uS_s _ _ _ _ _
  have δ10z : ∀ j9 : Int, δ10 q10 j9 = 0 := fun j9 => by rw [δ10e, uN_s]
  have δ10f : ∀ (q9 : Nat) (j9 : Int), q9 ≠ q10 → δ10 q9 j9 = δ5 q9 j9 := fun q9 j9 h9 => by rw [δ10e, uN_n h9]
  have ρ10z : ∀ j9 : Int, ρ10 q10 j9 = none := fun j9 => by rw [ρ10e, uN_s]
  have ρ10f : ∀ (q9 : Nat) (j9 : Int), q9 ≠ q10 → ρ10 q9 j9 = ρ9 q9 j9 := fun q9 j9 h9 => by rw [ρ10e, uN_n h9]
  have kd11 : (S10 q).1 = 8 := kup kd6 (by decide) S10f
  have kd12 : (S10 pa).1 = 40 := kup kd7 (by decide) S10f
  have ln12 : (S10 pa).2.1 = (S pa).2.1 := nup kd7 (by decide) ln7 S10f
  have kd13 : (S10 q1).1 = 42 := kup kd8 (by decide) S10f
  have ln13 : (S10 q1).2.1 = 34 := nup kd8 (by decide) ln8 S10f
  have kd14 : (S10 q5).1 = 43 := kup kdq5 (by decide) S10f
  have ln14 : (S10 q5).2.1 = 16 := nup kdq5 (by decide) lnq5 S10f
  have kdq10 : (S10 q10).1 = 44 := by rw [S10q]
  have lnq10 : (S10 q10).2.1 = 16 := by rw [S10q]
  refine x_putFa (c := 8) hE hΓ in_X8 rfl kd11 ⟨by decide, rfl⟩ tyX8 tyX8_ok nmX8 hw 6 (ji := 6) rfl (by decide) (by decide) rfl q812 rfl rfl rfl rfl rfl rfl (some q10) rfl (by first | rfl | (rcases va_rf_or none with h9 | ⟨q9, h9⟩ <;> rw [h9] <;> rfl)) (by first | rfl | (rcases va_rf_or none with h9 | ⟨q9, h9⟩ <;> rw [h9] <;> rfl)) dX8_init_2_25 (fun ρ15 ρ15e => ?_)
  have ρ15r : ρ15 q 6 = some q10 := by rw [ρ15e]; exact ur_s _ _ _ _
  have ρ15f : ∀ (q9 : Nat) (j9 : Int), (q9 ≠ q ∨ j9 ≠ 6) → ρ15 q9 j9 = ρ10 q9 j9 := fun q9 j9 hh => by rw [ρ15e]; exact ur_n hh
  refine g_aload_n hΓ rfl dX8_init_2_28 ?_
  refine g_aload_n hΓ rfl dX8_init_2_29 ?_
  refine x_putFa (c := 8) hE hΓ in_X8 rfl kd11 ⟨by decide, rfl⟩ tyX8 tyX8_ok nmX8 hw 0 (ji := 0) rfl (by decide) (by decide) rfl q802 rfl rfl rfl rfl rfl rfl (some pa) rfl (by first | rfl | (rcases va_rf_or none with h9 | ⟨q9, h9⟩ <;> rw [h9] <;> rfl)) (by first | rfl | (rcases va_rf_or none with h9 | ⟨q9, h9⟩ <;> rw [h9] <;> rfl)) dX8_init_2_30 (fun ρ16 ρ16e => ?_)
  have ρ16r : ρ16 q 0 = some pa := by rw [ρ16e]; exact ur_s _ _ _ _
  have ρ16f : ∀ (q9 : Nat) (j9 : Int), (q9 ≠ q ∨ j9 ≠ 0) → ρ16 q9 j9 = ρ15 q9 j9 := fun q9 j9 hh => by rw [ρ16e]; exact ur_n hh
  refine g_aload_n hΓ rfl dX8_init_2_33 ?_
  refine g_aload_n hΓ rfl dX8_init_2_34 ?_
  refine x_alen hΓ kd12 ln12 ⟨by decide, by decide⟩ dX8_init_2_35 ?_
  refine g_topi (show (((S pa).2.1 : Nat) : Int) = (2 * n) by omega) ?_
  refine g_iconst hΓ dX8_init_2_36 ?_
  refine g_idivN hΓ (by omega) (by omega) (by omega) dX8_init_2_37 ?_
  refine g_iconst hΓ dX8_init_2_38 ?_
  refine g_isub hΓ dX8_init_2_39 ?_
  refine x_newi hΓ (xn_new hX) 41 0 ⟨by decide, rfl⟩ q189 (by omega) (by omega) (by omega) dX8_init_2_40 (fun q17 S17 δ17 ρ17 q17z q17w S17e δ17e ρ17e => ?_)
  have S17f : ∀ q9 : Nat, (S10 q9).1 ≠ 0 → S17 q9 = S10 q9 := fun q9 h9 => by rw [S17e]; exact uS_n (fun e9 => h9 (by rw [e9]; exact q17z))
  have S17q : S17 q17 = (41, (((2 * n) / 2) - 1).toNat, 0) := by rw [S17e]; exact uS_s _ _ _ _ _
  have δ17z : ∀ j9 : Int, δ17 q17 j9 = 0 := fun j9 => by rw [δ17e, uN_s]
  have δ17f : ∀ (q9 : Nat) (j9 : Int), q9 ≠ q17 → δ17 q9 j9 = δ10 q9 j9 := fun q9 j9 h9 => by rw [δ17e, uN_n h9]
  have ρ17z : ∀ j9 : Int, ρ17 q17 j9 = none := fun j9 => by rw [ρ17e, uN_s]
  have ρ17f : ∀ (q9 : Nat) (j9 : Int), q9 ≠ q17 → ρ17 q9 j9 = ρ16 q9 j9 := fun q9 j9 h9 => by rw [ρ17e, uN_n h9]
  have kd18 : (S17 q).1 = 8 := kup kd11 (by decide) S17f
  have kd19 : (S17 pa).1 = 40 := kup kd12 (by decide) S17f
  have ln19 : (S17 pa).2.1 = (S pa).2.1 := nup kd12 (by decide) ln12 S17f
  have kd20 : (S17 q1).1 = 42 := kup kd13 (by decide) S17f
  have ln20 : (S17 q1).2.1 = 34 := nup kd13 (by decide) ln13 S17f
  have kd21 : (S17 q5).1 = 43 := kup kd14 (by decide) S17f
  have ln21 : (S17 q5).2.1 = 16 := nup kd14 (by decide) ln14 S17f
  have kd22 : (S17 q10).1 = 44 := kup kdq10 (by decide) S17f
  have ln22 : (S17 q10).2.1 = 16 := nup kdq10 (by decide) lnq10 S17f
  have kdq17 : (S17 q17).1 = 41 := by rw [S17q]
  have lnq17 : (S17 q17).2.1 = (((2 * n) / 2) - 1).toNat := by rw [S17q]
  refine x_putFa (c := 8) hE hΓ in_X8 rfl kd18 ⟨by decide, rfl⟩ tyX8 tyX8_ok nmX8 hw 1 (ji := 1) rfl (by decide) (by decide) rfl q804 rfl rfl rfl rfl rfl rfl (some q17) rfl (by first | rfl | (rcases va_rf_or none with h9 | ⟨q9, h9⟩ <;> rw [h9] <;> rfl)) (by first | rfl | (rcases va_rf_or none with h9 | ⟨q9, h9⟩ <;> rw [h9] <;> rfl)) dX8_init_2_42 (fun ρ23 ρ23e => ?_)
  have ρ23r : ρ23 q 1 = some q17 := by rw [ρ23e]; exact ur_s _ _ _ _
  have ρ23f : ∀ (q9 : Nat) (j9 : Int), (q9 ≠ q ∨ j9 ≠ 1) → ρ23 q9 j9 = ρ17 q9 j9 := fun q9 j9 hh => by rw [ρ23e]; exact ur_n hh
  refine g_iconst hΓ dX8_init_2_45 ?_
  refine g_istore_n hΓ dX8_init_2_46 rfl (Nat.le_of_ble_eq_true rfl) (lv' := [some (.ref q), some (.ref pa), some (.int (iI 0)), none, none, none]) rfl ?_
  refine g_iconst hΓ dX8_init_2_47 ?_
  have hpa0 : ∀ j9 : Int, δ17 pa j9 = D pa j9 := fun j9 => ((((δ17f pa j9 (ne_k kd12 q17z (by decide))).trans (δ10f pa j9 (ne_k kd7 q10z (by decide)))).trans (δ5f pa j9 (ne_k kd3 q5z (by decide)))).trans (δ1f pa j9 (ne_k hpa.1 q1z (by decide))))
  have hppi : pa ≠ q17 := ne_k kd19 kdq17 (by decide)
  have loop : ∀ (fu : Nat) (t : xD) (u : Int) (k : Int), (n - k).toNat < fu → (0 ≤ k ∧ k ≤ n - 1) → (∀ (p : Nat) (j : Int), p ≠ q17 → t p j = δ17 p j) → (∀ k', 0 ≤ k' → k' < k → t q17 k' = pcs (D pa) k') → (u = lenF (D pa) k.toNat) → gW Γ E (xM E S17 t ρ23) (0 + 1 + 1 + 1 + 1) (0 + 34 + 16 + 16 + (((2 * n) / 2) - 1).toNat) 49 [some (.ref q), some (.ref pa), some (.int (iI u)), some (.int (iI k)), none, none] [] := by
    intro fu
    induction fu with
    | zero => intro t u k hn; exact absurd hn (Nat.not_lt_zero _)
    | succ fu ih_loop =>
      intro t u k hn hk ht hp hs
      have hlr := lenF_r hok k.toNat (by omega)
      refine g_iload_n hΓ rfl dX8_init_2_49 ?_
      refine g_aload_n hΓ rfl dX8_init_2_50 ?_
      refine x_geta (r := some q17) (c := 8) hE hΓ in_X8 rfl kd18 ⟨by decide, rfl⟩ 1 (ji := 1) rfl (by decide) (by decide) rfl q804 rfl rfl ρ23r dX8_init_2_51 ?_
      show gW Γ E (xM E S17 t ρ23) (0 + 1 + 1 + 1 + 1) (0 + 34 + 16 + 16 + (((2 * n) / 2) - 1).toNat) _ _ (.ref q17 :: _)
      refine x_alen hΓ kdq17 lnq17 ⟨by decide, by decide⟩ dX8_init_2_54 ?_
      refine g_topi (show (((((2 * n) / 2) - 1).toNat : Nat) : Int) = (n - 1) by omega) ?_
      refine g_icmp_ge (tgt := 129) hΓ (by omega) (by omega) dX8_init_2_55 (by decide) (fun c24 => ?_) (fun c24 => ?_)
      · refine g_aload_n hΓ rfl dX8_init_2_129 ?_
        refine g_iload_n hΓ rfl dX8_init_2_130 ?_
        refine x_putFi (c := 8) hE hΓ in_X8 rfl kd18 ⟨by decide, rfl⟩ tyX8 tyX8_ok nmX8 hw 2 (ji := 2) rfl (by decide) (by decide) rfl q805 rfl rfl rfl rfl rfl rfl rfl rfl dX8_init_2_131 (fun τ25 τ25e => ?_)
        have τ25r : τ25 q 2 = u := by rw [τ25e]; exact us_s _ _ _ _
        have τ25f : ∀ (q9 : Nat) (j9 : Int), (q9 ≠ q ∨ j9 ≠ 2) → τ25 q9 j9 = t q9 j9 := fun q9 j9 hh => by rw [τ25e]; exact us_n hh
        have z1 : (S q1).1 = 0 := q1z
        have z2 : (S q5).1 = 0 := sle_z (S1 := S1) S1f q5z
        have z3 : (S q10).1 = 0 := sle_z (S1 := S5) (sle_t S1f S5f) q10z
        have z4 : (S q17).1 = 0 := sle_z (S1 := S10) (sle_t (sle_t S1f S5f) S10f) q17z
        have hsl : sle S S17 := (sle_t (sle_t (sle_t S1f S5f) S10f) S17f)
        have hkn : k = n - 1 := by omega
        have sh0 : S17 q1 = (42, 34, q) := by
          have h9 := S1q
          rw [← S5f q1 (by rw [h9]; exact (by decide : (42 : Nat) ≠ 0))] at h9
          rw [← S10f q1 (by rw [h9]; exact (by decide : (42 : Nat) ≠ 0))] at h9
          rw [← S17f q1 (by rw [h9]; exact (by decide : (42 : Nat) ≠ 0))] at h9
          exact h9
        have sh1 : S17 q5 = (43, 16, q) := by
          have h9 := S5q
          rw [← S10f q5 (by rw [h9]; exact (by decide : (43 : Nat) ≠ 0))] at h9
          rw [← S17f q5 (by rw [h9]; exact (by decide : (43 : Nat) ≠ 0))] at h9
          exact h9
        have sh2 : S17 q10 = (44, 16, q) := by
          have h9 := S10q
          rw [← S17f q10 (by rw [h9]; exact (by decide : (44 : Nat) ≠ 0))] at h9
          exact h9
        have hdpa : (del S q pa).1 = 40 ∧ ((del S q pa).2.1 : Int) = 2 * n := by rw [del_n hpq]; exact hpa
        have hqpi : q ≠ q17 := ne_k kd18 kdq17 (by decide)
        have d3 : τ25 q 3 = 0 := (τ25f q 3 (Or.inr (by decide))).trans ((ht q 3 hqpi).trans ((((((δ17f q 3 (ne_k kd11 q17z (by decide))).trans (δ10f q 3 (ne_k kd6 q10z (by decide)))).trans (δ5f q 3 (ne_k kd2 q5z (by decide)))).trans (δ1f q 3 (ne_k hq2 q1z (by decide))))).trans (hd 3)))
        exact x_vret hΓ dX8_init_2_134 (by omega) (by omega) ⟨rfl, (sk_mk hg hdpa hok (by rw [del_s]) (del_z z4) (del_z z1) (del_z z2) (del_z z3) ⟨hw, q17w, q1w, q5w, q10w⟩ (del_sle hsl) (fun p9 h9 n0 n1 n2 n3 n4 => by rw [S17e, uS_n n1, S10e, uS_n n4, S5e, uS_n n3, S1e, uS_n n2]; rw [del_n n0] at h9; exact h9) (by rw [hsl q (by rw [hq2]; decide)]; exact hq2) ⟨kdq17, by rw [lnq17]; omega⟩ sh0 sh1 sh2 (fun p9 h9 => funext fun j9 => ((τ25f p9 j9 (Or.inl (del_old h9).1)).trans ((ht p9 j9 (fun e9 => (del_old h9).2 (by rw [e9]; exact z4))).trans ((δ17f p9 j9 (fun e9 => (del_old h9).2 (by rw [e9]; exact z4))).trans ((δ10f p9 j9 (fun e9 => (del_old h9).2 (by rw [e9]; exact z3))).trans ((δ5f p9 j9 (fun e9 => (del_old h9).2 (by rw [e9]; exact z2))).trans (δ1f p9 j9 (fun e9 => (del_old h9).2 (by rw [e9]; exact z1))))))))) (fun p9 h9 => funext fun j9 => ((ρ23f p9 j9 (Or.inl (del_old h9).1)).trans ((ρ17f p9 j9 (fun e9 => (del_old h9).2 (by rw [e9]; exact z4))).trans ((ρ16f p9 j9 (Or.inl (del_old h9).1)).trans ((ρ15f p9 j9 (Or.inl (del_old h9).1)).trans ((ρ10f p9 j9 (fun e9 => (del_old h9).2 (by rw [e9]; exact z3))).trans ((ρ9f p9 j9 (Or.inl (del_old h9).1)).trans ((ρ5f p9 j9 (fun e9 => (del_old h9).2 (by rw [e9]; exact z2))).trans ((ρ4f p9 j9 (Or.inl (del_old h9).1)).trans (ρ1f p9 j9 (fun e9 => (del_old h9).2 (by rw [e9]; exact z1)))))))))))) ((((ρ23f q 0 (Or.inr (by decide))).trans (ρ17f q 0 (ne_k kd11 q17z (by decide)))).trans ρ16r)) (ρ23r) (((((((((ρ23f q 4 (Or.inr (by decide))).trans (ρ17f q 4 (ne_k kd11 q17z (by decide)))).trans (ρ16f q 4 (Or.inr (by decide)))).trans (ρ15f q 4 (Or.inr (by decide)))).trans (ρ10f q 4 (ne_k kd6 q10z (by decide)))).trans (ρ9f q 4 (Or.inr (by decide)))).trans (ρ5f q 4 (ne_k kd2 q5z (by decide)))).trans ρ4r)) (((((((ρ23f q 5 (Or.inr (by decide))).trans (ρ17f q 5 (ne_k kd11 q17z (by decide)))).trans (ρ16f q 5 (Or.inr (by decide)))).trans (ρ15f q 5 (Or.inr (by decide)))).trans (ρ10f q 5 (ne_k kd6 q10z (by decide)))).trans ρ9r)) (((((ρ23f q 6 (Or.inr (by decide))).trans (ρ17f q 6 (ne_k kd11 q17z (by decide)))).trans (ρ16f q 6 (Or.inr (by decide)))).trans ρ15r)) d3 (τ25r.trans (by rw [hs, lnS, hkn])) (fun k9 x9 y9 => (τ25f _ _ (Or.inl (Ne.symm hqpi))).trans (hp k9 x9 (by omega)))), (sle_t (sle_t (sle_t S1f S5f) S10f) S17f)⟩
      · refine g_aload_n hΓ rfl dX8_init_2_58 ?_
        refine g_iconst hΓ dX8_init_2_59 ?_
        refine g_iload_n hΓ rfl dX8_init_2_60 ?_
        refine g_imul hΓ dX8_init_2_61 ?_
        refine g_iconst hΓ dX8_init_2_62 ?_
        refine g_iadd hΓ dX8_init_2_63 ?_
        refine x_iald hΓ kd19 ln19 ⟨by decide, rfl⟩ (by omega) (by omega) dX8_init_2_64 ?_
        refine g_topi ((show t pa ((2 * k) + 2) = D pa (2 * (k + 1) + 0) from (ht _ _ hppi).trans ((hpa0 _).trans (congrArg (D pa) (show ((2 * k) + 2 : Int) = 2 * (k + 1) + 0 by omega))))) ?_
        refine g_aload_n hΓ rfl dX8_init_2_65 ?_
        refine g_iconst hΓ dX8_init_2_66 ?_
        refine g_iload_n hΓ rfl dX8_init_2_67 ?_
        refine g_imul hΓ dX8_init_2_68 ?_
        refine x_iald hΓ kd19 ln19 ⟨by decide, rfl⟩ (by omega) (by omega) dX8_init_2_69 ?_
        refine g_topi ((show t pa (2 * k) = D pa (2 * k + 0) from (ht _ _ hppi).trans ((hpa0 _).trans (congrArg (D pa) (show (2 * k : Int) = 2 * k + 0 by omega))))) ?_
        refine g_isub hΓ dX8_init_2_70 ?_
        obtain ⟨x26, ex26⟩ : ∃ z9 : Int, z9 = (D pa (2 * (k + 1) + 0)) - (D pa (2 * k + 0)) := ⟨_, rfl⟩
        refine g_topi ex26.symm ?_
        refine g_istore hΓ dX8_init_2_71 rfl (Nat.le_of_ble_eq_true rfl) (lv' := [some (.ref q), some (.ref pa), some (.int (iI u)), some (.int (iI k)), some (.int (iI x26)), none]) rfl ?_
        refine g_aload_n hΓ rfl dX8_init_2_73 ?_
        refine g_iconst hΓ dX8_init_2_74 ?_
        refine g_iload_n hΓ rfl dX8_init_2_75 ?_
        refine g_imul hΓ dX8_init_2_76 ?_
        refine g_iconst hΓ dX8_init_2_77 ?_
        refine g_iadd hΓ dX8_init_2_78 ?_
        refine x_iald hΓ kd19 ln19 ⟨by decide, rfl⟩ (by omega) (by omega) dX8_init_2_79 ?_
        refine g_topi ((show t pa ((2 * k) + 3) = D pa (2 * (k + 1) + 1) from (ht _ _ hppi).trans ((hpa0 _).trans (congrArg (D pa) (show ((2 * k) + 3 : Int) = 2 * (k + 1) + 1 by omega))))) ?_
        refine g_aload_n hΓ rfl dX8_init_2_80 ?_
        refine g_iconst hΓ dX8_init_2_81 ?_
        refine g_iload_n hΓ rfl dX8_init_2_82 ?_
        refine g_imul hΓ dX8_init_2_83 ?_
        refine g_iconst hΓ dX8_init_2_84 ?_
        refine g_iadd hΓ dX8_init_2_85 ?_
        refine x_iald hΓ kd19 ln19 ⟨by decide, rfl⟩ (by omega) (by omega) dX8_init_2_86 ?_
        refine g_topi ((show t pa ((2 * k) + 1) = D pa (2 * k + 1) from (ht _ _ hppi).trans ((hpa0 _).trans (congrArg (D pa) (show ((2 * k) + 1 : Int) = 2 * k + 1 by omega))))) ?_
        refine g_isub hΓ dX8_init_2_87 ?_
        obtain ⟨x27, ex27⟩ : ∃ z9 : Int, z9 = (D pa (2 * (k + 1) + 1)) - (D pa (2 * k + 1)) := ⟨_, rfl⟩
        refine g_topi ex27.symm ?_
        refine g_istore hΓ dX8_init_2_88 rfl (Nat.le_of_ble_eq_true rfl) (lv' := [some (.ref q), some (.ref pa), some (.int (iI u)), some (.int (iI k)), some (.int (iI x26)), some (.int (iI x27))]) rfl ?_
        refine g_aload_n hΓ rfl dX8_init_2_90 ?_
        refine x_geta (r := some q17) (c := 8) hE hΓ in_X8 rfl kd18 ⟨by decide, rfl⟩ 1 (ji := 1) rfl (by decide) (by decide) rfl q804 rfl rfl ρ23r dX8_init_2_91 ?_
        show gW Γ E (xM E S17 t ρ23) (0 + 1 + 1 + 1 + 1) (0 + 34 + 16 + 16 + (((2 * n) / 2) - 1).toNat) _ _ (.ref q17 :: _)
        refine g_iload_n hΓ rfl dX8_init_2_94 ?_
        refine g_sipush hΓ (by decide) dX8_init_2_95 ?_
        refine g_iload hΓ rfl dX8_init_2_98 ?_
        refine g_iload hΓ rfl dX8_init_2_100 ?_
        refine g_imul hΓ dX8_init_2_102 ?_
        refine g_iload hΓ rfl dX8_init_2_103 ?_
        refine g_iload hΓ rfl dX8_init_2_105 ?_
        refine g_imul hΓ dX8_init_2_107 ?_
        refine g_iadd hΓ dX8_init_2_108 ?_
        refine g_imul hΓ dX8_init_2_109 ?_
        have harg := pcs_arg hok (k := k) (by omega) (by omega)
        rw [← ex26, ← ex27] at harg
        refine x_callSN (As := [.int (iI (10000 * ((x26 * x26) + (x27 * x27))))]) (rest := [.int (iI k), .ref q17]) hΓ (x_X0_root hE hX S17 t ρ23 (10000 * ((x26 * x26) + (x27 * x27))) (by first | assumption | omega)) rfl (xn_798 hX) q799 q123 q800 ndX0_root rfl (by decide) (by decide) (by omega) (by omega) rfl (Nat.le_of_ble_eq_true rfl) dX8_init_2_110 rfl (fun v28 S28 τ28 ρ28 h28 => ?_)
        obtain ⟨rfl, S28e, τ28e, ρ28e⟩ := h28
        have S28e := S28e.symm; subst S28e
        have τ28e := τ28e.symm; subst τ28e
        have ρ28e := ρ28e.symm; subst ρ28e
        show gW Γ E (xM E S17 t ρ23) _ _ _ _ (.int (iI (isq (10000 * ((x26 * x26) + (x27 * x27))))) :: _)
        refine x_iast hΓ kdq17 lnq17 ⟨by decide, rfl⟩ q17w (by omega) (by omega) dX8_init_2_113 (fun τ29 τ29e => ?_)
        have τ29r : τ29 q17 k = isq (10000 * ((x26 * x26) + (x27 * x27))) := by rw [τ29e]; exact us_s _ _ _ _
        have τ29f : ∀ (q9 : Nat) (j9 : Int), (q9 ≠ q17 ∨ j9 ≠ k) → τ29 q9 j9 = t q9 j9 := fun q9 j9 hh => by rw [τ29e]; exact us_n hh
        refine g_iload_n hΓ rfl dX8_init_2_114 ?_
        refine g_aload_n hΓ rfl dX8_init_2_115 ?_
        refine x_geta (r := some q17) (c := 8) hE hΓ in_X8 rfl kd18 ⟨by decide, rfl⟩ 1 (ji := 1) rfl (by decide) (by decide) rfl q804 rfl rfl ρ23r dX8_init_2_116 ?_
        show gW Γ E (xM E S17 τ29 ρ23) (0 + 1 + 1 + 1 + 1 + 0) (0 + 34 + 16 + 16 + (((2 * n) / 2) - 1).toNat + 0) _ _ (.ref q17 :: _)
        refine g_iload_n hΓ rfl dX8_init_2_119 ?_
        refine x_iald hΓ kdq17 lnq17 ⟨by decide, rfl⟩ (by omega) (by omega) dX8_init_2_120 ?_
        refine g_topi (τ29r) ?_
        refine g_iadd hΓ dX8_init_2_121 ?_
        obtain ⟨x30, ex30⟩ : ∃ z9 : Int, z9 = u + (isq (10000 * ((x26 * x26) + (x27 * x27)))) := ⟨_, rfl⟩
        refine g_topi ex30.symm ?_
        refine g_istore_n hΓ dX8_init_2_122 rfl (Nat.le_of_ble_eq_true rfl) (lv' := [some (.ref q), some (.ref pa), some (.int (iI x30)), some (.int (iI k)), some (.int (iI x26)), some (.int (iI x27))]) rfl ?_
        obtain ⟨x31, ex31⟩ : ∃ z9 : Int, z9 = k + 1 := ⟨_, rfl⟩
        refine g_iinc hΓ dX8_init_2_123 rfl rfl (lv' := [some (.ref q), some (.ref pa), some (.int (iI x30)), some (.int (iI x31)), some (.int (iI x26)), some (.int (iI x27))]) (by rw [ex31]; rfl) ?_
        refine g_goto (tgt := 49) hΓ dX8_init_2_126 (by decide) ?_
        have hpk : τ29 q17 k = pcs (D pa) k := τ29r.trans (by rw [pcs, ex26, ex27])
        refine g_lvw (lv' := [some (.ref q), some (.ref pa), some (.int (iI x30)), some (.int (iI x31)), none, none]) ⟨rfl, ⟨rfl, ⟨rfl, ⟨rfl, trivial⟩⟩⟩⟩ ?_
        exact ih_loop τ29 x30 x31 (by omega) (by omega) (fun p9 j9 h9 => (τ29f p9 j9 (Or.inl h9)).trans (ht p9 j9 h9)) (fun k9 x9 y9 => by
          by_cases c9 : k9 = k
          · rw [c9]; exact hpk
          · exact (τ29f _ _ (Or.inr c9)).trans (hp k9 x9 (by omega))) (by rw [show x31.toNat = k.toNat + 1 by omega, lenF, ← hs, show ((k.toNat : Nat) : Int) = k by omega, ← hpk, τ29r]; exact ex30)
  refine g_istore_n hΓ dX8_init_2_48 rfl (Nat.le_of_ble_eq_true rfl) (lv' := [some (.ref q), some (.ref pa), some (.int (iI 0)), some (.int (iI 0)), none, none]) rfl ?_
  exact loop 13 δ17 0 0 (by omega) (by omega) (fun _ _ _ => rfl) (fun k9 x9 y9 => absurd x9 (by omega)) rfl
set_option maxHeartbeats 4000000 in
theorem x_X8_init {l : Launch} {E : gE} {X : State → Prop} {Z : Nat → Nat} {Y : Nat → Option Nat} (hE : E.2.1 = clsX) (hX : xOK l E X Z Y) (S : xS) (D : xD) (R : xR) (q a o : Nat) (n : Int) (hq : S q = (8, 7, o)) (hw : E.2.2 q) (hg : GI E Z (del S q) D R) (ha : (S a).1 = 53) (hna : (S a).2.1 = 24) (hA : E.2.2 a) (hn : 4 ≤ n ∧ n ≤ 24 ∧ n % 2 = 0) (hv : ∀ j, 0 ≤ j → j < n → 0 ≤ D a j ∧ D a j ≤ 99) (hd : ∀ j, D q j = 0) : xC l E X yX8_init cX8_init 3 none 2 5 101 [.ref q, .ref a, .int (iI n)] S D R (fun rv S' D' R' => rv = none ∧ (GI E Z S' D' R' ∧ ext (del S q) S' D D' R R' ∧ skR S' D' R' q (n / 2) (D a)) ∧ sle S S') := by
  refine xC.of hX.1 (by decide) [some (.ref q), some (.ref a), some (.int (iI n))] (Nat.le_of_ble_eq_true rfl) rfl rfl (fun Γ hΓ => ?_)
  have hq2 : (S q).1 = 8 := by rw [hq]
  refine g_aload_n hΓ rfl dX8_init_0 ?_
  refine g_aload_n hΓ rfl dX8_init_1 ?_
  refine g_iload_n hΓ rfl dX8_init_2 ?_
  refine x_callS (As := [.ref a, .int (iI n)]) (rest := [.ref q]) hΓ (x_X8_cut hE hX S D R a n ha hna hA (by omega) ) rfl q790 q791 q144 q792 ndX8_cut rfl (by decide) (by decide) (by omega) (by omega) rfl (Nat.le_of_ble_eq_true rfl) dX8_init_3 rfl (fun v1 S1 τ1 ρ1 h1 => ?_)
  obtain ⟨q1, rfl, h1, S1f⟩ := h1
  have kd2 : (S1 q).1 = 8 := kup hq2 (by decide) S1f
  have kd3 : (S1 a).1 = 53 := kup ha (by decide) S1f
  have ln3 : (S1 a).2.1 = 24 := nup ha (by decide) hna S1f
  have q1z : (S q1).1 = 0 := h1.1
  have q1w : E.2.2 q1 := h1.2.1
  have S1e : S1 = uS S q1 40 (n.toNat) 0 := h1.2.2.1
  have S1q : S1 q1 = (40, n.toNat, 0) := by rw [S1e]; exact uS_s _ _ _ _ _
  have τ1f : ∀ (q9 : Nat) (j9 : Int), q9 ≠ q1 → τ1 q9 j9 = D q9 j9 := h1.2.2.2.1
  have kdq1 : (S1 q1).1 = 40 := by rw [S1q]
  have lnq1 : (S1 q1).2.1 = n.toNat := by rw [S1q]
  have ρ1f : ∀ (q9 : Nat) (j9 : Int), q9 ≠ q1 → ρ1 q9 j9 = R q9 j9 := h1.2.2.2.2.1
  show gW Γ E (xM E S1 τ1 ρ1) _ _ _ _ (.ref q1 :: _)
  have paq : q1 ≠ q := fun e9 => by have h9 := q1z; rw [e9, hq2] at h9; exact absurd h9 (by decide)
  have hdS : del S1 q = uS (del S q) q1 40 n.toNat 0 := by
    funext p9
    by_cases e9 : p9 = q
    · rw [e9, del_s, uS_n (Ne.symm paq), del_s]
    · rw [del_n e9, S1e]
      by_cases e8 : p9 = q1
      · rw [e8, uS_s, uS_s]
      · rw [uS_n e8, uS_n e8, del_n e9]
  have hg1 := GI_one (S' := del S1 q) (D' := τ1) (R' := ρ1) hg (del_z q1z) q1w hdS τ1f h1.2.2.2.2.1 (by decide)
  have hsz : ((S1 q1).2.1 : Int) = 2 * (n / 2) := by rw [lnq1]; omega
  have hok : skOK (n / 2) (τ1 q1) := ⟨by omega, by omega, fun j9 x9 y9 => by rw [h1.2.2.2.2.2 j9 x9 (by omega)]; exact hv j9 x9 (by omega)⟩
  have hd1 : ∀ j9, τ1 q j9 = 0 := fun j9 => (τ1f q j9 (Ne.symm paq)).trans (hd j9)
  have hq1 : S1 q = (8, 7, o) := (S1f q (by rw [hq2]; decide)).trans hq
  refine x_callI (As := [.ref q1]) (rest := []) hΓ (x_X8_init_2 hE hX S1 τ1 ρ1 q q1 o (n / 2) hq1 hw hg1.1 ⟨kdq1, hsz⟩ hok hd1 ) rfl q794 q795 q144 q796 ndX8_init_2 rfl rfl (by decide) (by decide) (by omega) (by omega) rfl (Nat.le_of_ble_eq_true rfl) dX8_init_6 rfl (fun v4 S4 τ4 ρ4 h4 => ?_)
  obtain ⟨rfl, h4, S4f⟩ := h4
  have kd5 : (S4 q).1 = 8 := kup kd2 (by decide) S4f
  have kd6 : (S4 a).1 = 53 := kup kd3 (by decide) S4f
  have ln6 : (S4 a).2.1 = 24 := nup kd3 (by decide) ln3 S4f
  have kd7 : (S4 q1).1 = 40 := kup kdq1 (by decide) S4f
  have ln7 : (S4 q1).2.1 = n.toNat := nup kdq1 (by decide) lnq1 S4f
  exact x_vret hΓ dX8_init_9 (by omega) (by omega) ⟨rfl, ⟨h4.1, ext_t hg1.2 h4.2.1, h4.2.2.1, h4.2.2.2.1, fun j9 x9 y9 => (h4.2.2.2.2 j9 x9 y9).trans (h1.2.2.2.2.2 j9 x9 (by omega))⟩, (sle_t S1f S4f)⟩
