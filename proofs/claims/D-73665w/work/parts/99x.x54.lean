set_option maxRecDepth 100000
set_option maxHeartbeats 4000000 in
theorem x_J4_init_2 {l : Launch} {E : gE} {X : State → Prop} {Z : Nat → Nat} {Y : Nat → Option Nat} (hE : E.2.1 = clsX) (hX : xOK l E X Z Y) (S : xS) (D : xD) (R : xR) (q : Nat) (hq : (S q).1 = 6) (hw : E.2.2 q) : xC l E X yJ4_init_2 cJ4_init_2 5 none 1 0 0 [.ref q, .null, .null, .int (iI 0), .int (iI 0)] S D R (fun rv S' D' R' => rv = none ∧ (∀ (p : Nat) (j : Int), p ≠ q → R' p j = R p j) ∧ S' = S ∧ D' = D ∧ fr S R R' [6000, 6001, 6002, 6003]) := by
  refine xC.ofF hX.1 (by decide +kernel) [some (.ref q), some (.null), some (.null), some (.int (iI 0)), some (.int (iI 0))] (Nat.le_of_ble_eq_true rfl) rfl rfl (fun Γ hΓ => ?_)
  refine g_aload_n hΓ rfl dJ4_init_2_0 ?_
  refine g_objInit hΓ rfl q482 q154 q155 (by decide) (Nat.le_of_ble_eq_true rfl) rfl dJ4_init_2_1 ?_
  refine g_aload_n hΓ rfl dJ4_init_2_4 ?_
  refine g_aload_n hΓ rfl dJ4_init_2_5 ?_
  refine x_puta (c := 6) hE hΓ in_X6 rfl hq ⟨by decide, rfl⟩ tyX6 tyX6_ok nmX6 hw 0 (ji := 0) rfl (by decide) (by decide) rfl q511 rfl rfl rfl rfl (some q) rfl (by first | rfl | (rcases va_rf_or none with h9 | ⟨q9, h9⟩ <;> rw [h9] <;> rfl)) (by first | rfl | (rcases va_rf_or none with h9 | ⟨q9, h9⟩ <;> rw [h9] <;> rfl)) dJ4_init_2_6 (fun ρ1 ρ1e => ?_)
  have ρ1r : ρ1 q 0 = some q := by rw [ρ1e]; exact ur_s _ _ _ _
  have ρ1f : ∀ (q9 : Nat) (j9 : Int), (q9 ≠ q ∨ j9 ≠ 0) → ρ1 q9 j9 = R q9 j9 := fun q9 j9 hh => by rw [ρ1e]; exact ur_n hh
  refine g_aload_n hΓ rfl dJ4_init_2_9 ?_
  refine g_gets hΓ rfl (xn_s_unas hX) q483 dJ4_init_2_10 ?_
  show gW Γ E (xM E S D ρ1) 0 0 _ _ (va_rf (Y 1) :: _)
  refine x_puta (c := 6) hE hΓ in_X6 rfl hq ⟨by decide, rfl⟩ tyX6 tyX6_ok nmX6 hw 1 (ji := 1) rfl (by decide) (by decide) rfl q512 rfl rfl rfl rfl (Y 1) rfl (by first | rfl | (rcases va_rf_or (Y 1) with h9 | ⟨q9, h9⟩ <;> rw [h9] <;> rfl)) (by first | rfl | (rcases va_rf_or (Y 1) with h9 | ⟨q9, h9⟩ <;> rw [h9] <;> rfl)) dJ4_init_2_13 (fun ρ2 ρ2e => ?_)
  have ρ2r : ρ2 q 1 = (Y 1) := by rw [ρ2e]; exact ur_s _ _ _ _
  have ρ2f : ∀ (q9 : Nat) (j9 : Int), (q9 ≠ q ∨ j9 ≠ 1) → ρ2 q9 j9 = ρ1 q9 j9 := fun q9 j9 hh => by rw [ρ2e]; exact ur_n hh
  refine g_aload_n hΓ rfl dJ4_init_2_16 ?_
  refine g_gets hΓ rfl (xn_s_supp hX) q485 dJ4_init_2_17 ?_
  show gW Γ E (xM E S D ρ2) 0 0 _ _ (va_rf (Y 2) :: _)
  refine x_puta (c := 6) hE hΓ in_X6 rfl hq ⟨by decide, rfl⟩ tyX6 tyX6_ok nmX6 hw 2 (ji := 2) rfl (by decide) (by decide) rfl q513 rfl rfl rfl rfl (Y 2) rfl (by first | rfl | (rcases va_rf_or (Y 2) with h9 | ⟨q9, h9⟩ <;> rw [h9] <;> rfl)) (by first | rfl | (rcases va_rf_or (Y 2) with h9 | ⟨q9, h9⟩ <;> rw [h9] <;> rfl)) dJ4_init_2_20 (fun ρ3 ρ3e => ?_)
  have ρ3r : ρ3 q 2 = (Y 2) := by rw [ρ3e]; exact ur_s _ _ _ _
  have ρ3f : ∀ (q9 : Nat) (j9 : Int), (q9 ≠ q ∨ j9 ≠ 2) → ρ3 q9 j9 = ρ2 q9 j9 := fun q9 j9 hh => by rw [ρ3e]; exact ur_n hh
  refine g_iload hΓ rfl dJ4_init_2_23 ?_
  refine g_if_eq (tgt := 36) hΓ (by omega) dJ4_init_2_25 (by decide) (fun c4 => ?_) (fun c4 => ?_)
  · refine g_aload_n hΓ rfl dJ4_init_2_36 ?_
    refine g_null hΓ dJ4_init_2_37 ?_
    refine x_puta (c := 6) hE hΓ in_X6 rfl hq ⟨by decide, rfl⟩ tyX6 tyX6_ok nmX6 hw 1 (ji := 1) rfl (by decide) (by decide) rfl q512 rfl rfl rfl rfl none rfl (by first | rfl | (rcases va_rf_or none with h9 | ⟨q9, h9⟩ <;> rw [h9] <;> rfl)) (by first | rfl | (rcases va_rf_or none with h9 | ⟨q9, h9⟩ <;> rw [h9] <;> rfl)) dJ4_init_2_38 (fun ρ5 ρ5e => ?_)
    have ρ5r : ρ5 q 1 = none := by rw [ρ5e]; exact ur_s _ _ _ _
    have ρ5f : ∀ (q9 : Nat) (j9 : Int), (q9 ≠ q ∨ j9 ≠ 1) → ρ5 q9 j9 = ρ3 q9 j9 := fun q9 j9 hh => by rw [ρ5e]; exact ur_n hh
    refine g_aload_n hΓ rfl dJ4_init_2_41 ?_
    refine g_aload_nN hΓ rfl dJ4_init_2_42 ?_
    refine x_puta (c := 6) hE hΓ in_X6 rfl hq ⟨by decide, rfl⟩ tyX6 tyX6_ok nmX6 hw 3 (ji := 3) rfl (by decide) (by decide) rfl q510 rfl rfl rfl rfl none rfl (by first | rfl | (rcases va_rf_or none with h9 | ⟨q9, h9⟩ <;> rw [h9] <;> rfl)) (by first | rfl | (rcases va_rf_or none with h9 | ⟨q9, h9⟩ <;> rw [h9] <;> rfl)) dJ4_init_2_43 (fun ρ6 ρ6e => ?_)
    have ρ6r : ρ6 q 3 = none := by rw [ρ6e]; exact ur_s _ _ _ _
    have ρ6f : ∀ (q9 : Nat) (j9 : Int), (q9 ≠ q ∨ j9 ≠ 3) → ρ6 q9 j9 = ρ5 q9 j9 := fun q9 j9 hh => by rw [ρ6e]; exact ur_n hh
    refine g_aload_n hΓ rfl dJ4_init_2_46 ?_
    refine g_aload_nN hΓ rfl dJ4_init_2_47 ?_
    refine x_puta (c := 6) hE hΓ in_X6 rfl hq ⟨by decide, rfl⟩ tyX6 tyX6_ok nmX6 hw 0 (ji := 0) rfl (by decide) (by decide) rfl q511 rfl rfl rfl rfl none rfl (by first | rfl | (rcases va_rf_or none with h9 | ⟨q9, h9⟩ <;> rw [h9] <;> rfl)) (by first | rfl | (rcases va_rf_or none with h9 | ⟨q9, h9⟩ <;> rw [h9] <;> rfl)) dJ4_init_2_48 (fun ρ7 ρ7e => ?_)
    have ρ7r : ρ7 q 0 = none := by rw [ρ7e]; exact ur_s _ _ _ _
    have ρ7f : ∀ (q9 : Nat) (j9 : Int), (q9 ≠ q ∨ j9 ≠ 0) → ρ7 q9 j9 = ρ6 q9 j9 := fun q9 j9 hh => by rw [ρ7e]; exact ur_n hh
    refine g_iload_n hΓ rfl dJ4_init_2_51 ?_
    refine g_if_ne (tgt := 60) hΓ (by omega) dJ4_init_2_52 (by decide) (fun c8 => ?_) (fun c8 => ?_)
    · exact absurd c8 (by decide)
    · refine g_aload_n hΓ rfl dJ4_init_2_55 ?_
      refine g_null hΓ dJ4_init_2_56 ?_
      refine x_puta (c := 6) hE hΓ in_X6 rfl hq ⟨by decide, rfl⟩ tyX6 tyX6_ok nmX6 hw 2 (ji := 2) rfl (by decide) (by decide) rfl q513 rfl rfl rfl rfl none rfl (by first | rfl | (rcases va_rf_or none with h9 | ⟨q9, h9⟩ <;> rw [h9] <;> rfl)) (by first | rfl | (rcases va_rf_or none with h9 | ⟨q9, h9⟩ <;> rw [h9] <;> rfl)) dJ4_init_2_57 (fun ρ9 ρ9e => ?_)
      have ρ9r : ρ9 q 2 = none := by rw [ρ9e]; exact ur_s _ _ _ _
      have ρ9f : ∀ (q9 : Nat) (j9 : Int), (q9 ≠ q ∨ j9 ≠ 2) → ρ9 q9 j9 = ρ7 q9 j9 := fun q9 j9 hh => by rw [ρ9e]; exact ur_n hh
      exact x_vret hΓ dJ4_init_2_60 (Nat.zero_le _) (Nat.zero_le _) ⟨rfl, (fun p9 j9 h9 => ((ρ9f p9 j9 (Or.inl h9)).trans ((ρ7f p9 j9 (Or.inl h9)).trans ((ρ6f p9 j9 (Or.inl h9)).trans ((ρ5f p9 j9 (Or.inl h9)).trans ((ρ3f p9 j9 (Or.inl h9)).trans ((ρ2f p9 j9 (Or.inl h9)).trans (ρ1f p9 j9 (Or.inl h9))))))))), rfl, rfl, (fun q9 j9 hk9 => by exact (((((((ρ9f q9 j9 (by by_cases e9 : q9 = q; exact Or.inr (fun e8 => hk9 (by rw [e9, e8, hq]; decide)); exact Or.inl e9)).trans (ρ7f q9 j9 (by by_cases e9 : q9 = q; exact Or.inr (fun e8 => hk9 (by rw [e9, e8, hq]; decide)); exact Or.inl e9))).trans (ρ6f q9 j9 (by by_cases e9 : q9 = q; exact Or.inr (fun e8 => hk9 (by rw [e9, e8, hq]; decide)); exact Or.inl e9))).trans (ρ5f q9 j9 (by by_cases e9 : q9 = q; exact Or.inr (fun e8 => hk9 (by rw [e9, e8, hq]; decide)); exact Or.inl e9))).trans (ρ3f q9 j9 (by by_cases e9 : q9 = q; exact Or.inr (fun e8 => hk9 (by rw [e9, e8, hq]; decide)); exact Or.inl e9))).trans (ρ2f q9 j9 (by by_cases e9 : q9 = q; exact Or.inr (fun e8 => hk9 (by rw [e9, e8, hq]; decide)); exact Or.inl e9))).trans (ρ1f q9 j9 (by by_cases e9 : q9 = q; exact Or.inr (fun e8 => hk9 (by rw [e9, e8, hq]; decide)); exact Or.inl e9))))⟩
  · exact absurd c4 (by decide)
set_option maxHeartbeats 4000000 in
theorem x_J5_init {l : Launch} {E : gE} {X : State → Prop} {Z : Nat → Nat} {Y : Nat → Option Nat} (hE : E.2.1 = clsX) (hX : xOK l E X Z Y) (S : xS) (D : xD) (R : xR) (q : Nat) (hq : (S q).1 = 6) (hw : E.2.2 q) : xC l E X yJ5_init cJ5_init 5 none 2 0 0 [.ref q, .null, .null, .int (iI 0), .int (iI 0)] S D R (fun rv S' D' R' => rv = none ∧ (∀ (p : Nat) (j : Int), p ≠ q → R' p j = R p j) ∧ S' = S ∧ D' = D ∧ fr S R R' [6000, 6001, 6002, 6003]) := by
  refine xC.ofF hX.1 (by decide +kernel) [some (.ref q), some (.null), some (.null), some (.int (iI 0)), some (.int (iI 0))] (Nat.le_of_ble_eq_true rfl) rfl rfl (fun Γ hΓ => ?_)
  refine g_aload_n hΓ rfl dJ5_init_0 ?_
  refine g_aload_nN hΓ rfl dJ5_init_1 ?_
  refine g_aload_nN hΓ rfl dJ5_init_2 ?_
  refine g_iload_n hΓ rfl dJ5_init_3 ?_
  refine g_iload hΓ rfl dJ5_init_4 ?_
  refine x_callI (As := [.null, .null, .int (iI 0), .int (iI 0)]) (rest := []) hΓ (x_J4_init_2 hE hX S D R q hq hw ) rfl q502 q503 q134 q504 ndJ4_init_2 rfl rfl (by decide) (by decide) (Nat.zero_le _) (Nat.zero_le _) rfl (Nat.le_of_ble_eq_true rfl) dJ5_init_6 rfl (fun v1 S1 τ1 ρ1 h1 => ?_)
  obtain ⟨rfl, h1, S1e, τ1e, ρ1f⟩ := h1
  have S1e := S1e.symm; subst S1e
  have τ1e := τ1e.symm; subst τ1e
  exact x_vret hΓ dJ5_init_9 (Nat.zero_le _) (Nat.zero_le _) ⟨rfl, h1, rfl, rfl, (fun q9 j9 hk9 => by exact (ρ1f q9 j9 (fun e9 => hk9 ((show ∀ x ∈ [6000, 6001, 6002, 6003], x ∈ [6000, 6001, 6002, 6003] by decide) _ e9))))⟩
set_option maxHeartbeats 4000000 in
theorem x_X6_init {l : Launch} {E : gE} {X : State → Prop} {Z : Nat → Nat} {Y : Nat → Option Nat} (hE : E.2.1 = clsX) (hX : xOK l E X Z Y) (S : xS) (D : xD) (R : xR) (q : Nat) (k n : Int) (hq : (S q).1 = 6) (hw : E.2.2 q) : xC l E X yX6_init cX6_init 3 none 3 0 0 [.ref q, .int (iI k), .int (iI n)] S D R (fun rv S' D' R' => rv = none ∧ (D' q 6 = k ∧ D' q 7 = n ∧ (∀ (p : Nat) (j : Int), p ≠ q → D' p j = D p j) ∧ ∀ (p : Nat) (j : Int), p ≠ q → R' p j = R p j) ∧ S' = S ∧ fr S D D' [6006, 6007] ∧ fr S R R' [6000, 6001, 6002, 6003]) := by
  refine xC.of hX.1 (by decide) [some (.ref q), some (.int (iI k)), some (.int (iI n))] (Nat.le_of_ble_eq_true rfl) rfl rfl (fun Γ hΓ => ?_)
  refine g_aload_n hΓ rfl dX6_init_0 ?_
  refine g_null hΓ dX6_init_1 ?_
  refine g_null hΓ dX6_init_2 ?_
  refine g_iconst hΓ dX6_init_3 ?_
  refine g_iconst hΓ dX6_init_4 ?_
  refine x_callI (As := [.null, .null, .int (iI 0), .int (iI 0)]) (rest := []) hΓ (x_J5_init hE hX S D R q hq hw ) rfl q499 q500 q135 q501 ndJ5_init rfl rfl (by decide) (by decide) (Nat.zero_le _) (Nat.zero_le _) rfl (Nat.le_of_ble_eq_true rfl) dX6_init_5 rfl (fun v1 S1 τ1 ρ1 h1 => ?_)
  obtain ⟨rfl, h1, S1e, τ1e, ρ1f⟩ := h1
  have S1e := S1e.symm; subst S1e
  have τ1e := τ1e.symm; subst τ1e
  refine g_aload_n hΓ rfl dX6_init_8 ?_
  refine g_iload_n hΓ rfl dX6_init_9 ?_
  refine x_putFi (c := 6) hE hΓ in_X6 rfl hq ⟨by decide, rfl⟩ tyX6 tyX6_ok nmX6 hw 6 (ji := 6) rfl (by decide) (by decide) rfl q505 rfl rfl rfl rfl rfl rfl rfl rfl dX6_init_10 (fun τ2 τ2e => ?_)
  have τ2r : τ2 q 6 = k := by rw [τ2e]; exact us_s _ _ _ _
  have τ2f : ∀ (q9 : Nat) (j9 : Int), (q9 ≠ q ∨ j9 ≠ 6) → τ2 q9 j9 = D q9 j9 := fun q9 j9 hh => by rw [τ2e]; exact us_n hh
  refine g_aload_n hΓ rfl dX6_init_13 ?_
  refine g_iload_n hΓ rfl dX6_init_14 ?_
  refine x_putFi (c := 6) hE hΓ in_X6 rfl hq ⟨by decide, rfl⟩ tyX6 tyX6_ok nmX6 hw 7 (ji := 7) rfl (by decide) (by decide) rfl q507 rfl rfl rfl rfl rfl rfl rfl rfl dX6_init_15 (fun τ3 τ3e => ?_)
  have τ3r : τ3 q 7 = n := by rw [τ3e]; exact us_s _ _ _ _
  have τ3f : ∀ (q9 : Nat) (j9 : Int), (q9 ≠ q ∨ j9 ≠ 7) → τ3 q9 j9 = τ2 q9 j9 := fun q9 j9 hh => by rw [τ3e]; exact us_n hh
  exact x_vret hΓ dX6_init_18 (Nat.zero_le _) (Nat.zero_le _) ⟨rfl, ⟨(τ3f q 6 (Or.inr (by decide))).trans τ2r, τ3r, fun p9 j9 h9 => (τ3f p9 j9 (Or.inl h9)).trans (τ2f p9 j9 (Or.inl h9)), h1⟩, rfl, (fun q9 j9 hk9 => by exact ((τ3f q9 j9 (by by_cases e9 : q9 = q; exact Or.inr (fun e8 => hk9 (by rw [e9, e8, hq]; decide)); exact Or.inl e9)).trans (τ2f q9 j9 (by by_cases e9 : q9 = q; exact Or.inr (fun e8 => hk9 (by rw [e9, e8, hq]; decide)); exact Or.inl e9)))), (fun q9 j9 hk9 => by exact (ρ1f q9 j9 (fun e9 => hk9 ((show ∀ x ∈ [6000, 6001, 6002, 6003], x ∈ [6000, 6001, 6002, 6003] by decide) _ e9))))⟩
set_option maxHeartbeats 4000000 in
theorem x_X4_isLetter {l : Launch} {E : gE} {X : State → Prop} {Z : Nat → Nat} {Y : Nat → Option Nat} (hE : E.2.1 = clsX) (hX : xOK l E X Z Y) (S : xS) (D : xD) (R : xR) (P : xPk) (σ τ : mS) (c : Nat) (k : Int) (hx : Rx E Z S D R P σ) (h11 : τ 11 = σ 11) (hsc : sc0 S D R P τ c) (hk : 0 ≤ k ∧ k ≤ 1600) : xC l E X yX4_isLetter cX4_isLetter 2 (some .boolean) 0 0 0 [.ref c, .int (iI k)] S D R (fun rv S' D' R' => rv = some (.int (iI (if isSl (bya τ k) then 1 else 0))) ∧ S' = S ∧ D' = D ∧ R' = R) := by
  refine xC.of hX.1 (by decide) [some (.ref c), some (.int (iI k))] (Nat.le_of_ble_eq_true rfl) rfl rfl (fun Γ hΓ => ?_)
  obtain ⟨hg, hp, hki, hro, hnw, hbh, hsa, hpd⟩ := id hx
  obtain ⟨kc, rc5, dc0, dc3, ha0, ha1, ha2⟩ := id hsc
  have hAw := hg.2.2.2.2.2.2
  have htp : ∀ j, 0 ≤ j → j < 1600 → D (P.2.1 0) j = τ 11 j ∧ 0 ≤ τ 11 j ∧ τ 11 j < 256 := by rw [h11]; exact hpd.2.1
  refine g_iload_n hΓ rfl dX4_isLetter_0 ?_
  refine g_aload_n hΓ rfl dX4_isLetter_1 ?_
  refine x_geti (c := 4) hE hΓ in_X4 rfl kc ⟨by decide, rfl⟩ 0 (ji := 0) rfl (by decide) (by decide) rfl q428 rfl rfl dX4_isLetter_2 ?_
  refine g_topi (dc0) ?_
  refine g_icmp_ge (tgt := 40) hΓ (by omega) (by omega) dX4_isLetter_5 (by decide) (fun c1 => ?_) (fun c1 => ?_)
  · refine g_iconst hΓ dX4_isLetter_40 ?_
    exact x_zret hΓ (by omega) dX4_isLetter_41 (Nat.zero_le _) (Nat.zero_le _) ⟨ri (by first | (rw [if_pos (by rw [hy9]; omega)]; done) | (rw [if_neg (by rw [hy9]; omega)]; done) | (rw [bya_no (by omega), if_neg (by decide)])), rfl, rfl, rfl⟩
  · have hb9 := htp k (by omega) (by omega)
    have hy9 := bya_at (τ := τ) (p := k) (by omega) (by omega)
    refine g_aload_n hΓ rfl dX4_isLetter_8 ?_
    refine x_geta (r := some P.1) (c := 4) hE hΓ in_X4 rfl kc ⟨by decide, rfl⟩ 5 (ji := 5) rfl (by decide) (by decide) rfl q433 rfl rfl rc5 dX4_isLetter_9 ?_
    show gW Γ E (xM E S D R) 0 0 _ _ (.ref (P.1) :: _)
    refine x_getaN (r := some (P.2.1 0)) (c := 0) hE hΓ in_X0 rfl hp.1 ⟨by decide, rfl⟩ 0 (ji := 0) rfl (by decide) (by decide) rfl (xn_245 hX) rfl rfl (pA_r hp 0 rfl rfl) dX4_isLetter_12 ?_
    show gW Γ E (xM E S D R) 0 0 _ _ (.ref (P.2.1 0) :: _)
    refine g_iload_n hΓ rfl dX4_isLetter_15 ?_
    refine x_cald hΓ (pA_k hp 0 rfl (n := 50) rfl) (pA_n hp 0 rfl (n := 1600) rfl) ⟨by decide, rfl⟩ (by omega) (by omega) dX4_isLetter_16 ?_
    refine g_topi ((htp k (by omega) (by omega)).1) ?_
    refine g_bipush hΓ (by decide) dX4_isLetter_17 ?_
    refine g_icmp_lt (tgt := 40) hΓ (by omega) (by omega) dX4_isLetter_19 (by decide) (fun c2 => ?_) (fun c2 => ?_)
    · refine g_iconst hΓ dX4_isLetter_40 ?_
      exact x_zret hΓ (by omega) dX4_isLetter_41 (Nat.zero_le _) (Nat.zero_le _) ⟨ri (by first | (rw [if_pos (by rw [hy9]; omega)]; done) | (rw [if_neg (by rw [hy9]; omega)]; done) | (rw [bya_no (by omega), if_neg (by decide)])), rfl, rfl, rfl⟩
    · refine g_aload_n hΓ rfl dX4_isLetter_22 ?_
      refine x_geta (r := some P.1) (c := 4) hE hΓ in_X4 rfl kc ⟨by decide, rfl⟩ 5 (ji := 5) rfl (by decide) (by decide) rfl q433 rfl rfl rc5 dX4_isLetter_23 ?_
      show gW Γ E (xM E S D R) 0 0 _ _ (.ref (P.1) :: _)
      refine x_getaN (r := some (P.2.1 0)) (c := 0) hE hΓ in_X0 rfl hp.1 ⟨by decide, rfl⟩ 0 (ji := 0) rfl (by decide) (by decide) rfl (xn_245 hX) rfl rfl (pA_r hp 0 rfl rfl) dX4_isLetter_26 ?_
      show gW Γ E (xM E S D R) 0 0 _ _ (.ref (P.2.1 0) :: _)
      refine g_iload_n hΓ rfl dX4_isLetter_29 ?_
      refine x_cald hΓ (pA_k hp 0 rfl (n := 50) rfl) (pA_n hp 0 rfl (n := 1600) rfl) ⟨by decide, rfl⟩ (by omega) (by omega) dX4_isLetter_30 ?_
      refine g_topi ((htp k (by omega) (by omega)).1) ?_
      refine g_bipush hΓ (by decide) dX4_isLetter_31 ?_
      refine g_icmp_gt (tgt := 40) hΓ (by omega) (by omega) dX4_isLetter_33 (by decide) (fun c3 => ?_) (fun c3 => ?_)
      · refine g_iconst hΓ dX4_isLetter_40 ?_
        exact x_zret hΓ (by omega) dX4_isLetter_41 (Nat.zero_le _) (Nat.zero_le _) ⟨ri (by first | (rw [if_pos (by rw [hy9]; omega)]; done) | (rw [if_neg (by rw [hy9]; omega)]; done) | (rw [bya_no (by omega), if_neg (by decide)])), rfl, rfl, rfl⟩
      · refine g_iconst hΓ dX4_isLetter_36 ?_
        refine g_goto (tgt := 41) hΓ dX4_isLetter_37 (by decide) ?_
        exact x_zret hΓ (by omega) dX4_isLetter_41 (Nat.zero_le _) (Nat.zero_le _) ⟨ri (by first | (rw [if_pos (by rw [hy9]; omega)]; done) | (rw [if_neg (by rw [hy9]; omega)]; done) | (rw [bya_no (by omega), if_neg (by decide)])), rfl, rfl, rfl⟩
set_option maxHeartbeats 4000000 in
theorem x_X4_isDigit {l : Launch} {E : gE} {X : State → Prop} {Z : Nat → Nat} {Y : Nat → Option Nat} (hE : E.2.1 = clsX) (hX : xOK l E X Z Y) (S : xS) (D : xD) (R : xR) (P : xPk) (σ τ : mS) (c : Nat) (k : Int) (hx : Rx E Z S D R P σ) (h11 : τ 11 = σ 11) (hsc : sc0 S D R P τ c) (hk : 0 ≤ k ∧ k ≤ 1600) : xC l E X yX4_isDigit cX4_isDigit 2 (some .boolean) 0 0 0 [.ref c, .int (iI k)] S D R (fun rv S' D' R' => rv = some (.int (iI (if isDg (bya τ k) then 1 else 0))) ∧ S' = S ∧ D' = D ∧ R' = R) := by
  refine xC.of hX.1 (by decide) [some (.ref c), some (.int (iI k))] (Nat.le_of_ble_eq_true rfl) rfl rfl (fun Γ hΓ => ?_)
  obtain ⟨hg, hp, hki, hro, hnw, hbh, hsa, hpd⟩ := id hx
  obtain ⟨kc, rc5, dc0, dc3, ha0, ha1, ha2⟩ := id hsc
  have hAw := hg.2.2.2.2.2.2
  have htp : ∀ j, 0 ≤ j → j < 1600 → D (P.2.1 0) j = τ 11 j ∧ 0 ≤ τ 11 j ∧ τ 11 j < 256 := by rw [h11]; exact hpd.2.1
  refine g_iload_n hΓ rfl dX4_isDigit_0 ?_
  refine g_aload_n hΓ rfl dX4_isDigit_1 ?_
  refine x_geti (c := 4) hE hΓ in_X4 rfl kc ⟨by decide, rfl⟩ 0 (ji := 0) rfl (by decide) (by decide) rfl q428 rfl rfl dX4_isDigit_2 ?_
  refine g_topi (dc0) ?_
  refine g_icmp_ge (tgt := 40) hΓ (by omega) (by omega) dX4_isDigit_5 (by decide) (fun c1 => ?_) (fun c1 => ?_)
  · refine g_iconst hΓ dX4_isDigit_40 ?_
    exact x_zret hΓ (by omega) dX4_isDigit_41 (Nat.zero_le _) (Nat.zero_le _) ⟨ri (by first | (rw [if_pos (by rw [hy9]; omega)]; done) | (rw [if_neg (by rw [hy9]; omega)]; done) | (rw [bya_no (by omega), if_neg (by decide)])), rfl, rfl, rfl⟩
  · have hb9 := htp k (by omega) (by omega)
    have hy9 := bya_at (τ := τ) (p := k) (by omega) (by omega)
    refine g_aload_n hΓ rfl dX4_isDigit_8 ?_
    refine x_geta (r := some P.1) (c := 4) hE hΓ in_X4 rfl kc ⟨by decide, rfl⟩ 5 (ji := 5) rfl (by decide) (by decide) rfl q433 rfl rfl rc5 dX4_isDigit_9 ?_
    show gW Γ E (xM E S D R) 0 0 _ _ (.ref (P.1) :: _)
    refine x_getaN (r := some (P.2.1 0)) (c := 0) hE hΓ in_X0 rfl hp.1 ⟨by decide, rfl⟩ 0 (ji := 0) rfl (by decide) (by decide) rfl (xn_245 hX) rfl rfl (pA_r hp 0 rfl rfl) dX4_isDigit_12 ?_
    show gW Γ E (xM E S D R) 0 0 _ _ (.ref (P.2.1 0) :: _)
    refine g_iload_n hΓ rfl dX4_isDigit_15 ?_
    refine x_cald hΓ (pA_k hp 0 rfl (n := 50) rfl) (pA_n hp 0 rfl (n := 1600) rfl) ⟨by decide, rfl⟩ (by omega) (by omega) dX4_isDigit_16 ?_
    refine g_topi ((htp k (by omega) (by omega)).1) ?_
    refine g_bipush hΓ (by decide) dX4_isDigit_17 ?_
    refine g_icmp_lt (tgt := 40) hΓ (by omega) (by omega) dX4_isDigit_19 (by decide) (fun c2 => ?_) (fun c2 => ?_)
    · refine g_iconst hΓ dX4_isDigit_40 ?_
      exact x_zret hΓ (by omega) dX4_isDigit_41 (Nat.zero_le _) (Nat.zero_le _) ⟨ri (by first | (rw [if_pos (by rw [hy9]; omega)]; done) | (rw [if_neg (by rw [hy9]; omega)]; done) | (rw [bya_no (by omega), if_neg (by decide)])), rfl, rfl, rfl⟩
    · refine g_aload_n hΓ rfl dX4_isDigit_22 ?_
      refine x_geta (r := some P.1) (c := 4) hE hΓ in_X4 rfl kc ⟨by decide, rfl⟩ 5 (ji := 5) rfl (by decide) (by decide) rfl q433 rfl rfl rc5 dX4_isDigit_23 ?_
      show gW Γ E (xM E S D R) 0 0 _ _ (.ref (P.1) :: _)
      refine x_getaN (r := some (P.2.1 0)) (c := 0) hE hΓ in_X0 rfl hp.1 ⟨by decide, rfl⟩ 0 (ji := 0) rfl (by decide) (by decide) rfl (xn_245 hX) rfl rfl (pA_r hp 0 rfl rfl) dX4_isDigit_26 ?_
      show gW Γ E (xM E S D R) 0 0 _ _ (.ref (P.2.1 0) :: _)
      refine g_iload_n hΓ rfl dX4_isDigit_29 ?_
      refine x_cald hΓ (pA_k hp 0 rfl (n := 50) rfl) (pA_n hp 0 rfl (n := 1600) rfl) ⟨by decide, rfl⟩ (by omega) (by omega) dX4_isDigit_30 ?_
      refine g_topi ((htp k (by omega) (by omega)).1) ?_
      refine g_bipush hΓ (by decide) dX4_isDigit_31 ?_
      refine g_icmp_gt (tgt := 40) hΓ (by omega) (by omega) dX4_isDigit_33 (by decide) (fun c3 => ?_) (fun c3 => ?_)
      · refine g_iconst hΓ dX4_isDigit_40 ?_
        exact x_zret hΓ (by omega) dX4_isDigit_41 (Nat.zero_le _) (Nat.zero_le _) ⟨ri (by first | (rw [if_pos (by rw [hy9]; omega)]; done) | (rw [if_neg (by rw [hy9]; omega)]; done) | (rw [bya_no (by omega), if_neg (by decide)])), rfl, rfl, rfl⟩
      · refine g_iconst hΓ dX4_isDigit_36 ?_
        refine g_goto (tgt := 41) hΓ dX4_isDigit_37 (by decide) ?_
        exact x_zret hΓ (by omega) dX4_isDigit_41 (Nat.zero_le _) (Nat.zero_le _) ⟨ri (by first | (rw [if_pos (by rw [hy9]; omega)]; done) | (rw [if_neg (by rw [hy9]; omega)]; done) | (rw [bya_no (by omega), if_neg (by decide)])), rfl, rfl, rfl⟩
set_option maxHeartbeats 4000000 in
theorem x_X4_next {l : Launch} {E : gE} {X : State → Prop} {Z : Nat → Nat} {Y : Nat → Option Nat} (hE : E.2.1 = clsX) (hX : xOK l E X Z Y) (S : xS) (D : xD) (R : xR) (P : xPk) (σ τ : mS) (c : Nat)  (hx : Rx E Z S D R P σ) (h11 : τ 11 = σ 11) (hsc : sc0 S D R P τ c) : xC l E X yX4_next cX4_next 1 (some .int) 0 0 0 [.ref c] S D R (fun rv S' D' R' => rv = some (.int (iI (hrS τ))) ∧ (D' c 3 = hrS τ ∧ ∀ (p : Nat) (j : Int), (p ≠ c ∨ j ≠ 3) → D' p j = D p j) ∧ S' = S ∧ fr S D D' [4003] ∧ R' = R) := by
  refine xC.of hX.1 (by decide) [some (.ref c)] (Nat.le_of_ble_eq_true rfl) rfl rfl (fun Γ hΓ => ?_)
  obtain ⟨hg, hp, hki, hro, hnw, hbh, hsa, hpd⟩ := id hx
  obtain ⟨kc, rc5, dc0, dc3, ha0, ha1, ha2⟩ := id hsc
  have hAw := hg.2.2.2.2.2.2
  have htp : ∀ j, 0 ≤ j → j < 1600 → D (P.2.1 0) j = τ 11 j ∧ 0 ≤ τ 11 j ∧ τ 11 j < 256 := by rw [h11]; exact hpd.2.1
  have loop : ∀ (fu : Nat) (t : xD) (a : Int), (τ 16 0 - a).toNat < fu → (fr S D t [4003]) → (τ 17 0 ≤ a ∧ a ≤ τ 16 0) → (t c 3 = a) → (∀ (p : Nat) (j : Int), (p ≠ c ∨ j ≠ 3) → t p j = D p j) → (skW isSp (bya τ) (τ 16 0 - a).toNat a = hrS τ) → gW Γ E (xM E S t R) 0 0 0 [some (.ref c)] [] := by
    intro fu
    induction fu with
    | zero => intro t a hn; exact absurd hn (Nat.not_lt_zero _)
    | succ fu ih_loop =>
      intro t a hn ht ha9 hta hoth hs
      refine g_aload_n hΓ rfl dX4_next_0 ?_
      refine x_geti (c := 4) hE hΓ in_X4 rfl kc ⟨by decide, rfl⟩ 3 (ji := 3) rfl (by decide) (by decide) rfl q431 rfl rfl dX4_next_1 ?_
      refine g_topi (hta) ?_
      refine g_aload_n hΓ rfl dX4_next_4 ?_
      refine x_geti (c := 4) hE hΓ in_X4 rfl kc ⟨by decide, rfl⟩ 0 (ji := 0) rfl (by decide) (by decide) rfl q428 rfl rfl dX4_next_5 ?_
      refine g_topi (((fr_at ht kc (by decide)).trans dc0)) ?_
      refine g_icmp_ge (tgt := 58) hΓ (by omega) (by omega) dX4_next_8 (by decide) (fun c1 => ?_) (fun c1 => ?_)
      · refine g_aload_n hΓ rfl dX4_next_58 ?_
        refine x_geti (c := 4) hE hΓ in_X4 rfl kc ⟨by decide, rfl⟩ 3 (ji := 3) rfl (by decide) (by decide) rfl q431 rfl rfl dX4_next_59 ?_
        refine g_topi (hta) ?_
        exact x_iret hΓ dX4_next_62 (Nat.zero_le _) (Nat.zero_le _) ⟨ri (by rw [← hs]; first | exact (skW_0 (by omega)).symm | exact (skW_0 (by rw [hy9]; omega)).symm), ⟨(hta.trans (by rw [← hs]; first | exact (skW_0 (by omega)).symm | exact (skW_0 (by rw [hy9]; omega)).symm)), hoth⟩, rfl, ht, rfl⟩
      · have hb9 := htp a (by omega) (by omega)
        have hy9 := bya_at (τ := τ) (p := a) (by omega) (by omega)
        refine g_aload_n hΓ rfl dX4_next_11 ?_
        refine x_geta (r := some P.1) (c := 4) hE hΓ in_X4 rfl kc ⟨by decide, rfl⟩ 5 (ji := 5) rfl (by decide) (by decide) rfl q433 rfl rfl rc5 dX4_next_12 ?_
        show gW Γ E (xM E S t R) 0 0 _ _ (.ref (P.1) :: _)
        refine x_getaN (r := some (P.2.1 0)) (c := 0) hE hΓ in_X0 rfl hp.1 ⟨by decide, rfl⟩ 0 (ji := 0) rfl (by decide) (by decide) rfl (xn_245 hX) rfl rfl (pA_r hp 0 rfl rfl) dX4_next_15 ?_
        show gW Γ E (xM E S t R) 0 0 _ _ (.ref (P.2.1 0) :: _)
        refine g_aload_n hΓ rfl dX4_next_18 ?_
        refine x_geti (c := 4) hE hΓ in_X4 rfl kc ⟨by decide, rfl⟩ 3 (ji := 3) rfl (by decide) (by decide) rfl q431 rfl rfl dX4_next_19 ?_
        refine g_topi (hta) ?_
        refine x_cald hΓ (pA_k hp 0 rfl (n := 50) rfl) (pA_n hp 0 rfl (n := 1600) rfl) ⟨by decide, rfl⟩ (by omega) (by omega) dX4_next_22 ?_
        refine g_topi (((congrFun (fr_row ht (pA_k hp 0 rfl (n := 50) rfl) (by decide) (by decide)) a).trans (htp a (by omega) (by omega)).1)) ?_
        refine g_bipush hΓ (by decide) dX4_next_23 ?_
        refine g_icmp_eq (tgt := 45) hΓ (by omega) (by omega) dX4_next_25 (by decide) (fun c2 => ?_) (fun c2 => ?_)
        · refine g_aload_n hΓ rfl dX4_next_45 ?_
          refine g_dup hΓ rfl dX4_next_46 ?_
          refine x_geti (c := 4) hE hΓ in_X4 rfl kc ⟨by decide, rfl⟩ 3 (ji := 3) rfl (by decide) (by decide) rfl q431 rfl rfl dX4_next_47 ?_
          refine g_topi (hta) ?_
          refine g_iconst hΓ dX4_next_50 ?_
          refine g_iadd hΓ dX4_next_51 ?_
          refine x_puti (c := 4) hE hΓ in_X4 rfl kc ⟨by decide, rfl⟩ tyX4 tyX4_ok nmX4 (hAw _ (by rw [kc]; rfl)) 3 (ji := 3) rfl (by decide) (by decide) rfl q431 rfl rfl rfl rfl rfl rfl dX4_next_52 (fun τ3 τ3e => ?_)
          have τ3r : τ3 c 3 = a + 1 := by rw [τ3e]; exact us_s _ _ _ _
          have τ3f : ∀ (q9 : Nat) (j9 : Int), (q9 ≠ c ∨ j9 ≠ 3) → τ3 q9 j9 = t q9 j9 := fun q9 j9 hh => by rw [τ3e]; exact us_n hh
          refine g_goto (tgt := 0) hΓ dX4_next_55 (by decide) ?_
          exact ih_loop τ3 (a + 1) (by omega) (fr_t ht (fun q9 j9 hk9 => by exact (τ3f q9 j9 (by by_cases e9 : q9 = c; exact Or.inr (fun e8 => hk9 (by rw [e9, e8, kc]; decide)); exact Or.inl e9)))) (by omega) τ3r (fun p9 j9 h9 => (τ3f p9 j9 h9).trans (hoth p9 j9 h9)) (by rw [← hs, ← skW_1 (P := isSp) (b := bya τ) (N := τ 16 0) (p := a) (by omega) (by rw [hy9]; omega)])
        · refine g_aload_n hΓ rfl dX4_next_28 ?_
          refine x_geta (r := some P.1) (c := 4) hE hΓ in_X4 rfl kc ⟨by decide, rfl⟩ 5 (ji := 5) rfl (by decide) (by decide) rfl q433 rfl rfl rc5 dX4_next_29 ?_
          show gW Γ E (xM E S t R) 0 0 _ _ (.ref (P.1) :: _)
          refine x_getaN (r := some (P.2.1 0)) (c := 0) hE hΓ in_X0 rfl hp.1 ⟨by decide, rfl⟩ 0 (ji := 0) rfl (by decide) (by decide) rfl (xn_245 hX) rfl rfl (pA_r hp 0 rfl rfl) dX4_next_32 ?_
          show gW Γ E (xM E S t R) 0 0 _ _ (.ref (P.2.1 0) :: _)
          refine g_aload_n hΓ rfl dX4_next_35 ?_
          refine x_geti (c := 4) hE hΓ in_X4 rfl kc ⟨by decide, rfl⟩ 3 (ji := 3) rfl (by decide) (by decide) rfl q431 rfl rfl dX4_next_36 ?_
          refine g_topi (hta) ?_
          refine x_cald hΓ (pA_k hp 0 rfl (n := 50) rfl) (pA_n hp 0 rfl (n := 1600) rfl) ⟨by decide, rfl⟩ (by omega) (by omega) dX4_next_39 ?_
          refine g_topi (((congrFun (fr_row ht (pA_k hp 0 rfl (n := 50) rfl) (by decide) (by decide)) a).trans (htp a (by omega) (by omega)).1)) ?_
          refine g_bipush hΓ (by decide) dX4_next_40 ?_
          refine g_icmp_ne (tgt := 58) hΓ (by omega) (by omega) dX4_next_42 (by decide) (fun c4 => ?_) (fun c4 => ?_)
          · refine g_aload_n hΓ rfl dX4_next_58 ?_
            refine x_geti (c := 4) hE hΓ in_X4 rfl kc ⟨by decide, rfl⟩ 3 (ji := 3) rfl (by decide) (by decide) rfl q431 rfl rfl dX4_next_59 ?_
            refine g_topi (hta) ?_
            exact x_iret hΓ dX4_next_62 (Nat.zero_le _) (Nat.zero_le _) ⟨ri (by rw [← hs]; first | exact (skW_0 (by omega)).symm | exact (skW_0 (by rw [hy9]; omega)).symm), ⟨(hta.trans (by rw [← hs]; first | exact (skW_0 (by omega)).symm | exact (skW_0 (by rw [hy9]; omega)).symm)), hoth⟩, rfl, ht, rfl⟩
          · refine g_aload_n hΓ rfl dX4_next_45 ?_
            refine g_dup hΓ rfl dX4_next_46 ?_
            refine x_geti (c := 4) hE hΓ in_X4 rfl kc ⟨by decide, rfl⟩ 3 (ji := 3) rfl (by decide) (by decide) rfl q431 rfl rfl dX4_next_47 ?_
            refine g_topi (hta) ?_
            refine g_iconst hΓ dX4_next_50 ?_
            refine g_iadd hΓ dX4_next_51 ?_
            refine x_puti (c := 4) hE hΓ in_X4 rfl kc ⟨by decide, rfl⟩ tyX4 tyX4_ok nmX4 (hAw _ (by rw [kc]; rfl)) 3 (ji := 3) rfl (by decide) (by decide) rfl q431 rfl rfl rfl rfl rfl rfl dX4_next_52 (fun τ5 τ5e => ?_)
            have τ5r : τ5 c 3 = a + 1 := by rw [τ5e]; exact us_s _ _ _ _
            have τ5f : ∀ (q9 : Nat) (j9 : Int), (q9 ≠ c ∨ j9 ≠ 3) → τ5 q9 j9 = t q9 j9 := fun q9 j9 hh => by rw [τ5e]; exact us_n hh
            refine g_goto (tgt := 0) hΓ dX4_next_55 (by decide) ?_
            exact ih_loop τ5 (a + 1) (by omega) (fr_t ht (fun q9 j9 hk9 => by exact (τ5f q9 j9 (by by_cases e9 : q9 = c; exact Or.inr (fun e8 => hk9 (by rw [e9, e8, kc]; decide)); exact Or.inl e9)))) (by omega) τ5r (fun p9 j9 h9 => (τ5f p9 j9 h9).trans (hoth p9 j9 h9)) (by rw [← hs, ← skW_1 (P := isSp) (b := bya τ) (N := τ 16 0) (p := a) (by omega) (by rw [hy9]; omega)])
  exact loop 1601 D (τ 17 0) (by omega) fr_rfl (by omega) dc3 (fun _ _ _ => rfl) rfl
set_option maxHeartbeats 4000000 in
theorem x_X4_unlike {l : Launch} {E : gE} {X : State → Prop} {Z : Nat → Nat} {Y : Nat → Option Nat} (hE : E.2.1 = clsX) (hX : xOK l E X Z Y) (S : xS) (D : xD) (R : xR) (P : xPk) (σ τ : mS) (c : Nat)  (hx : Rx E Z S D R P σ) (h11 : τ 11 = σ 11) (hsc : sc0 S D R P τ c) : xC l E X yX4_unlike cX4_unlike 1 (some (.object "LetterPen$Fault")) 4 1 8 [.ref c] S D R (fun rv S' D' R' => ∃ q9 : Nat, rv = some (.ref q9) ∧ ((S q9).1 = 0 ∧ E.2.2 q9 ∧ S' = uS S q9 6 8 0 ∧ D' c 3 = hrS τ ∧ D' q9 6 = 1 ∧ D' q9 7 = hrS τ ∧ (∀ (p : Nat) (j : Int), p ≠ q9 → (p ≠ c ∨ j ≠ 3) → D' p j = D p j) ∧ ∀ (p : Nat) (j : Int), p ≠ q9 → R' p j = R p j) ∧ sle S S') := by
  refine xC.of hX.1 (by decide) [some (.ref c)] (Nat.le_of_ble_eq_true rfl) rfl rfl (fun Γ hΓ => ?_)
  obtain ⟨hg, hp, hki, hro, hnw, hbh, hsa, hpd⟩ := id hx
  obtain ⟨kc, rc5, dc0, dc3, ha0, ha1, ha2⟩ := id hsc
  have hAw := hg.2.2.2.2.2.2
  have htp : ∀ j, 0 ≤ j → j < 1600 → D (P.2.1 0) j = τ 11 j ∧ 0 ≤ τ 11 j ∧ τ 11 j < 256 := by rw [h11]; exact hpd.2.1
  refine x_new (c := 6) hE hΓ (xn_new hX) 6 0 in_X6 rfl ⟨by decide, rfl⟩ tyX6 tyX6_ok rfl q459 q460 q136 fs0_6 (by omega) (by omega) dX4_unlike_0 (fun q1 S1 δ1 ρ1 q1z q1w S1e δ1e ρ1e => ?_)
  have S1f : ∀ q9 : Nat, (S q9).1 ≠ 0 → S1 q9 = S q9 := fun q9 h9 => by rw [S1e]; exact uS_n (fun e9 => h9 (by rw [e9]; exact q1z))
  have S1q : S1 q1 = (6, 8, 0) := by rw [S1e]; exact uS_s _ _ _ _ _
  have δ1z : ∀ j9 : Int, δ1 q1 j9 = 0 := fun j9 => by rw [δ1e, uN_s]
  have δ1f : ∀ (q9 : Nat) (j9 : Int), q9 ≠ q1 → δ1 q9 j9 = D q9 j9 := fun q9 j9 h9 => by rw [δ1e, uN_n h9]
  have ρ1z : ∀ j9 : Int, ρ1 q1 j9 = none := fun j9 => by rw [ρ1e, uN_s]
  have ρ1f : ∀ (q9 : Nat) (j9 : Int), q9 ≠ q1 → ρ1 q9 j9 = R q9 j9 := fun q9 j9 h9 => by rw [ρ1e, uN_n h9]
  have kd2 : (S1 c).1 = 4 := kup kc (by decide) S1f
  have kd3 : (S1 (P.1)).1 = 1 := kup hp.1 (by decide) S1f
  have kdq1 : (S1 q1).1 = 6 := by rw [S1q]
  have lnq1 : (S1 q1).2.1 = 8 := by rw [S1q]
  refine g_dup hΓ rfl dX4_unlike_3 ?_
  refine g_iconst hΓ dX4_unlike_4 ?_
  refine g_aload_n hΓ rfl dX4_unlike_5 ?_
  have hx2 : Rx E Z S1 δ1 ρ1 P σ := Rx_new hx q1z q1w S1e δ1e ρ1e (by decide)
  have hcq : c ≠ q1 := fun e9 => by have h9 := q1z; rw [← e9, kc] at h9; exact absurd h9 (by decide)
  have hsc2 : sc0 S1 δ1 ρ1 P τ c := ⟨kup kc (by decide) S1f, (ρ1f c 5 hcq).trans rc5, (δ1f c 0 hcq).trans dc0, (δ1f c 3 hcq).trans dc3, ha0, ha1, ha2⟩
  refine x_callV (As := []) (rest := [.int (iI 1), .ref q1, .ref q1]) (c := 4) hE hΓ (x_X4_next hE hX S1 δ1 ρ1 P σ τ c hx2 h11 hsc2 ) kd2 ⟨by decide, rfl⟩ rfl rfl q455 q457 qs6 q132 q458 ndX4_next rfl (by decide) (by decide) (by omega) (by omega) rfl (Nat.le_of_ble_eq_true rfl) dX4_unlike_6 rfl (fun v4 S4 τ4 ρ4 h4 => ?_)
  obtain ⟨rfl, h4, S4e, τ4f, ρ4e⟩ := h4
  have S4e := S4e.symm; subst S4e
  have ρ4e := ρ4e.symm; subst ρ4e
  show gW Γ E (xM E S1 τ4 ρ1) _ _ _ _ (.int (iI (hrS τ)) :: _)
  refine x_callI (As := [.int (iI 1), .int (iI (hrS τ))]) (rest := [.ref q1]) hΓ (x_X6_init hE hX S1 τ4 ρ1 q1 1 (hrS τ) kdq1 q1w ) rfl q496 q497 q136 q498 ndX6_init rfl rfl (by decide) (by decide) (by omega) (by omega) rfl (Nat.le_of_ble_eq_true rfl) dX4_unlike_9 rfl (fun v5 S5 τ5 ρ5 h5 => ?_)
  obtain ⟨rfl, h5, S5e, τ5f, ρ5f⟩ := h5
  have S5e := S5e.symm; subst S5e
  exact x_aret hΓ (Or.inl ⟨_, rfl⟩) (Or.inr ⟨_, rfl⟩) dX4_unlike_12 (by omega) (by omega) ⟨q1, rfl, ⟨q1z, q1w, S1e, (h5.2.2.1 c 3 hcq).trans h4.1, h5.1, h5.2.1, fun p9 j9 h9 h8 => (h5.2.2.1 p9 j9 h9).trans ((h4.2 p9 j9 h8).trans (δ1f p9 j9 h9)), fun p9 j9 h9 => (h5.2.2.2 p9 j9 h9).trans (ρ1f p9 j9 h9)⟩, S1f⟩
