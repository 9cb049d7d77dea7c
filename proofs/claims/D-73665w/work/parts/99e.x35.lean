set_option maxRecDepth 100000
set_option maxHeartbeats 4000000 in
theorem x_J2_clear {l : Launch} {E : gE} {X : State → Prop} {Z : Nat → Nat} {Y : Nat → Option Nat} (hE : E.2.1 = clsX) (hX : xOK l E X Z Y) (S : xS) (D : xD) (R : xR) (a k : Nat) (ha : (S a).1 = k) (hk : 10 ≤ k ∧ k ≤ 17) (hg : GI E Z S D R) : xC l E X yJ2_clear cJ2_clear 4 none 0 0 0 [.ref a] S D R (fun rv S' D' R' => rv = none ∧ (GI E Z S D' R' ∧ D' a 2 = 0 ∧ chg (lT S a) S S D D' R R') ∧ S' = S) := by
  refine xC.ofF hX.1 (by decide +kernel) [some (.ref a), none, none, none] (Nat.le_of_ble_eq_true rfl) rfl rfl (fun Γ hΓ => ?_)
  have hAw := hg.2.2.2.2.2.2
  have hk9 : 10 ≤ (S a).1 ∧ (S a).1 ≤ 17 := by rw [ha]; exact hk
  have hls := hg.2.1 a hk9.1 hk9.2
  have hne := ls_ne hg hk9
  have hwb := fun (h9 : 0 < (S (rf R a 1)).2.1) => ls_own hg hk9 h9
  obtain ⟨b1, kb1, hbr1, hbe1, hbk1, hbq1, hbc1⟩ := lsOK_b hls hk9
  rw [← hbe1] at hwb hne
  refine g_aload_n hΓ rfl dJ2_clear_0 ?_
  refine g_dup hΓ rfl dJ2_clear_1 ?_
  refine x_getiS (c := 10) hE hΓ in_J2 rfl ha (ks_10_17 hk) 0 (ji := 0) rfl (by decide) (by decide) rfl q179 q180 rfl dJ2_clear_2 ?_
  refine g_iconst hΓ dJ2_clear_5 ?_
  refine g_iadd hΓ dJ2_clear_6 ?_
  refine x_putSi (c := 10) hE hΓ in_J2 rfl ha (ks_10_17 hk) tyJ2 tyJ2_ok nmJ2 (hAw _ (by rw [ha]; exact wk_10_17 hk)) 0 (ji := 0) rfl (by decide) (by decide) rfl q179 q180 rfl rfl rfl rfl rfl dJ2_clear_7 (fun τ2 τ2e => ?_)
  have τ2r : τ2 a 0 = (D a 0) + 1 := by rw [τ2e]; exact us_s _ _ _ _
  have τ2f : ∀ (q9 : Nat) (j9 : Int), (q9 ≠ a ∨ j9 ≠ 0) → τ2 q9 j9 = D q9 j9 := fun q9 j9 hh => by rw [τ2e]; exact us_n hh
  refine g_aload_n hΓ rfl dJ2_clear_10 ?_
  refine x_geta (r := some b1) (c := 10) hE hΓ in_J2 rfl ha (ks_10_17 hk) 1 (ji := 1) rfl (by decide) (by decide) rfl q176 rfl rfl hbr1 dJ2_clear_11 ?_
  show gW Γ E (xM E S τ2 R) 0 0 _ _ (.ref b1 :: _)
  refine g_astore_n hΓ dJ2_clear_14 rfl (Nat.le_of_ble_eq_true rfl) (lv' := [some (.ref a), some (.ref b1), none, none]) rfl ?_
  refine g_aload_n hΓ rfl dJ2_clear_15 ?_
  refine x_geti (c := 10) hE hΓ in_J2 rfl ha (ks_10_17 hk) 2 (ji := 2) rfl (by decide) (by decide) rfl q177 rfl rfl dJ2_clear_16 ?_
  refine g_topi ((τ2f a 2 (Or.inr (by decide)))) ?_
  obtain ⟨x3, ex3⟩ : ∃ z9 : Int, z9 = D a 2 := ⟨_, rfl⟩
  refine g_topi ex3.symm ?_
  refine g_istore_n hΓ dJ2_clear_19 rfl (Nat.le_of_ble_eq_true rfl) (lv' := [some (.ref a), some (.ref b1), some (.int (iI x3)), none]) rfl ?_
  refine g_aload_n hΓ rfl dJ2_clear_20 ?_
  refine g_iconst hΓ dJ2_clear_21 ?_
  refine g_dup_x1 hΓ rfl rfl dJ2_clear_22 ?_
  refine x_puti (c := 10) hE hΓ in_J2 rfl ha (ks_10_17 hk) tyJ2 tyJ2_ok nmJ2 (hAw _ (by rw [ha]; exact wk_10_17 hk)) 2 (ji := 2) rfl (by decide) (by decide) rfl q177 rfl rfl rfl rfl rfl rfl dJ2_clear_23 (fun τ4 τ4e => ?_)
  have τ4r : τ4 a 2 = 0 := by rw [τ4e]; exact us_s _ _ _ _
  have τ4f : ∀ (q9 : Nat) (j9 : Int), (q9 ≠ a ∨ j9 ≠ 2) → τ4 q9 j9 = τ2 q9 j9 := fun q9 j9 hh => by rw [τ4e]; exact us_n hh
  have loop : ∀ (fu : Nat) (ρ : xR) (i : Int), (x3 - i).toNat < fu → (0 ≤ i ∧ i ≤ x3) → (∀ (q : Nat) (j : Int), (q ≠ b1 ∨ ¬ (0 ≤ j ∧ j < i)) → ρ q j = R q j) → gW Γ E (xM E S τ4 ρ) 0 0 27 [some (.ref a), some (.ref b1), some (.int (iI x3)), some (.int (iI i))] [] := by
    intro fu
    induction fu with
    | zero => intro ρ i hn; exact absurd hn (Nat.not_lt_zero _)
    | succ fu ih_loop =>
      intro ρ i hn hi hρ
      refine g_iload_n hΓ rfl dJ2_clear_27 ?_
      refine g_iload_n hΓ rfl dJ2_clear_28 ?_
      refine g_icmp_ge (tgt := 42) hΓ (by omega) (by omega) dJ2_clear_29 (by decide) (fun c5 => ?_) (fun c5 => ?_)
      · exact x_vret hΓ dJ2_clear_42 (Nat.zero_le _) (Nat.zero_le _) ⟨rfl, GI_clear hg hk9 (fun q9 j9 h9 => (τ4f q9 j9 (Or.inl h9)).trans (τ2f q9 j9 (Or.inl h9))) τ4r (fun q9 j9 h9 => hρ q9 j9 (by rw [← hbe1] at h9; omega)), rfl⟩
      · refine g_aload_n hΓ rfl dJ2_clear_32 ?_
        refine g_iload_n hΓ rfl dJ2_clear_33 ?_
        refine g_null hΓ dJ2_clear_34 ?_
        refine x_aastN hΓ hbk1 rfl (ks_20_28 hbq1) (hwb (by omega)).2.2.1 (by omega) (by omega) dJ2_clear_35 (fun ρ6 ρ6e => ?_)
        have ρ6r : ρ6 b1 i = none := by rw [ρ6e]; exact ur_s _ _ _ _
        have ρ6f : ∀ (q9 : Nat) (j9 : Int), (q9 ≠ b1 ∨ j9 ≠ i) → ρ6 q9 j9 = ρ q9 j9 := fun q9 j9 hh => by rw [ρ6e]; exact ur_n hh
        obtain ⟨x7, ex7⟩ : ∃ z9 : Int, z9 = i + 1 := ⟨_, rfl⟩
        refine g_iinc hΓ dJ2_clear_36 rfl rfl (lv' := [some (.ref a), some (.ref b1), some (.int (iI x3)), some (.int (iI x7))]) (by rw [ex7]; rfl) ?_
        refine g_goto (tgt := 27) hΓ dJ2_clear_39 (by decide) ?_
        exact ih_loop ρ6 x7 (by omega) (by omega) (fun q9 j9 h9 => (ρ6f q9 j9 (by omega)).trans (hρ q9 j9 (by omega)))
  refine g_istore_n hΓ dJ2_clear_26 rfl (Nat.le_of_ble_eq_true rfl) (lv' := [some (.ref a), some (.ref b1), some (.int (iI x3)), some (.int (iI 0))]) rfl ?_
  exact loop (x3.toNat + 1) R 0 (by omega) (by omega) (fun q9 j9 h9 => rfl)
set_option maxHeartbeats 4000000 in
theorem x_J2_fastRemove {l : Launch} {E : gE} {X : State → Prop} {Z : Nat → Nat} {Y : Nat → Option Nat} (hE : E.2.1 = clsX) (hX : xOK l E X Z Y) (S : xS) (D : xD) (R : xR) (a b k : Nat) (i : Int) (ha : (S a).1 = k) (hk : 10 ≤ k ∧ k ≤ 17) (hg : GI E Z S D R) (hb : b = rf R a 1) (hi : 0 ≤ i ∧ i < D a 2) : xC l E X yJ2_fastRemove cJ2_fastRemove 4 none 1 0 0 [.ref a, .ref b, .int (iI i)] S D R (fun rv S' D' R' => rv = none ∧ (GI E Z S D' R' ∧ D' a 2 = D a 2 - 1 ∧ chg (lT S a) S S D D' R R' ∧ ∀ j, 0 ≤ j → j < D a 2 - 1 → lE R' a j = lE R a (if j < i then j else j + 1)) ∧ S' = S) := by
  refine xC.ofF hX.1 (by decide +kernel) [some (.ref a), some (.ref b), some (.int (iI i)), none] (Nat.le_of_ble_eq_true rfl) rfl rfl (fun Γ hΓ => ?_)
  have hAw := hg.2.2.2.2.2.2
  have hk9 : 10 ≤ (S a).1 ∧ (S a).1 ≤ 17 := by rw [ha]; exact hk
  have hls := hg.2.1 a hk9.1 hk9.2
  have hne := ls_ne hg hk9
  have hwb := fun (h9 : 0 < (S (rf R a 1)).2.1) => ls_own hg hk9 h9
  obtain ⟨b0, kb1, hbr1, hbe1, hbk1, hbq1, hbc1⟩ := lsOK_b hls hk9
  have hbb : b = b0 := hb.trans hbe1.symm
  subst hbb
  rw [← hbe1] at hwb hne
  refine g_aload_n hΓ rfl dJ2_fastRemove_0 ?_
  refine g_dup hΓ rfl dJ2_fastRemove_1 ?_
  refine x_getiS (c := 10) hE hΓ in_J2 rfl ha (ks_10_17 hk) 0 (ji := 0) rfl (by decide) (by decide) rfl q179 q180 rfl dJ2_fastRemove_2 ?_
  refine g_iconst hΓ dJ2_fastRemove_5 ?_
  refine g_iadd hΓ dJ2_fastRemove_6 ?_
  refine x_putSi (c := 10) hE hΓ in_J2 rfl ha (ks_10_17 hk) tyJ2 tyJ2_ok nmJ2 (hAw _ (by rw [ha]; exact wk_10_17 hk)) 0 (ji := 0) rfl (by decide) (by decide) rfl q179 q180 rfl rfl rfl rfl rfl dJ2_fastRemove_7 (fun τ2 τ2e => ?_)
  have τ2r : τ2 a 0 = (D a 0) + 1 := by rw [τ2e]; exact us_s _ _ _ _
  have τ2f : ∀ (q9 : Nat) (j9 : Int), (q9 ≠ a ∨ j9 ≠ 0) → τ2 q9 j9 = D q9 j9 := fun q9 j9 hh => by rw [τ2e]; exact us_n hh
  refine g_aload_n hΓ rfl dJ2_fastRemove_10 ?_
  refine x_geti (c := 10) hE hΓ in_J2 rfl ha (ks_10_17 hk) 2 (ji := 2) rfl (by decide) (by decide) rfl q177 rfl rfl dJ2_fastRemove_11 ?_
  refine g_topi ((τ2f a 2 (Or.inr (by decide)))) ?_
  refine g_iconst hΓ dJ2_fastRemove_14 ?_
  refine g_isub hΓ dJ2_fastRemove_15 ?_
  refine g_dup hΓ rfl dJ2_fastRemove_16 ?_
  obtain ⟨x3, ex3⟩ : ∃ z9 : Int, z9 = (D a 2) - 1 := ⟨_, rfl⟩
  refine g_topi ex3.symm ?_
  refine g_istore_n hΓ dJ2_fastRemove_17 rfl (Nat.le_of_ble_eq_true rfl) (lv' := [some (.ref a), some (.ref b), some (.int (iI i)), some (.int (iI x3))]) rfl ?_
  refine g_iload_n hΓ rfl dJ2_fastRemove_18 ?_
  refine g_icmp_le (tgt := 34) hΓ (by omega) (by omega) dJ2_fastRemove_19 (by decide) (fun c4 => ?_) (fun c4 => ?_)
  · refine g_aload_n hΓ rfl dJ2_fastRemove_34 ?_
    refine g_aload_n hΓ rfl dJ2_fastRemove_35 ?_
    refine g_iload_n hΓ rfl dJ2_fastRemove_36 ?_
    refine g_dup_x1 hΓ rfl rfl dJ2_fastRemove_37 ?_
    refine x_puti (c := 10) hE hΓ in_J2 rfl ha (ks_10_17 hk) tyJ2 tyJ2_ok nmJ2 (hAw _ (by rw [ha]; exact wk_10_17 hk)) 2 (ji := 2) rfl (by decide) (by decide) rfl q177 rfl rfl rfl rfl rfl rfl dJ2_fastRemove_38 (fun τ5 τ5e => ?_)
    have τ5r : τ5 a 2 = x3 := by rw [τ5e]; exact us_s _ _ _ _
    have τ5f : ∀ (q9 : Nat) (j9 : Int), (q9 ≠ a ∨ j9 ≠ 2) → τ5 q9 j9 = τ2 q9 j9 := fun q9 j9 hh => by rw [τ5e]; exact us_n hh
    refine g_null hΓ dJ2_fastRemove_41 ?_
    refine x_aastN hΓ hbk1 rfl (ks_20_28 hbq1) (hwb (by omega)).2.2.1 (by omega) (by omega) dJ2_fastRemove_42 (fun ρ6 ρ6e => ?_)
    have ρ6r : ρ6 b x3 = none := by rw [ρ6e]; exact ur_s _ _ _ _
    have ρ6f : ∀ (q9 : Nat) (j9 : Int), (q9 ≠ b ∨ j9 ≠ x3) → ρ6 q9 j9 = R q9 j9 := fun q9 j9 hh => by rw [ρ6e]; exact ur_n hh
    have hf9 := GI_rem (D' := τ5) (R' := ρ6) hg hk9 hi (fun q9 j9 h9 => (τ5f q9 j9 (Or.inl h9)).trans (τ2f q9 j9 (Or.inl h9))) (τ5r.trans (by omega)) (fun q9 j9 h9 => ρ6f q9 j9 (Or.inl (by rw [hbe1]; exact h9))) (fun j9 x9 y9 => by rw [← hbe1, ρ6f _ _ (Or.inr (by omega)), if_pos (by omega)])
    exact x_vret hΓ dJ2_fastRemove_43 (Nat.zero_le _) (Nat.zero_le _) ⟨rfl, hf9, rfl⟩
  · refine g_aload_n hΓ rfl dJ2_fastRemove_22 ?_
    refine g_iload_n hΓ rfl dJ2_fastRemove_23 ?_
    refine g_iconst hΓ dJ2_fastRemove_24 ?_
    refine g_iadd hΓ dJ2_fastRemove_25 ?_
    refine g_aload_n hΓ rfl dJ2_fastRemove_26 ?_
    refine g_iload_n hΓ rfl dJ2_fastRemove_27 ?_
    refine g_iload_n hΓ rfl dJ2_fastRemove_28 ?_
    refine g_iload_n hΓ rfl dJ2_fastRemove_29 ?_
    refine g_isub hΓ dJ2_fastRemove_30 ?_
    refine x_copyr hE hΓ (xn_new hX) rfl q1196 q194 q193 q128 hbk1 rfl (ks_20_28 hbq1) (hwb (by omega)).2.2.1 hbk1 rfl (ks_20_28 hbq1) (hwb (by omega)).2.2.1 (ls_hel hX hg hk9 hbe1 (by omega)) (by omega) (by decide) (Nat.le_of_ble_eq_true rfl) rfl dJ2_fastRemove_31 (fun ρ7 ρ7g ρ7r => ?_)
    refine g_aload_n hΓ rfl dJ2_fastRemove_34 ?_
    refine g_aload_n hΓ rfl dJ2_fastRemove_35 ?_
    refine g_iload_n hΓ rfl dJ2_fastRemove_36 ?_
    refine g_dup_x1 hΓ rfl rfl dJ2_fastRemove_37 ?_
    refine x_puti (c := 10) hE hΓ in_J2 rfl ha (ks_10_17 hk) tyJ2 tyJ2_ok nmJ2 (hAw _ (by rw [ha]; exact wk_10_17 hk)) 2 (ji := 2) rfl (by decide) (by decide) rfl q177 rfl rfl rfl rfl rfl rfl dJ2_fastRemove_38 (fun τ8 τ8e => ?_)
    have τ8r : τ8 a 2 = x3 := by rw [τ8e]; exact us_s _ _ _ _
    have τ8f : ∀ (q9 : Nat) (j9 : Int), (q9 ≠ a ∨ j9 ≠ 2) → τ8 q9 j9 = τ2 q9 j9 := fun q9 j9 hh => by rw [τ8e]; exact us_n hh
    refine g_null hΓ dJ2_fastRemove_41 ?_
    refine x_aastN hΓ hbk1 rfl (ks_20_28 hbq1) (hwb (by omega)).2.2.1 (by omega) (by omega) dJ2_fastRemove_42 (fun ρ9 ρ9e => ?_)
    have ρ9r : ρ9 b x3 = none := by rw [ρ9e]; exact ur_s _ _ _ _
    have ρ9f : ∀ (q9 : Nat) (j9 : Int), (q9 ≠ b ∨ j9 ≠ x3) → ρ9 q9 j9 = ρ7 q9 j9 := fun q9 j9 hh => by rw [ρ9e]; exact ur_n hh
    have hf9 := GI_rem (D' := τ8) (R' := ρ9) hg hk9 hi (fun q9 j9 h9 => (τ8f q9 j9 (Or.inl h9)).trans (τ2f q9 j9 (Or.inl h9))) (τ8r.trans (by omega)) (fun q9 j9 h9 => (ρ9f q9 j9 (Or.inl (by rw [hbe1]; exact h9))).trans (ρ7g q9 j9 (by rw [hbe1]; exact h9))) (fun j9 x9 y9 => by
      rw [← hbe1, ρ9f _ _ (Or.inr (by omega)), ρ7r, cpI]
      by_cases c9 : j9 < i
      · rw [if_neg (by omega), if_pos c9]
      · rw [if_pos (by omega), if_neg c9, show i + 1 + (j9 - i) = j9 + 1 by omega])
    exact x_vret hΓ dJ2_fastRemove_43 (Nat.zero_le _) (Nat.zero_le _) ⟨rfl, hf9, rfl⟩
set_option maxHeartbeats 4000000 in
theorem x_J2_remove {l : Launch} {E : gE} {X : State → Prop} {Z : Nat → Nat} {Y : Nat → Option Nat} (hE : E.2.1 = clsX) (hX : xOK l E X Z Y) (S : xS) (D : xD) (R : xR) (a k : Nat) (i : Int) (ha : (S a).1 = k) (hk : 10 ≤ k ∧ k ≤ 17) (hg : GI E Z S D R) (hi : 0 ≤ i ∧ i < D a 2) : xC l E X yJ2_remove cJ2_remove 4 (some (.object "java/lang/Object")) 3 0 0 [.ref a, .int (iI i)] S D R (fun rv S' D' R' => rv = some (.ref (lE R a i)) ∧ (GI E Z S D' R' ∧ D' a 2 = D a 2 - 1 ∧ chg (lT S a) S S D D' R R' ∧ ∀ j, 0 ≤ j → j < D a 2 - 1 → lE R' a j = lE R a (if j < i then j else j + 1)) ∧ S' = S) := by
  refine xC.ofF hX.1 (by decide +kernel) [some (.ref a), some (.int (iI i)), none, none] (Nat.le_of_ble_eq_true rfl) rfl rfl (fun Γ hΓ => ?_)
  have hAw := hg.2.2.2.2.2.2
  have hk9 : 10 ≤ (S a).1 ∧ (S a).1 ≤ 17 := by rw [ha]; exact hk
  have hls := hg.2.1 a hk9.1 hk9.2
  have hne := ls_ne hg hk9
  have hwb := fun (h9 : 0 < (S (rf R a 1)).2.1) => ls_own hg hk9 h9
  obtain ⟨b1, kb1, hbr1, hbe1, hbk1, hbq1, hbc1⟩ := lsOK_b hls hk9
  rw [← hbe1] at hwb hne
  have hel := ls_el hg hk9 hi.1 hi.2
  rw [← hbe1] at hel
  refine g_iload_n hΓ rfl dJ2_remove_0 ?_
  refine g_aload_n hΓ rfl dJ2_remove_1 ?_
  refine x_geti (c := 10) hE hΓ in_J2 rfl ha (ks_10_17 hk) 2 (ji := 2) rfl (by decide) (by decide) rfl q177 rfl rfl dJ2_remove_2 ?_
  refine x_callS (As := [.int (iI i), .int (iI (D a 2))]) (rest := []) hΓ (x_J12_checkIndex hE hX S D R i (D a 2) (by first | assumption | omega)) rfl q861 q862 q145 q863 ndJ12_checkIndex rfl (by decide) (by decide) (Nat.zero_le _) (Nat.zero_le _) rfl (Nat.le_of_ble_eq_true rfl) dJ2_remove_5 rfl (fun v2 S2 τ2 ρ2 h2 => ?_)
  obtain ⟨rfl, S2e, τ2e, ρ2e⟩ := h2
  have S2e := S2e.symm; subst S2e
  have τ2e := τ2e.symm; subst τ2e
  have ρ2e := ρ2e.symm; subst ρ2e
  show gW Γ E (xM E S D R) _ _ _ _ (.int (iI i) :: _)
  refine g_pop hΓ rfl dJ2_remove_8 ?_
  refine g_aload_n hΓ rfl dJ2_remove_9 ?_
  refine x_geta (r := some b1) (c := 10) hE hΓ in_J2 rfl ha (ks_10_17 hk) 1 (ji := 1) rfl (by decide) (by decide) rfl q176 rfl rfl hbr1 dJ2_remove_10 ?_
  show gW Γ E (xM E S D R) 0 0 _ _ (.ref b1 :: _)
  refine g_astore_n hΓ dJ2_remove_13 rfl (Nat.le_of_ble_eq_true rfl) (lv' := [some (.ref a), some (.int (iI i)), some (.ref b1), none]) rfl ?_
  refine g_aload_n hΓ rfl dJ2_remove_14 ?_
  refine g_iload_n hΓ rfl dJ2_remove_15 ?_
  refine x_aaldO (r := some (lE R a i)) hΓ hbk1 rfl (ks_20_28 hbq1) (by omega) (by omega) hel.1 dJ2_remove_16 ?_
  show gW Γ E (xM E S D R) 0 0 _ _ (.ref (lE R a i) :: _)
  refine g_astore_n hΓ dJ2_remove_17 rfl (Nat.le_of_ble_eq_true rfl) (lv' := [some (.ref a), some (.int (iI i)), some (.ref b1), some (.ref (lE R a i))]) rfl ?_
  refine g_aload_n hΓ rfl dJ2_remove_18 ?_
  refine g_aload_n hΓ rfl dJ2_remove_19 ?_
  refine g_iload_n hΓ rfl dJ2_remove_20 ?_
  refine x_callV (As := [.ref b1, .int (iI i)]) (rest := []) (c := 10) hE hΓ (x_J2_fastRemove hE hX S D R a b1 k i ha hk hg hbe1 hi ) ha (ks_10_17 hk) rfl rfl q1254 q1256 qs50 q127 q1257 ndJ2_fastRemove rfl (by decide) (by decide) (Nat.zero_le _) (Nat.zero_le _) rfl (Nat.le_of_ble_eq_true rfl) dJ2_remove_21 rfl (fun v3 S3 τ3 ρ3 h3 => ?_)
  obtain ⟨rfl, h3, S3e⟩ := h3
  have S3e := S3e.symm; subst S3e
  refine g_aload_n hΓ rfl dJ2_remove_24 ?_
  exact x_aret hΓ (Or.inl ⟨_, rfl⟩) (Or.inr ⟨_, rfl⟩) dJ2_remove_25 (Nat.zero_le _) (Nat.zero_le _) ⟨rfl, h3, rfl⟩
set_option maxHeartbeats 4000000 in
theorem x_J2_set {l : Launch} {E : gE} {X : State → Prop} {Z : Nat → Nat} {Y : Nat → Option Nat} (hE : E.2.1 = clsX) (hX : xOK l E X Z Y) (S : xS) (D : xD) (R : xR) (a e k ke : Nat) (i : Int) (ha : (S a).1 = k) (hk : 10 ≤ k ∧ k ≤ 17) (hg : GI E Z S D R) (he : (S e).1 = ke) (hke : ke = lek k) (hi : 0 ≤ i ∧ i < D a 2) : xC l E X yJ2_set cJ2_set 4 (some (.object "java/lang/Object")) 3 0 0 [.ref a, .int (iI i), .ref e] S D R (fun rv S' D' R' => rv = some (.ref (lE R a i)) ∧ (GI E Z S D' R' ∧ D' = D ∧ chg (lT S a) S S D D' R R' ∧ ∀ j, 0 ≤ j → j < D a 2 → lE R' a j = if j = i then e else lE R a j) ∧ S' = S) := by
  refine xC.ofF hX.1 (by decide +kernel) [some (.ref a), some (.int (iI i)), some (.ref e), none] (Nat.le_of_ble_eq_true rfl) rfl rfl (fun Γ hΓ => ?_)
  have hAw := hg.2.2.2.2.2.2
  have hk9 : 10 ≤ (S a).1 ∧ (S a).1 ≤ 17 := by rw [ha]; exact hk
  have hls := hg.2.1 a hk9.1 hk9.2
  have hne := ls_ne hg hk9
  have hwb := fun (h9 : 0 < (S (rf R a 1)).2.1) => ls_own hg hk9 h9
  obtain ⟨b1, kb1, hbr1, hbe1, hbk1, hbq1, hbc1⟩ := lsOK_b hls hk9
  rw [← hbe1] at hwb hne
  have hE9 := el_c (S := S) (q := e) hX hk (by rw [he, hke])
  rw [he] at hE9
  obtain ⟨c9, hc9, ⟨C9, T9, N9⟩, hcl9, hca9⟩ := hE9
  have hel := ls_el hg hk9 hi.1 hi.2
  rw [← hbe1] at hel
  refine g_iload_n hΓ rfl dJ2_set_0 ?_
  refine g_aload_n hΓ rfl dJ2_set_1 ?_
  refine x_geti (c := 10) hE hΓ in_J2 rfl ha (ks_10_17 hk) 2 (ji := 2) rfl (by decide) (by decide) rfl q177 rfl rfl dJ2_set_2 ?_
  refine x_callS (As := [.int (iI i), .int (iI (D a 2))]) (rest := []) hΓ (x_J12_checkIndex hE hX S D R i (D a 2) (by first | assumption | omega)) rfl q861 q862 q145 q863 ndJ12_checkIndex rfl (by decide) (by decide) (Nat.zero_le _) (Nat.zero_le _) rfl (Nat.le_of_ble_eq_true rfl) dJ2_set_5 rfl (fun v2 S2 τ2 ρ2 h2 => ?_)
  obtain ⟨rfl, S2e, τ2e, ρ2e⟩ := h2
  have S2e := S2e.symm; subst S2e
  have τ2e := τ2e.symm; subst τ2e
  have ρ2e := ρ2e.symm; subst ρ2e
  show gW Γ E (xM E S D R) _ _ _ _ (.int (iI i) :: _)
  refine g_pop hΓ rfl dJ2_set_8 ?_
  refine g_aload_n hΓ rfl dJ2_set_9 ?_
  refine g_iload_n hΓ rfl dJ2_set_10 ?_
  refine x_callV (As := [.int (iI i)]) (rest := []) (c := 10) hE hΓ (x_J2_elementData hE hX S D R a b1 (lE R a i) k kb1 ((S b1).2.1) i ha hk hbr1 hbk1 hbq1 rfl (by omega)  hel.1 ) ha (ks_10_17 hk) rfl rfl q867 q868 q869 q127 q870 ndJ2_elementData rfl (by decide) (by decide) (Nat.zero_le _) (Nat.zero_le _) rfl (Nat.le_of_ble_eq_true rfl) dJ2_set_11 rfl (fun v3 S3 τ3 ρ3 h3 => ?_)
  obtain ⟨rfl, S3e, τ3e, ρ3e⟩ := h3
  have S3e := S3e.symm; subst S3e
  have τ3e := τ3e.symm; subst τ3e
  have ρ3e := ρ3e.symm; subst ρ3e
  show gW Γ E (xM E S D R) _ _ _ _ (.ref (lE R a i) :: _)
  refine g_astore_n hΓ dJ2_set_14 rfl (Nat.le_of_ble_eq_true rfl) (lv' := [some (.ref a), some (.int (iI i)), some (.ref e), some (.ref (lE R a i))]) rfl ?_
  refine g_aload_n hΓ rfl dJ2_set_15 ?_
  refine x_geta (r := some b1) (c := 10) hE hΓ in_J2 rfl ha (ks_10_17 hk) 1 (ji := 1) rfl (by decide) (by decide) rfl q176 rfl rfl hbr1 dJ2_set_16 ?_
  show gW Γ E (xM E S D R) 0 0 _ _ (.ref b1 :: _)
  refine g_iload_n hΓ rfl dJ2_set_19 ?_
  refine g_aload_n hΓ rfl dJ2_set_20 ?_
  refine x_aastO (c := c9) hE hΓ hbk1 rfl (ks_20_28 hbq1) (hwb (by omega)).2.2.1 he hc9 hcl9 hca9 (by omega) (by omega) dJ2_set_21 (fun ρ5 ρ5e => ?_)
  have ρ5r : ρ5 b1 i = some e := by rw [ρ5e]; exact ur_s _ _ _ _
  have ρ5f : ∀ (q9 : Nat) (j9 : Int), (q9 ≠ b1 ∨ j9 ≠ i) → ρ5 q9 j9 = R q9 j9 := fun q9 j9 hh => by rw [ρ5e]; exact ur_n hh
  refine g_aload_n hΓ rfl dJ2_set_22 ?_
  have hf9 := GI_setE (R' := ρ5) (e := e) hg hk9 hi (by rw [he, hke, ha]) (fun q9 j9 h9 => ρ5f q9 j9 (by rw [← hbe1] at h9; exact h9)) (by rw [← hbe1]; exact ρ5r)
  exact x_aret hΓ (Or.inl ⟨_, rfl⟩) (Or.inr ⟨_, rfl⟩) dJ2_set_23 (Nat.zero_le _) (Nat.zero_le _) ⟨rfl, ⟨hf9.1, rfl, hf9.2⟩, rfl⟩
