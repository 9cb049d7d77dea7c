set_option maxRecDepth 100000
set_option maxHeartbeats 4000000 in
theorem x_X0_refused {l : Launch} {E : gE} {X : State → Prop} {Z : Nat → Nat} {Y : Nat → Option Nat} (hE : E.2.1 = clsX) (hX : xOK l E X Z Y) (S : xS) (D : xD) (R : xR) (P : xPk) (σ : mS) (r : Int) (hx : Rx E Z S D R P σ) (hr : 0 ≤ r ∧ r < 6) : xC l E X yX0_refused cX0_refused 2 (some .int) 0 0 0 [.ref (P.1), .int (iI r)] S D R (fun rv S' D' R' => rv = some (.int (iI (-1))) ∧ (Rx E Z S D' R P (us σ 13 r (σ 13 r + 1))) ∧ S' = S ∧ fr S D D' [52] ∧ R' = R) := by
  refine xC.of hX.1 (by decide) [some (.ref (P.1)), some (.int (iI r))] (Nat.le_of_ble_eq_true rfl) rfl rfl (fun Γ hΓ => ?_)
  obtain ⟨hg, hp, hki, hro, hnw, hbh, hsa, hpd⟩ := id hx
  obtain ⟨N, NI, NM, NV, hN⟩ := (hx).now
  have hAw := hg.2.2.2.2.2.2
  have hG : GS S D R := hg.1
  obtain ⟨h1000, h1009, h1042, h1043, h1044, h1045, h1046, h1047, hms, hsi, hsm, hnm⟩ := id hro
  have eN := hN.2.2.2.2.2.2.2.2.2.2.2.2
  have kNV : (S NV).1 = 45 := by rw [hN.2.2.2.1.2]
  have nNV : (S NV).2.1 = 6 := by rw [hN.2.2.2.1.2]
  refine g_aload_n hΓ rfl dX0_refused_0 ?_
  refine x_geta (r := some (P.2.1 2)) (c := 0) hE hΓ in_X0 rfl hp.1 ⟨by decide, rfl⟩ 2 (ji := 2) rfl (by decide) (by decide) rfl q247 rfl rfl (pA_r hp 2 rfl rfl) dX0_refused_1 ?_
  show gW Γ E (xM E S D R) 0 0 _ _ (.ref (P.2.1 2) :: _)
  refine g_iload_n hΓ rfl dX0_refused_4 ?_
  refine g_dup2 hΓ rfl rfl dX0_refused_5 ?_
  refine x_iald hΓ (pA_k hp 2 rfl (n := 52) rfl) (pA_n hp 2 rfl (n := 6) rfl) ⟨by decide, rfl⟩ (by omega) (by omega) dX0_refused_6 ?_
  refine g_topi ((hpd.2.2.1 r (by omega) (by omega))) ?_
  refine g_iconst hΓ dX0_refused_7 ?_
  refine g_iadd hΓ dX0_refused_8 ?_
  refine x_iast hΓ (pA_k hp 2 rfl (n := 52) rfl) (pA_n hp 2 rfl (n := 6) rfl) ⟨by decide, rfl⟩ (hAw _ (by rw [(pA_k hp 2 rfl (n := 52) rfl)]; rfl)) (by omega) (by omega) dX0_refused_9 (fun τ1 τ1e => ?_)
  have τ1r : τ1 (P.2.1 2) r = (σ 13 r) + 1 := by rw [τ1e]; exact us_s _ _ _ _
  have τ1f : ∀ (q9 : Nat) (j9 : Int), (q9 ≠ (P.2.1 2) ∨ j9 ≠ r) → τ1 q9 j9 = D q9 j9 := fun q9 j9 hh => by rw [τ1e]; exact us_n hh
  refine g_iconst hΓ dX0_refused_10 ?_
  have hf9 : fr S D τ1 [52] := (fun q9 j9 hk9 => by exact (τ1f q9 j9 (Or.inl (fun e9 => hk9 (by rw [e9, (pA_k hp 2 rfl (n := 52) rfl), mdN _ (by decide)]; decide)))))
  exact x_iret hΓ dX0_refused_11 (Nat.zero_le _) (Nat.zero_le _) ⟨rfl, (Rx_pen hx hf9 (by decide) (us_f (by decide)) (us_f (by decide)) (us_n (Or.inl (by decide))) (us_n (Or.inl (by decide))) (us_f (by decide)) (us_f (by decide)) (us_f (by decide)) (us_f (by decide)) ⟨by rw [show τ1 P.1 1 = D P.1 1 from fr_at hf9 hp.1 (by decide)]; exact hpd.1, by rw [show τ1 (P.2.1 0) = D (P.2.1 0) from fr_row hf9 (pA_k hp 0 rfl (n := 50) rfl) (by decide) (by decide)]; exact hpd.2.1, fun j x9 y9 => by by_cases c9 : j = r; rw [c9, us_s]; exact τ1r; rw [us_n (Or.inr c9), τ1f _ _ (Or.inr c9)]; exact hpd.2.2.1 j x9 y9, by rw [show τ1 P.1 7 = D P.1 7 from fr_at hf9 hp.1 (by decide), show τ1 P.1 8 = D P.1 8 from fr_at hf9 hp.1 (by decide)]; exact hpd.2.2.2.1, by rw [show τ1 P.1 35 = D P.1 35 from fr_at hf9 hp.1 (by decide)]; exact hpd.2.2.2.2.1, by rw [show τ1 P.1 37 = D P.1 37 from fr_at hf9 hp.1 (by decide)]; exact hpd.2.2.2.2.2.1, by rw [show τ1 (P.2.1 36) = D (P.2.1 36) from fr_row hf9 (pA_k hp 36 rfl (n := 86) rfl) (by decide) (by decide)]; exact hpd.2.2.2.2.2.2⟩), rfl, (fun q9 j9 hk9 => by exact (τ1f q9 j9 (Or.inl (fun e9 => hk9 (by rw [e9, (pA_k hp 2 rfl (n := 52) rfl), mdN _ (by decide)]; decide))))), rfl⟩
set_option maxHeartbeats 4000000 in
theorem x_X0_refuses {l : Launch} {E : gE} {X : State → Prop} {Z : Nat → Nat} {Y : Nat → Option Nat} (hE : E.2.1 = clsX) (hX : xOK l E X Z Y) (S : xS) (D : xD) (R : xR) (P : xPk) (σ : mS) (r : Int) (hx : Rx E Z S D R P σ) (hr : 0 ≤ r ∧ r < 6) : xC l E X yX0_refuses cX0_refuses 2 (some .boolean) 1 0 0 [.ref (P.1), .int (iI r)] S D R (fun rv S' D' R' => rv = some (.int (iI 0)) ∧ (Rx E Z S D' R P (us σ 13 r (σ 13 r + 1))) ∧ S' = S ∧ fr S D D' [52] ∧ R' = R) := by
  refine xC.of hX.1 (by decide) [some (.ref (P.1)), some (.int (iI r))] (Nat.le_of_ble_eq_true rfl) rfl rfl (fun Γ hΓ => ?_)
  obtain ⟨hg, hp, hki, hro, hnw, hbh, hsa, hpd⟩ := id hx
  obtain ⟨N, NI, NM, NV, hN⟩ := (hx).now
  have hAw := hg.2.2.2.2.2.2
  have hG : GS S D R := hg.1
  obtain ⟨h1000, h1009, h1042, h1043, h1044, h1045, h1046, h1047, hms, hsi, hsm, hnm⟩ := id hro
  have eN := hN.2.2.2.2.2.2.2.2.2.2.2.2
  have kNV : (S NV).1 = 45 := by rw [hN.2.2.2.1.2]
  have nNV : (S NV).2.1 = 6 := by rw [hN.2.2.2.1.2]
  refine g_aload_n hΓ rfl dX0_refuses_0 ?_
  refine g_iload_n hΓ rfl dX0_refuses_1 ?_
  refine x_callV (As := [.int (iI r)]) (rest := []) (c := 0) hE hΓ (x_X0_refused hE hX S D R P σ r hx (by first | assumption | omega) ) hp.1 ⟨by decide, rfl⟩ rfl rfl q366 q368 qs2 q123 q369 ndX0_refused rfl (by decide) (by decide) (Nat.zero_le _) (Nat.zero_le _) rfl (Nat.le_of_ble_eq_true rfl) dX0_refuses_2 rfl (fun v1 S1 τ1 ρ1 h1 => ?_)
  obtain ⟨rfl, h1, S1e, τ1f, ρ1e⟩ := h1
  have S1e := S1e.symm; subst S1e
  have ρ1e := ρ1e.symm; subst ρ1e
  show gW Γ E (xM E S τ1 R) _ _ _ _ (.int (iI (-1)) :: _)
  refine g_iconst hΓ dX0_refuses_5 ?_
  refine g_icmp_eq (tgt := 13) hΓ (by omega) (by omega) dX0_refuses_6 (by decide) (fun c2 => ?_) (fun c2 => ?_)
  · refine g_iconst hΓ dX0_refuses_13 ?_
    exact x_zret hΓ (by omega) dX0_refuses_14 (Nat.zero_le _) (Nat.zero_le _) ⟨rfl, h1, rfl, (fun q9 j9 hk9 => by exact (τ1f q9 j9 (fun e9 => hk9 ((show ∀ x ∈ [52], x ∈ [52] by decide) _ e9)))), rfl⟩
  · exact absurd c2 (by decide)
set_option maxHeartbeats 4000000 in
theorem x_X0_end {l : Launch} {E : gE} {X : State → Prop} {Z : Nat → Nat} {Y : Nat → Option Nat} (hE : E.2.1 = clsX) (hX : xOK l E X Z Y) (S : xS) (D : xD) (R : xR) (P : xPk) (σ : mS) (n : Int) (hx : Rx E Z S D R P σ) (hn : r32 n) : xC l E X yX0_end cX0_end 2 (some .boolean) 2 0 0 [.ref (P.1), .int (iI n)] S D R (fun rv S' D' R' => rv = some (.int (iI (if n < 0 ∨ σ 12 0 < n then 0 else 1))) ∧ (Rx E Z S D' R P (if n < 0 ∨ σ 12 0 < n then us σ 13 0 (σ 13 0 + 1) else us σ 12 0 n)) ∧ S' = S ∧ fr S D D' [52, 1001] ∧ R' = R) := by
  refine xC.of hX.1 (by decide) [some (.ref (P.1)), some (.int (iI n))] (Nat.le_of_ble_eq_true rfl) rfl rfl (fun Γ hΓ => ?_)
  obtain ⟨hg, hp, hki, hro, hnw, hbh, hsa, hpd⟩ := id hx
  obtain ⟨N, NI, NM, NV, hN⟩ := (hx).now
  have hAw := hg.2.2.2.2.2.2
  have hG : GS S D R := hg.1
  obtain ⟨h1000, h1009, h1042, h1043, h1044, h1045, h1046, h1047, hms, hsi, hsm, hnm⟩ := id hro
  have eN := hN.2.2.2.2.2.2.2.2.2.2.2.2
  have kNV : (S NV).1 = 45 := by rw [hN.2.2.2.1.2]
  have nNV : (S NV).2.1 = 6 := by rw [hN.2.2.2.1.2]
  have htp := hpd.1.2
  refine g_iload_n hΓ rfl dX0_end_0 ?_
  refine g_if_lt (tgt := 12) hΓ (by omega) dX0_end_1 (by decide) (fun c1 => ?_) (fun c1 => ?_)
  · refine g_aload_n hΓ rfl dX0_end_12 ?_
    refine g_iconst hΓ dX0_end_13 ?_
    refine x_callV (As := [.int (iI 0)]) (rest := []) (c := 0) hE hΓ (x_X0_refuses hE hX S D R P σ 0 hx (by first | assumption | omega) ) hp.1 ⟨by decide, rfl⟩ rfl rfl q378 q380 qs4 q123 q381 ndX0_refuses rfl (by decide) (by decide) (Nat.zero_le _) (Nat.zero_le _) rfl (Nat.le_of_ble_eq_true rfl) dX0_end_14 rfl (fun v2 S2 τ2 ρ2 h2 => ?_)
    obtain ⟨rfl, h2, S2e, τ2f, ρ2e⟩ := h2
    have S2e := S2e.symm; subst S2e
    have ρ2e := ρ2e.symm; subst ρ2e
    show gW Γ E (xM E S τ2 R) _ _ _ _ (.int (iI 0) :: _)
    exact x_zret hΓ (by omega) dX0_end_17 (Nat.zero_le _) (Nat.zero_le _) ⟨ri (by rw [if_pos (by omega)]), (by rw [if_pos (by omega)]; exact h2), rfl, (fun q9 j9 hk9 => by exact (τ2f q9 j9 (fun e9 => hk9 ((show ∀ x ∈ [52], x ∈ [52, 1001] by decide) _ e9)))), rfl⟩
  · refine g_iload_n hΓ rfl dX0_end_4 ?_
    refine g_aload_n hΓ rfl dX0_end_5 ?_
    refine x_geti (c := 0) hE hΓ in_X0 rfl hp.1 ⟨by decide, rfl⟩ 1 (ji := 1) rfl (by decide) (by decide) rfl q246 rfl rfl dX0_end_6 ?_
    refine g_topi (hpd.1.1) ?_
    refine g_icmp_le (tgt := 18) hΓ (by omega) (by omega) dX0_end_9 (by decide) (fun c3 => ?_) (fun c3 => ?_)
    · refine g_aload_n hΓ rfl dX0_end_18 ?_
      refine g_iload_n hΓ rfl dX0_end_19 ?_
      refine x_puti (c := 0) hE hΓ in_X0 rfl hp.1 ⟨by decide, rfl⟩ tyX0 tyX0_ok nmX0 (hAw _ (by rw [hp.1]; rfl)) 1 (ji := 1) rfl (by decide) (by decide) rfl q246 rfl rfl rfl rfl rfl rfl dX0_end_20 (fun τ4 τ4e => ?_)
      have τ4r : τ4 (P.1) 1 = n := by rw [τ4e]; exact us_s _ _ _ _
      have τ4f : ∀ (q9 : Nat) (j9 : Int), (q9 ≠ (P.1) ∨ j9 ≠ 1) → τ4 q9 j9 = D q9 j9 := fun q9 j9 hh => by rw [τ4e]; exact us_n hh
      refine g_iconst hΓ dX0_end_23 ?_
      have hf9 : fr S D τ4 [1001] := (fun q9 j9 hk9 => by exact (τ4f q9 j9 (by by_cases e9 : q9 = (P.1); exact Or.inr (fun e8 => hk9 (by rw [e9, e8, hp.1]; decide)); exact Or.inl e9)))
      exact x_zret hΓ (by omega) dX0_end_24 (Nat.zero_le _) (Nat.zero_le _) ⟨ri (by rw [if_neg (by omega)]), (by rw [if_neg (by omega)]; exact (Rx_pen hx hf9 (by decide) (us_f (by decide)) (us_f (by decide)) (us_n (Or.inl (by decide))) (us_n (Or.inl (by decide))) (us_f (by decide)) (us_f (by decide)) (us_f (by decide)) (us_f (by decide)) ⟨⟨by rw [us_s]; exact τ4r, by rw [us_s]; omega⟩, by rw [show τ4 (P.2.1 0) = D (P.2.1 0) from fr_row hf9 (pA_k hp 0 rfl (n := 50) rfl) (by decide) (by decide)]; exact hpd.2.1, by rw [show τ4 (P.2.1 2) = D (P.2.1 2) from fr_row hf9 (pA_k hp 2 rfl (n := 52) rfl) (by decide) (by decide)]; exact hpd.2.2.1, by rw [show τ4 P.1 7 = D P.1 7 from fr_at hf9 hp.1 (by decide), show τ4 P.1 8 = D P.1 8 from fr_at hf9 hp.1 (by decide)]; exact hpd.2.2.2.1, by rw [show τ4 P.1 35 = D P.1 35 from fr_at hf9 hp.1 (by decide)]; exact hpd.2.2.2.2.1, by rw [show τ4 P.1 37 = D P.1 37 from fr_at hf9 hp.1 (by decide)]; exact hpd.2.2.2.2.2.1, by rw [show τ4 (P.2.1 36) = D (P.2.1 36) from fr_row hf9 (pA_k hp 36 rfl (n := 86) rfl) (by decide) (by decide)]; exact hpd.2.2.2.2.2.2⟩)), rfl, (fun q9 j9 hk9 => by exact (τ4f q9 j9 (by by_cases e9 : q9 = (P.1); exact Or.inr (fun e8 => hk9 (by rw [e9, e8, hp.1]; decide)); exact Or.inl e9))), rfl⟩
    · refine g_aload_n hΓ rfl dX0_end_12 ?_
      refine g_iconst hΓ dX0_end_13 ?_
      refine x_callV (As := [.int (iI 0)]) (rest := []) (c := 0) hE hΓ (x_X0_refuses hE hX S D R P σ 0 hx (by first | assumption | omega) ) hp.1 ⟨by decide, rfl⟩ rfl rfl q378 q380 qs4 q123 q381 ndX0_refuses rfl (by decide) (by decide) (Nat.zero_le _) (Nat.zero_le _) rfl (Nat.le_of_ble_eq_true rfl) dX0_end_14 rfl (fun v5 S5 τ5 ρ5 h5 => ?_)
      obtain ⟨rfl, h5, S5e, τ5f, ρ5e⟩ := h5
      have S5e := S5e.symm; subst S5e
      have ρ5e := ρ5e.symm; subst ρ5e
      show gW Γ E (xM E S τ5 R) _ _ _ _ (.int (iI 0) :: _)
      exact x_zret hΓ (by omega) dX0_end_17 (Nat.zero_le _) (Nat.zero_le _) ⟨ri (by rw [if_pos (by omega)]), (by rw [if_pos (by omega)]; exact h5), rfl, (fun q9 j9 hk9 => by exact (τ5f q9 j9 (fun e9 => hk9 ((show ∀ x ∈ [52], x ∈ [52, 1001] by decide) _ e9)))), rfl⟩
set_option maxHeartbeats 4000000 in
theorem x_X0_seed {l : Launch} {E : gE} {X : State → Prop} {Z : Nat → Nat} {Y : Nat → Option Nat} (hE : E.2.1 = clsX) (hX : xOK l E X Z Y) (S : xS) (D : xD) (R : xR) (P : xPk) (σ : mS) (x : Int) (hx : Rx E Z S D R P σ) (hr32 : r32 x) : xC l E X yX0_seed cX0_seed 2 (some .boolean) 2 0 0 [.ref (P.1), .int (iI x)] S D R (fun rv S' D' R' => rv = some (.int (iI (if 0 ≤ x then 1 else 0))) ∧ (Rx E Z S D' R P (if x < 0 then us σ 13 5 (σ 13 5 + 1) else us σ 5 0 x)) ∧ S' = S ∧ fr S D D' [52, 1035] ∧ R' = R) := by
  refine xC.of hX.1 (by decide) [some (.ref (P.1)), some (.int (iI x))] (Nat.le_of_ble_eq_true rfl) rfl rfl (fun Γ hΓ => ?_)
  obtain ⟨hg, hp, hki, hro, hnw, hbh, hsa, hpd⟩ := id hx
  obtain ⟨N, NI, NM, NV, hN⟩ := (hx).now
  have hAw := hg.2.2.2.2.2.2
  have hG : GS S D R := hg.1
  obtain ⟨h1000, h1009, h1042, h1043, h1044, h1045, h1046, h1047, hms, hsi, hsm, hnm⟩ := id hro
  have eN := hN.2.2.2.2.2.2.2.2.2.2.2.2
  have kNV : (S NV).1 = 45 := by rw [hN.2.2.2.1.2]
  have nNV : (S NV).2.1 = 6 := by rw [hN.2.2.2.1.2]
  refine g_iload_n hΓ rfl dX0_seed_0 ?_
  refine g_if_ge (tgt := 10) hΓ (by omega) dX0_seed_1 (by decide) (fun c1 => ?_) (fun c1 => ?_)
  · refine g_aload_n hΓ rfl dX0_seed_10 ?_
    refine g_iload_n hΓ rfl dX0_seed_11 ?_
    refine g_i2l hΓ (by omega) dX0_seed_12 ?_
    refine x_putl (c := 0) hE hΓ in_X0 rfl hp.1 ⟨by decide, rfl⟩ tyX0 tyX0_ok nmX0 (hAw _ (by rw [hp.1]; rfl)) 35 (ji := 35) rfl (by decide) (by decide) rfl q281 rfl rfl rfl rfl rfl rfl dX0_seed_13 (fun τ2 τ2e => ?_)
    have τ2r : τ2 (P.1) 35 = x := by rw [τ2e]; exact us_s _ _ _ _
    have τ2f : ∀ (q9 : Nat) (j9 : Int), (q9 ≠ (P.1) ∨ j9 ≠ 35) → τ2 q9 j9 = D q9 j9 := fun q9 j9 hh => by rw [τ2e]; exact us_n hh
    refine g_iconst hΓ dX0_seed_16 ?_
    have hf9 : fr S D τ2 [1035] := (fun q9 j9 hk9 => by exact (τ2f q9 j9 (by by_cases e9 : q9 = (P.1); exact Or.inr (fun e8 => hk9 (by rw [e9, e8, hp.1]; decide)); exact Or.inl e9)))
    exact x_zret hΓ (by omega) dX0_seed_17 (Nat.zero_le _) (Nat.zero_le _) ⟨ri (by rw [if_pos (by omega)]), (by rw [if_neg (by omega)]; exact (Rx_pen hx hf9 (by decide) (us_f (by decide)) (us_f (by decide)) (us_n (Or.inl (by decide))) (us_n (Or.inl (by decide))) (us_f (by decide)) (us_f (by decide)) (us_f (by decide)) (us_f (by decide)) ⟨by rw [show τ2 P.1 1 = D P.1 1 from fr_at hf9 hp.1 (by decide)]; exact hpd.1, by rw [show τ2 (P.2.1 0) = D (P.2.1 0) from fr_row hf9 (pA_k hp 0 rfl (n := 50) rfl) (by decide) (by decide)]; exact hpd.2.1, by rw [show τ2 (P.2.1 2) = D (P.2.1 2) from fr_row hf9 (pA_k hp 2 rfl (n := 52) rfl) (by decide) (by decide)]; exact hpd.2.2.1, by rw [show τ2 P.1 7 = D P.1 7 from fr_at hf9 hp.1 (by decide), show τ2 P.1 8 = D P.1 8 from fr_at hf9 hp.1 (by decide)]; exact hpd.2.2.2.1, ⟨by rw [us_s]; exact τ2r, by rw [us_s]; omega⟩, by rw [show τ2 P.1 37 = D P.1 37 from fr_at hf9 hp.1 (by decide)]; exact hpd.2.2.2.2.2.1, by rw [show τ2 (P.2.1 36) = D (P.2.1 36) from fr_row hf9 (pA_k hp 36 rfl (n := 86) rfl) (by decide) (by decide)]; exact hpd.2.2.2.2.2.2⟩)), rfl, (fun q9 j9 hk9 => by exact (τ2f q9 j9 (by by_cases e9 : q9 = (P.1); exact Or.inr (fun e8 => hk9 (by rw [e9, e8, hp.1]; decide)); exact Or.inl e9))), rfl⟩
  · refine g_aload_n hΓ rfl dX0_seed_4 ?_
    refine g_iconst hΓ dX0_seed_5 ?_
    refine x_callV (As := [.int (iI 5)]) (rest := []) (c := 0) hE hΓ (x_X0_refuses hE hX S D R P σ 5 hx (by first | assumption | omega) ) hp.1 ⟨by decide, rfl⟩ rfl rfl q378 q380 qs4 q123 q381 ndX0_refuses rfl (by decide) (by decide) (Nat.zero_le _) (Nat.zero_le _) rfl (Nat.le_of_ble_eq_true rfl) dX0_seed_6 rfl (fun v3 S3 τ3 ρ3 h3 => ?_)
    obtain ⟨rfl, h3, S3e, τ3f, ρ3e⟩ := h3
    have S3e := S3e.symm; subst S3e
    have ρ3e := ρ3e.symm; subst ρ3e
    show gW Γ E (xM E S τ3 R) _ _ _ _ (.int (iI 0) :: _)
    exact x_zret hΓ (by omega) dX0_seed_9 (Nat.zero_le _) (Nat.zero_le _) ⟨ri (by rw [if_neg (by omega)]), (by rw [if_pos (by omega)]; exact h3), rfl, (fun q9 j9 hk9 => by exact (τ3f q9 j9 (fun e9 => hk9 ((show ∀ x ∈ [52], x ∈ [52, 1035] by decide) _ e9)))), rfl⟩
set_option maxHeartbeats 4000000 in
theorem x_X0_octet {l : Launch} {E : gE} {X : State → Prop} {Z : Nat → Nat} {Y : Nat → Option Nat} (hE : E.2.1 = clsX) (hX : xOK l E X Z Y) (S : xS) (D : xD) (R : xR) (P : xPk) (σ : mS) (k : Int) (hx : Rx E Z S D R P σ) (hk : r32 k) : xC l E X yX0_octet cX0_octet 2 (some .int) 1 0 0 [.ref (P.1), .int (iI k)] S D R (fun rv S' D' R' => rv = some (.int (iI (if 0 ≤ k ∧ k < σ 40 0 then σ 39 k else -1))) ∧ S' = S ∧ D' = D ∧ R' = R) := by
  refine xC.of hX.1 (by decide) [some (.ref (P.1)), some (.int (iI k))] (Nat.le_of_ble_eq_true rfl) rfl rfl (fun Γ hΓ => ?_)
  obtain ⟨hg, hp, hki, hro, hnw, hbh, hsa, hpd⟩ := id hx
  obtain ⟨N, NI, NM, NV, hN⟩ := (hx).now
  have hAw := hg.2.2.2.2.2.2
  have hG : GS S D R := hg.1
  obtain ⟨h1000, h1009, h1042, h1043, h1044, h1045, h1046, h1047, hms, hsi, hsm, hnm⟩ := id hro
  have eN := hN.2.2.2.2.2.2.2.2.2.2.2.2
  have kNV : (S NV).1 = 45 := by rw [hN.2.2.2.1.2]
  have nNV : (S NV).2.1 = 6 := by rw [hN.2.2.2.1.2]
  have hoc := hpd.2.2.2.2.2.1.2
  refine g_iload_n hΓ rfl dX0_octet_0 ?_
  refine g_i2l hΓ (by omega) dX0_octet_1 ?_
  refine g_lconst (a := 0) hΓ rfl dX0_octet_2 ?_
  refine g_aload_n hΓ rfl dX0_octet_3 ?_
  refine x_geti (c := 0) hE hΓ in_X0 rfl hp.1 ⟨by decide, rfl⟩ 37 (ji := 37) rfl (by decide) (by decide) rfl q283 rfl rfl dX0_octet_4 ?_
  refine g_topi (hpd.2.2.2.2.2.1.1) ?_
  refine g_iconst hΓ dX0_octet_7 ?_
  refine g_isub hΓ dX0_octet_8 ?_
  refine g_i2l hΓ (by omega) dX0_octet_9 ?_
  refine x_callS (As := [.long (lI k), .long (lI 0), .long (lI ((σ 40 0) - 1))]) (rest := []) hΓ (x_X0_isIn hE hX S D R k 0 ((σ 40 0) - 1) (by first | assumption | omega) (by first | assumption | omega) (by first | assumption | omega)) rfl q387 q388 q123 q389 ndX0_isIn rfl (by decide) (by decide) (Nat.zero_le _) (Nat.zero_le _) rfl (Nat.le_of_ble_eq_true rfl) dX0_octet_10 rfl (fun v1 S1 τ1 ρ1 h1 => ?_)
  obtain ⟨rfl, S1e, τ1e, ρ1e⟩ := h1
  have S1e := S1e.symm; subst S1e
  have τ1e := τ1e.symm; subst τ1e
  have ρ1e := ρ1e.symm; subst ρ1e
  show gW Γ E (xM E S D R) _ _ _ _ (.int (iI (if 0 ≤ k ∧ k ≤ ((σ 40 0) - 1) then 1 else 0)) :: _)
  refine g_ifB_eq (tgt := 25) hΓ  dX0_octet_13 (by decide) (fun c2 => ?_) (fun c2 => ?_)
  · refine g_iconst hΓ dX0_octet_25 ?_
    exact x_iret hΓ dX0_octet_26 (Nat.zero_le _) (Nat.zero_le _) ⟨ri (by first | (rw [if_pos (by omega)]; done) | (rw [if_neg (by omega)])), rfl, rfl, rfl⟩
  · refine g_aload_n hΓ rfl dX0_octet_16 ?_
    refine x_geta (r := some (P.2.1 36)) (c := 0) hE hΓ in_X0 rfl hp.1 ⟨by decide, rfl⟩ 36 (ji := 36) rfl (by decide) (by decide) rfl q282 rfl rfl (pA_r hp 36 rfl rfl) dX0_octet_17 ?_
    show gW Γ E (xM E S D R) 0 0 _ _ (.ref (P.2.1 36) :: _)
    refine g_iload_n hΓ rfl dX0_octet_20 ?_
    refine x_cald hΓ (pA_k hp 36 rfl (n := 86) rfl) (pA_n hp 36 rfl (n := 202) rfl) ⟨by decide, rfl⟩ (by omega) (by omega) dX0_octet_21 ?_
    refine g_topi ((hpd.2.2.2.2.2.2 k (by omega) (by omega))) ?_
    refine g_goto (tgt := 26) hΓ dX0_octet_22 (by decide) ?_
    exact x_iret hΓ dX0_octet_26 (Nat.zero_le _) (Nat.zero_le _) ⟨ri (by first | (rw [if_pos (by omega)]; done) | (rw [if_neg (by omega)])), rfl, rfl, rfl⟩
