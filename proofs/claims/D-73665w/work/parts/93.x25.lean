set_option maxRecDepth 100000
set_option maxHeartbeats 4000000 in
theorem x_X0_rank {l : Launch} {E : gE} {X : State → Prop} {Z : Nat → Nat} {Y : Nat → Option Nat} (hE : E.2.1 = clsX) (hX : xOK l E X Z Y) (hL : xLam l E X (Z 20) (Z 21)) (S : xS) (D : xD) (R : xR) (P : xPk) (σ : mS) (k : Int) (hx : Rx E Z S D R P σ) (hk : r32 k) : xC l E X yX0_rank cX0_rank 2 (some .int) 14 0 0 [.ref (P.1), .int (iI k)] S D R (fun rv S' D' R' => rv = some (.int (iI (sp_rank σ k))) ∧ (Rx E Z S D' R' P σ) ∧ S' = S ∧ fr S D D' [8003, 42, 43, 44, 112, 115, 116, 117, 46, 47, 48, 49, 1022, 68, 69, 73, 74] ∧ fr S R R' [1009, 1010]) := by
  refine xC.of hX.1 (by decide) [some (.ref (P.1)), some (.int (iI k))] (Nat.le_of_ble_eq_true rfl) rfl rfl (fun Γ hΓ => ?_)
  obtain ⟨hg, hp, hki, hro, hnw, hbh, hsa, hpd⟩ := id hx
  obtain ⟨N, NI, NM, NV, hN⟩ := (hx).now
  have hAw := hg.2.2.2.2.2.2
  have hG : GS S D R := hg.1
  obtain ⟨h1000, h1009, h1042, h1043, h1044, h1045, h1046, h1047, hms, hsi, hsm, hnm⟩ := id hro
  have eN := hN.2.2.2.2.2.2.2.2.2.2.2.2
  have kNV : (S NV).1 = 45 := by rw [hN.2.2.2.1.2]
  have nNV : (S NV).2.1 = 6 := by rw [hN.2.2.2.1.2]
  have hli : lsR S D R NI σ 0 (σ 0 1009) := by
    have h9 := (hx.letter (m := -1) (Or.inl rfl)).1
    rw [lsA, if_pos rfl, fsS, if_pos rfl, mnS, if_pos rfl, ← eN.1, ← eN.2.2.1] at h9
    exact h9
  refine g_aload_n hΓ rfl dX0_rank_0 ?_
  refine g_iload_n hΓ rfl dX0_rank_1 ?_
  refine x_callV (As := [.int (iI k)]) (rest := []) (c := 0) hE hΓ (x_X0_isModel hE hX S D R P σ k hx (by first | assumption | omega) ) hp.1 ⟨by decide, rfl⟩ rfl rfl q852 q854 qs22 q123 q855 ndX0_isModel rfl (by decide) (by decide) (Nat.zero_le _) (Nat.zero_le _) rfl (Nat.le_of_ble_eq_true rfl) dX0_rank_2 rfl (fun v1 S1 τ1 ρ1 h1 => ?_)
  obtain ⟨rfl, S1e, τ1e, ρ1e⟩ := h1
  have S1e := S1e.symm; subst S1e
  have τ1e := τ1e.symm; subst τ1e
  have ρ1e := ρ1e.symm; subst ρ1e
  show gW Γ E (xM E S D R) _ _ _ _ (.int (iI (if 0 ≤ k ∧ k < σ 0 1000 then 1 else 0)) :: _)
  refine g_ifB_ne (tgt := 10) hΓ  dX0_rank_5 (by decide) (fun c2 => ?_) (fun c2 => ?_)
  · refine g_aload_n hΓ rfl dX0_rank_10 ?_
    refine g_aload_n hΓ rfl dX0_rank_11 ?_
    refine x_geta (r := some N) (c := 0) hE hΓ in_X0 rfl hp.1 ⟨by decide, rfl⟩ 4 (ji := 4) rfl (by decide) (by decide) rfl q250 rfl rfl hN.1.1 dX0_rank_12 ?_
    show gW Γ E (xM E S D R) 0 0 _ _ (.ref N :: _)
    refine x_geta (r := some NI) (c := 1) hE hΓ in_X1 rfl hN.1.2 ⟨by decide, rfl⟩ 1 (ji := 1) rfl (by decide) (by decide) rfl q200 rfl rfl hN.2.2.1.1 dX0_rank_15 ?_
    show gW Γ E (xM E S D R) 0 0 _ _ (.ref NI :: _)
    refine x_callV (As := [.ref NI]) (rest := []) (c := 0) hE hΓ (x_X0_ranks hE hX hL S D R P σ NI 10 0 (σ 0 1009) hx hN.2.2.1.2 (by decide) hli (inkS hro) ) hp.1 ⟨by decide, rfl⟩ rfl rfl q1081 q1083 qs38 q123 q1084 ndX0_ranks rfl (by decide) (by decide) (Nat.zero_le _) (Nat.zero_le _) rfl (Nat.le_of_ble_eq_true rfl) dX0_rank_18 rfl (fun v3 S3 τ3 ρ3 h3 => ?_)
    obtain ⟨rfl, h3, S3e, τ3f, ρ3f⟩ := h3
    have S3e := S3e.symm; subst S3e
    refine g_aload_n hΓ rfl dX0_rank_21 ?_
    refine x_geta (r := some (P.2.1 24)) (c := 0) hE hΓ in_X0 rfl hp.1 ⟨by decide, rfl⟩ 24 (ji := 24) rfl (by decide) (by decide) rfl q270 rfl rfl ((ρ3f (P.1) 24 (by rw [hp.1]; decide)).trans (pA_r hp 24 rfl rfl)) dX0_rank_22 ?_
    show gW Γ E (xM E S τ3 ρ3) 0 0 _ _ (.ref (P.2.1 24) :: _)
    refine g_iload_n hΓ rfl dX0_rank_25 ?_
    refine x_iald hΓ (pA_k hp 24 rfl (n := 74) rfl) (pA_n hp 24 rfl (n := 8) rfl) ⟨by decide, rfl⟩ (by omega) (by omega) dX0_rank_26 ?_
    refine g_topi ((h3.2.2 k (by omega) (by omega)).2) ?_
    exact x_iret hΓ dX0_rank_27 (Nat.zero_le _) (Nat.zero_le _) ⟨ri (by first | (rw [sp_rank]; done) | (rw [sp_rank, moA_out (by rw [nMod_c (by omega)]; omega)])), h3.1, rfl, (fun q9 j9 hk9 => by exact (τ3f q9 j9 (fun e9 => hk9 ((show ∀ x ∈ [8003, 42, 43, 44, 112, 115, 116, 117, 46, 47, 48, 49, 1022, 68, 69, 73, 74], x ∈ [8003, 42, 43, 44, 112, 115, 116, 117, 46, 47, 48, 49, 1022, 68, 69, 73, 74] by decide) _ e9)))), (fun q9 j9 hk9 => by exact (ρ3f q9 j9 (fun e9 => hk9 ((show ∀ x ∈ [1009, 1010], x ∈ [1009, 1010] by decide) _ e9))))⟩
  · refine g_iconst hΓ dX0_rank_8 ?_
    exact x_iret hΓ dX0_rank_9 (Nat.zero_le _) (Nat.zero_le _) ⟨ri (by first | (rw [sp_rank]; done) | (rw [sp_rank, moA_out (by rw [nMod_c (by omega)]; omega)])), hx, rfl, (fun q9 j9 hk9 => rfl), (fun q9 j9 hk9 => rfl)⟩
set_option maxHeartbeats 4000000 in
theorem x_X0_marginNow {l : Launch} {E : gE} {X : State → Prop} {Z : Nat → Nat} {Y : Nat → Option Nat} (hE : E.2.1 = clsX) (hX : xOK l E X Z Y) (hL : xLam l E X (Z 20) (Z 21)) (S : xS) (D : xD) (R : xR) (P : xPk) (σ : mS)  (hx : Rx E Z S D R P σ) (hn2 : 2 ≤ σ 0 1000) : xC l E X yX0_marginNow cX0_marginNow 1 (some .int) 14 0 0 [.ref (P.1)] S D R (fun rv S' D' R' => rv = some (.int (iI (sp_margin σ))) ∧ (Rx E Z S D' R' P σ) ∧ S' = S ∧ fr S D D' [8003, 42, 43, 44, 112, 115, 116, 117, 46, 47, 48, 49, 1022, 68, 69, 73, 74] ∧ fr S R R' [1009, 1010]) := by
  refine xC.of hX.1 (by decide) [some (.ref (P.1))] (Nat.le_of_ble_eq_true rfl) rfl rfl (fun Γ hΓ => ?_)
  obtain ⟨hg, hp, hki, hro, hnw, hbh, hsa, hpd⟩ := id hx
  obtain ⟨N, NI, NM, NV, hN⟩ := (hx).now
  have hAw := hg.2.2.2.2.2.2
  have hG : GS S D R := hg.1
  obtain ⟨h1000, h1009, h1042, h1043, h1044, h1045, h1046, h1047, hms, hsi, hsm, hnm⟩ := id hro
  have eN := hN.2.2.2.2.2.2.2.2.2.2.2.2
  have kNV : (S NV).1 = 45 := by rw [hN.2.2.2.1.2]
  have nNV : (S NV).2.1 = 6 := by rw [hN.2.2.2.1.2]
  have hli : lsR S D R NI σ 0 (σ 0 1009) := by
    have h9 := (hx.letter (m := -1) (Or.inl rfl)).1
    rw [lsA, if_pos rfl, fsS, if_pos rfl, mnS, if_pos rfl, ← eN.1, ← eN.2.2.1] at h9
    exact h9
  have hnM := nMod_c (σ := σ) (by omega)
  have hm0 := moA_in (f := (scM σ 0 (σ 0 1009))) (N := nMod σ) (p := 0) (by omega) (by omega)
  have hm1 := moA_in (f := (scM σ 0 (σ 0 1009))) (N := nMod σ) (p := 1) (by omega) (by omega)
  refine g_aload_n hΓ rfl dX0_marginNow_0 ?_
  refine g_aload_n hΓ rfl dX0_marginNow_1 ?_
  refine x_geta (r := some N) (c := 0) hE hΓ in_X0 rfl hp.1 ⟨by decide, rfl⟩ 4 (ji := 4) rfl (by decide) (by decide) rfl q250 rfl rfl hN.1.1 dX0_marginNow_2 ?_
  show gW Γ E (xM E S D R) 0 0 _ _ (.ref N :: _)
  refine x_geta (r := some NI) (c := 1) hE hΓ in_X1 rfl hN.1.2 ⟨by decide, rfl⟩ 1 (ji := 1) rfl (by decide) (by decide) rfl q200 rfl rfl hN.2.2.1.1 dX0_marginNow_5 ?_
  show gW Γ E (xM E S D R) 0 0 _ _ (.ref NI :: _)
  refine x_callV (As := [.ref NI]) (rest := []) (c := 0) hE hΓ (x_X0_ranks hE hX hL S D R P σ NI 10 0 (σ 0 1009) hx hN.2.2.1.2 (by decide) hli (inkS hro) ) hp.1 ⟨by decide, rfl⟩ rfl rfl q1081 q1083 qs38 q123 q1084 ndX0_ranks rfl (by decide) (by decide) (Nat.zero_le _) (Nat.zero_le _) rfl (Nat.le_of_ble_eq_true rfl) dX0_marginNow_8 rfl (fun v1 S1 τ1 ρ1 h1 => ?_)
  obtain ⟨rfl, h1, S1e, τ1f, ρ1f⟩ := h1
  have S1e := S1e.symm; subst S1e
  refine g_aload_n hΓ rfl dX0_marginNow_11 ?_
  refine x_geta (r := some (P.2.1 23)) (c := 0) hE hΓ in_X0 rfl hp.1 ⟨by decide, rfl⟩ 23 (ji := 23) rfl (by decide) (by decide) rfl q269 rfl rfl ((ρ1f (P.1) 23 (by rw [hp.1]; decide)).trans (pA_r hp 23 rfl rfl)) dX0_marginNow_12 ?_
  show gW Γ E (xM E S τ1 ρ1) 0 0 _ _ (.ref (P.2.1 23) :: _)
  refine g_aload_n hΓ rfl dX0_marginNow_15 ?_
  refine x_geta (r := some (P.2.1 24)) (c := 0) hE hΓ in_X0 rfl hp.1 ⟨by decide, rfl⟩ 24 (ji := 24) rfl (by decide) (by decide) rfl q270 rfl rfl ((ρ1f (P.1) 24 (by rw [hp.1]; decide)).trans (pA_r hp 24 rfl rfl)) dX0_marginNow_16 ?_
  show gW Γ E (xM E S τ1 ρ1) 0 0 _ _ (.ref (P.2.1 24) :: _)
  refine g_iconst hΓ dX0_marginNow_19 ?_
  refine x_iald hΓ (pA_k hp 24 rfl (n := 74) rfl) (pA_n hp 24 rfl (n := 8) rfl) ⟨by decide, rfl⟩ (by omega) (by omega) dX0_marginNow_20 ?_
  refine g_topi ((h1.2.2 1 (by omega) (by omega)).2) ?_
  refine x_iald hΓ (pA_k hp 23 rfl (n := 73) rfl) (pA_n hp 23 rfl (n := 8) rfl) ⟨by decide, rfl⟩ (by omega) (by omega) dX0_marginNow_21 ?_
  refine g_topi ((h1.2.1 _ hm1.1 (by omega))) ?_
  refine g_aload_n hΓ rfl dX0_marginNow_22 ?_
  refine x_geta (r := some (P.2.1 23)) (c := 0) hE hΓ in_X0 rfl hp.1 ⟨by decide, rfl⟩ 23 (ji := 23) rfl (by decide) (by decide) rfl q269 rfl rfl ((ρ1f (P.1) 23 (by rw [hp.1]; decide)).trans (pA_r hp 23 rfl rfl)) dX0_marginNow_23 ?_
  show gW Γ E (xM E S τ1 ρ1) 0 0 _ _ (.ref (P.2.1 23) :: _)
  refine g_aload_n hΓ rfl dX0_marginNow_26 ?_
  refine x_geta (r := some (P.2.1 24)) (c := 0) hE hΓ in_X0 rfl hp.1 ⟨by decide, rfl⟩ 24 (ji := 24) rfl (by decide) (by decide) rfl q270 rfl rfl ((ρ1f (P.1) 24 (by rw [hp.1]; decide)).trans (pA_r hp 24 rfl rfl)) dX0_marginNow_27 ?_
  show gW Γ E (xM E S τ1 ρ1) 0 0 _ _ (.ref (P.2.1 24) :: _)
  refine g_iconst hΓ dX0_marginNow_30 ?_
  refine x_iald hΓ (pA_k hp 24 rfl (n := 74) rfl) (pA_n hp 24 rfl (n := 8) rfl) ⟨by decide, rfl⟩ (by omega) (by omega) dX0_marginNow_31 ?_
  refine g_topi ((h1.2.2 0 (by omega) (by omega)).2) ?_
  refine x_iald hΓ (pA_k hp 23 rfl (n := 73) rfl) (pA_n hp 23 rfl (n := 8) rfl) ⟨by decide, rfl⟩ (by omega) (by omega) dX0_marginNow_32 ?_
  refine g_topi ((h1.2.1 _ hm0.1 (by omega))) ?_
  refine g_isub hΓ dX0_marginNow_33 ?_
  exact x_iret hΓ dX0_marginNow_34 (Nat.zero_le _) (Nat.zero_le _) ⟨ri (by rw [sp_margin, mgn, if_neg (by omega)]), h1.1, rfl, (fun q9 j9 hk9 => by exact (τ1f q9 j9 (fun e9 => hk9 ((show ∀ x ∈ [8003, 42, 43, 44, 112, 115, 116, 117, 46, 47, 48, 49, 1022, 68, 69, 73, 74], x ∈ [8003, 42, 43, 44, 112, 115, 116, 117, 46, 47, 48, 49, 1022, 68, 69, 73, 74] by decide) _ e9)))), (fun q9 j9 hk9 => by exact (ρ1f q9 j9 (fun e9 => hk9 ((show ∀ x ∈ [1009, 1010], x ∈ [1009, 1010] by decide) _ e9))))⟩
set_option maxHeartbeats 4000000 in
theorem x_X0_margin {l : Launch} {E : gE} {X : State → Prop} {Z : Nat → Nat} {Y : Nat → Option Nat} (hE : E.2.1 = clsX) (hX : xOK l E X Z Y) (hL : xLam l E X (Z 20) (Z 21)) (S : xS) (D : xD) (R : xR) (P : xPk) (σ : mS)  (hx : Rx E Z S D R P σ) : xC l E X yX0_margin cX0_margin 1 (some .int) 15 0 0 [.ref (P.1)] S D R (fun rv S' D' R' => rv = some (.int (iI (sp_margin σ))) ∧ (Rx E Z S D' R' P σ) ∧ S' = S ∧ fr S D D' [8003, 42, 43, 44, 112, 115, 116, 117, 46, 47, 48, 49, 1022, 68, 69, 73, 74] ∧ fr S R R' [1009, 1010]) := by
  refine xC.of hX.1 (by decide) [some (.ref (P.1))] (Nat.le_of_ble_eq_true rfl) rfl rfl (fun Γ hΓ => ?_)
  obtain ⟨hg, hp, hki, hro, hnw, hbh, hsa, hpd⟩ := id hx
  obtain ⟨N, NI, NM, NV, hN⟩ := (hx).now
  have hAw := hg.2.2.2.2.2.2
  have hG : GS S D R := hg.1
  obtain ⟨h1000, h1009, h1042, h1043, h1044, h1045, h1046, h1047, hms, hsi, hsm, hnm⟩ := id hro
  have eN := hN.2.2.2.2.2.2.2.2.2.2.2.2
  have kNV : (S NV).1 = 45 := by rw [hN.2.2.2.1.2]
  have nNV : (S NV).2.1 = 6 := by rw [hN.2.2.2.1.2]
  refine g_aload_n hΓ rfl dX0_margin_0 ?_
  refine x_callV (As := []) (rest := []) (c := 0) hE hΓ (x_X0_models hE hX S D R P σ  hx  ) hp.1 ⟨by decide, rfl⟩ rfl rfl q841 q843 qs21 q123 q844 ndX0_models rfl (by decide) (by decide) (Nat.zero_le _) (Nat.zero_le _) rfl (Nat.le_of_ble_eq_true rfl) dX0_margin_1 rfl (fun v1 S1 τ1 ρ1 h1 => ?_)
  obtain ⟨rfl, S1e, τ1e, ρ1e⟩ := h1
  have S1e := S1e.symm; subst S1e
  have τ1e := τ1e.symm; subst τ1e
  have ρ1e := ρ1e.symm; subst ρ1e
  show gW Γ E (xM E S D R) _ _ _ _ (.int (iI (σ 0 1000)) :: _)
  refine g_iconst hΓ dX0_margin_4 ?_
  refine g_icmp_ge (tgt := 14) hΓ (by omega) (by omega) dX0_margin_5 (by decide) (fun c2 => ?_) (fun c2 => ?_)
  · refine g_aload_n hΓ rfl dX0_margin_14 ?_
    refine x_callV (As := []) (rest := []) (c := 0) hE hΓ (x_X0_marginNow hE hX hL S D R P σ  hx (by first | assumption | omega) ) hp.1 ⟨by decide, rfl⟩ rfl rfl q1090 q1092 qs39 q123 q1093 ndX0_marginNow rfl (by decide) (by decide) (Nat.zero_le _) (Nat.zero_le _) rfl (Nat.le_of_ble_eq_true rfl) dX0_margin_15 rfl (fun v3 S3 τ3 ρ3 h3 => ?_)
    obtain ⟨rfl, h3, S3e, τ3f, ρ3f⟩ := h3
    have S3e := S3e.symm; subst S3e
    show gW Γ E (xM E S τ3 ρ3) _ _ _ _ (.int (iI (sp_margin σ)) :: _)
    exact x_iret hΓ dX0_margin_18 (Nat.zero_le _) (Nat.zero_le _) ⟨ri (by first | rfl | (rw [sp_margin, mgn, if_pos (by rw [nMod]; omega)])), h3, rfl, (fun q9 j9 hk9 => by exact (τ3f q9 j9 (fun e9 => hk9 ((show ∀ x ∈ [8003, 42, 43, 44, 112, 115, 116, 117, 46, 47, 48, 49, 1022, 68, 69, 73, 74], x ∈ [8003, 42, 43, 44, 112, 115, 116, 117, 46, 47, 48, 49, 1022, 68, 69, 73, 74] by decide) _ e9)))), (fun q9 j9 hk9 => by exact (ρ3f q9 j9 (fun e9 => hk9 ((show ∀ x ∈ [1009, 1010], x ∈ [1009, 1010] by decide) _ e9))))⟩
  · refine g_ldcw (n := -1000000) hΓ rfl q1089 (by decide) dX0_margin_8 ?_
    refine g_goto (tgt := 18) hΓ dX0_margin_11 (by decide) ?_
    exact x_iret hΓ dX0_margin_18 (Nat.zero_le _) (Nat.zero_le _) ⟨ri (by first | rfl | (rw [sp_margin, mgn, if_pos (by rw [nMod]; omega)])), hx, rfl, (fun q9 j9 hk9 => rfl), (fun q9 j9 hk9 => rfl)⟩
set_option maxHeartbeats 4000000 in
theorem x_X0_sure {l : Launch} {E : gE} {X : State → Prop} {Z : Nat → Nat} {Y : Nat → Option Nat} (hE : E.2.1 = clsX) (hX : xOK l E X Z Y) (hL : xLam l E X (Z 20) (Z 21)) (S : xS) (D : xD) (R : xR) (P : xPk) (σ : mS)  (hx : Rx E Z S D R P σ) : xC l E X yX0_sure cX0_sure 1 (some .int) 15 0 0 [.ref (P.1)] S D R (fun rv S' D' R' => rv = some (.int (iI (sp_sure σ))) ∧ (Rx E Z S D' R' P σ) ∧ S' = S ∧ fr S D D' [8003, 42, 43, 44, 112, 115, 116, 117, 46, 47, 48, 49, 1022, 68, 69, 73, 74] ∧ fr S R R' [1009, 1010]) := by
  refine xC.of hX.1 (by decide) [some (.ref (P.1))] (Nat.le_of_ble_eq_true rfl) rfl rfl (fun Γ hΓ => ?_)
  obtain ⟨hg, hp, hki, hro, hnw, hbh, hsa, hpd⟩ := id hx
  obtain ⟨N, NI, NM, NV, hN⟩ := (hx).now
  have hAw := hg.2.2.2.2.2.2
  have hG : GS S D R := hg.1
  obtain ⟨h1000, h1009, h1042, h1043, h1044, h1045, h1046, h1047, hms, hsi, hsm, hnm⟩ := id hro
  have eN := hN.2.2.2.2.2.2.2.2.2.2.2.2
  have kNV : (S NV).1 = 45 := by rw [hN.2.2.2.1.2]
  have nNV : (S NV).2.1 = 6 := by rw [hN.2.2.2.1.2]
  have hmg := mgn_r (f := scM σ 0 (σ 0 1009)) (N := nMod σ) (fun o x9 y9 => scM_r hro (inkS hro) x9 (by rw [nMod_c (by omega)] at y9; omega))
  have hmg2 : -1000000 ≤ sp_margin σ ∧ sp_margin σ ≤ 1584 := hmg
  refine g_aload_n hΓ rfl dX0_sure_0 ?_
  refine x_callV (As := []) (rest := []) (c := 0) hE hΓ (x_X0_models hE hX S D R P σ  hx  ) hp.1 ⟨by decide, rfl⟩ rfl rfl q841 q843 qs21 q123 q844 ndX0_models rfl (by decide) (by decide) (Nat.zero_le _) (Nat.zero_le _) rfl (Nat.le_of_ble_eq_true rfl) dX0_sure_1 rfl (fun v1 S1 τ1 ρ1 h1 => ?_)
  obtain ⟨rfl, S1e, τ1e, ρ1e⟩ := h1
  have S1e := S1e.symm; subst S1e
  have τ1e := τ1e.symm; subst τ1e
  have ρ1e := ρ1e.symm; subst ρ1e
  show gW Γ E (xM E S D R) _ _ _ _ (.int (iI (σ 0 1000)) :: _)
  refine g_if_ne (tgt := 11) hΓ (by omega) dX0_sure_4 (by decide) (fun c2 => ?_) (fun c2 => ?_)
  · refine g_aload_n hΓ rfl dX0_sure_11 ?_
    refine x_callV (As := []) (rest := []) (c := 0) hE hΓ (x_X0_models hE hX S D R P σ  hx  ) hp.1 ⟨by decide, rfl⟩ rfl rfl q841 q843 qs21 q123 q844 ndX0_models rfl (by decide) (by decide) (Nat.zero_le _) (Nat.zero_le _) rfl (Nat.le_of_ble_eq_true rfl) dX0_sure_12 rfl (fun v3 S3 τ3 ρ3 h3 => ?_)
    obtain ⟨rfl, S3e, τ3e, ρ3e⟩ := h3
    have S3e := S3e.symm; subst S3e
    have τ3e := τ3e.symm; subst τ3e
    have ρ3e := ρ3e.symm; subst ρ3e
    show gW Γ E (xM E S D R) _ _ _ _ (.int (iI (σ 0 1000)) :: _)
    refine g_iconst hΓ dX0_sure_15 ?_
    refine g_icmp_eq (tgt := 35) hΓ (by omega) (by omega) dX0_sure_16 (by decide) (fun c4 => ?_) (fun c4 => ?_)
    · refine g_iconst hΓ dX0_sure_35 ?_
      refine g_goto (tgt := 40) hΓ dX0_sure_36 (by decide) ?_
      refine x_callS (As := [.int (iI 1)]) (rest := []) hΓ (x_X0_flag hE hX S D R 1 (by first | assumption | omega)) rfl q1066 q1067 q123 q1068 ndX0_flag rfl (by decide) (by decide) (Nat.zero_le _) (Nat.zero_le _) rfl (Nat.le_of_ble_eq_true rfl) dX0_sure_40 rfl (fun v5 S5 τ5 ρ5 h5 => ?_)
      obtain ⟨rfl, S5e, τ5e, ρ5e⟩ := h5
      have S5e := S5e.symm; subst S5e
      have τ5e := τ5e.symm; subst τ5e
      have ρ5e := ρ5e.symm; subst ρ5e
      show gW Γ E (xM E S D R) _ _ _ _ (.int (iI 1) :: _)
      exact x_iret hΓ dX0_sure_43 (Nat.zero_le _) (Nat.zero_le _) ⟨ri (by rw [sp_sure]; first | (rw [if_pos (by omega)]; done) | (rw [if_neg (by omega), if_pos (by omega)]; done) | (rw [if_neg (by omega), if_neg (by omega)])), hx, rfl, (fun q9 j9 hk9 => rfl), (fun q9 j9 hk9 => rfl)⟩
    · refine g_aload_n hΓ rfl dX0_sure_19 ?_
      refine x_callV (As := []) (rest := []) (c := 0) hE hΓ (x_X0_marginNow hE hX hL S D R P σ  hx (by first | assumption | omega) ) hp.1 ⟨by decide, rfl⟩ rfl rfl q1090 q1092 qs39 q123 q1093 ndX0_marginNow rfl (by decide) (by decide) (Nat.zero_le _) (Nat.zero_le _) rfl (Nat.le_of_ble_eq_true rfl) dX0_sure_20 rfl (fun v6 S6 τ6 ρ6 h6 => ?_)
      obtain ⟨rfl, h6, S6e, τ6f, ρ6f⟩ := h6
      have S6e := S6e.symm; subst S6e
      show gW Γ E (xM E S τ6 ρ6) _ _ _ _ (.int (iI (sp_margin σ)) :: _)
      refine g_aload_n hΓ rfl dX0_sure_23 ?_
      refine x_geta (r := some N) (c := 0) hE hΓ in_X0 rfl hp.1 ⟨by decide, rfl⟩ 4 (ji := 4) rfl (by decide) (by decide) rfl q250 rfl rfl ((ρ6f (P.1) 4 (by rw [hp.1]; decide)).trans hN.1.1) dX0_sure_24 ?_
      show gW Γ E (xM E S τ6 ρ6) 0 0 _ _ (.ref N :: _)
      refine x_geta (r := some NV) (c := 1) hE hΓ in_X1 rfl hN.1.2 ⟨by decide, rfl⟩ 2 (ji := 2) rfl (by decide) (by decide) rfl q203 rfl rfl ((ρ6f N 2 (by rw [hN.1.2]; decide)).trans hN.2.2.2.1.1) dX0_sure_27 ?_
      show gW Γ E (xM E S τ6 ρ6) 0 0 _ _ (.ref NV :: _)
      refine g_iconst hΓ dX0_sure_30 ?_
      refine x_iald hΓ kNV nNV ⟨by decide, rfl⟩ (by omega) (by omega) dX0_sure_31 ?_
      refine g_topi (((τ6f NV 4 (by rw [kNV, mdN _ (by decide)]; decide)).trans hN.2.2.2.2.2.2.2.2.2.2.1)) ?_
      refine g_icmp_lt (tgt := 39) hΓ (by omega) (by omega) dX0_sure_32 (by decide) (fun c7 => ?_) (fun c7 => ?_)
      · refine g_iconst hΓ dX0_sure_39 ?_
        refine x_callS (As := [.int (iI 0)]) (rest := []) hΓ (x_X0_flag hE hX S τ6 ρ6 0 (by first | assumption | omega)) rfl q1066 q1067 q123 q1068 ndX0_flag rfl (by decide) (by decide) (Nat.zero_le _) (Nat.zero_le _) rfl (Nat.le_of_ble_eq_true rfl) dX0_sure_40 rfl (fun v8 S8 τ8 ρ8 h8 => ?_)
        obtain ⟨rfl, S8e, τ8e, ρ8e⟩ := h8
        have S8e := S8e.symm; subst S8e
        have τ8e := τ8e.symm; subst τ8e
        have ρ8e := ρ8e.symm; subst ρ8e
        show gW Γ E (xM E S τ6 ρ6) _ _ _ _ (.int (iI 0) :: _)
        exact x_iret hΓ dX0_sure_43 (Nat.zero_le _) (Nat.zero_le _) ⟨ri (by rw [sp_sure]; first | (rw [if_pos (by omega)]; done) | (rw [if_neg (by omega), if_pos (by omega)]; done) | (rw [if_neg (by omega), if_neg (by omega)])), h6, rfl, (fun q9 j9 hk9 => by exact (τ6f q9 j9 (fun e9 => hk9 ((show ∀ x ∈ [8003, 42, 43, 44, 112, 115, 116, 117, 46, 47, 48, 49, 1022, 68, 69, 73, 74], x ∈ [8003, 42, 43, 44, 112, 115, 116, 117, 46, 47, 48, 49, 1022, 68, 69, 73, 74] by decide) _ e9)))), (fun q9 j9 hk9 => by exact (ρ6f q9 j9 (fun e9 => hk9 ((show ∀ x ∈ [1009, 1010], x ∈ [1009, 1010] by decide) _ e9))))⟩
      · refine g_iconst hΓ dX0_sure_35 ?_
        refine g_goto (tgt := 40) hΓ dX0_sure_36 (by decide) ?_
        refine x_callS (As := [.int (iI 1)]) (rest := []) hΓ (x_X0_flag hE hX S τ6 ρ6 1 (by first | assumption | omega)) rfl q1066 q1067 q123 q1068 ndX0_flag rfl (by decide) (by decide) (Nat.zero_le _) (Nat.zero_le _) rfl (Nat.le_of_ble_eq_true rfl) dX0_sure_40 rfl (fun v9 S9 τ9 ρ9 h9 => ?_)
        obtain ⟨rfl, S9e, τ9e, ρ9e⟩ := h9
        have S9e := S9e.symm; subst S9e
        have τ9e := τ9e.symm; subst τ9e
        have ρ9e := ρ9e.symm; subst ρ9e
        show gW Γ E (xM E S τ6 ρ6) _ _ _ _ (.int (iI 1) :: _)
        exact x_iret hΓ dX0_sure_43 (Nat.zero_le _) (Nat.zero_le _) ⟨ri (by rw [sp_sure]; first | (rw [if_pos (by omega)]; done) | (rw [if_neg (by omega), if_pos (by omega)]; done) | (rw [if_neg (by omega), if_neg (by omega)])), h6, rfl, (fun q9 j9 hk9 => by exact (τ6f q9 j9 (fun e9 => hk9 ((show ∀ x ∈ [8003, 42, 43, 44, 112, 115, 116, 117, 46, 47, 48, 49, 1022, 68, 69, 73, 74], x ∈ [8003, 42, 43, 44, 112, 115, 116, 117, 46, 47, 48, 49, 1022, 68, 69, 73, 74] by decide) _ e9)))), (fun q9 j9 hk9 => by exact (ρ6f q9 j9 (fun e9 => hk9 ((show ∀ x ∈ [1009, 1010], x ∈ [1009, 1010] by decide) _ e9))))⟩
  · refine g_iconst hΓ dX0_sure_7 ?_
    refine g_goto (tgt := 43) hΓ dX0_sure_8 (by decide) ?_
    exact x_iret hΓ dX0_sure_43 (Nat.zero_le _) (Nat.zero_le _) ⟨ri (by rw [sp_sure]; first | (rw [if_pos (by omega)]; done) | (rw [if_neg (by omega), if_pos (by omega)]; done) | (rw [if_neg (by omega), if_neg (by omega)])), hx, rfl, (fun q9 j9 hk9 => rfl), (fun q9 j9 hk9 => rfl)⟩
set_option maxHeartbeats 4000000 in
theorem x_X0_between {l : Launch} {E : gE} {X : State → Prop} {Z : Nat → Nat} {Y : Nat → Option Nat} (hE : E.2.1 = clsX) (hX : xOK l E X Z Y) (hL : xLam l E X (Z 20) (Z 21)) (S : xS) (D : xD) (R : xR) (P : xPk) (σ : mS) (a b : Int) (hx : Rx E Z S D R P σ) (hla : isL σ a) (hlb : isL σ b) (hra : r32 a ∧ r32 b) : xC l E X yX0_between cX0_between 3 (some .int) 13 0 0 [.ref (P.1), .int (iI a), .int (iI b)] S D R (fun rv S' D' R' => rv = some (.int (iI (sc2 σ a b))) ∧ (Rx E Z S D' R' P σ) ∧ S' = S ∧ fr S D D' [8003, 42, 43, 44, 112, 115, 116, 117, 46, 47, 48, 49, 1022, 68, 69] ∧ fr S R R' [1009, 1010]) := by
  refine xC.of hX.1 (by decide) [some (.ref (P.1)), some (.int (iI a)), some (.int (iI b))] (Nat.le_of_ble_eq_true rfl) rfl rfl (fun Γ hΓ => ?_)
  obtain ⟨hg, hp, hki, hro, hnw, hbh, hsa, hpd⟩ := id hx
  obtain ⟨N, NI, NM, NV, hN⟩ := (hx).now
  have hAw := hg.2.2.2.2.2.2
  have hG : GS S D R := hg.1
  obtain ⟨h1000, h1009, h1042, h1043, h1044, h1045, h1046, h1047, hms, hsi, hsm, hnm⟩ := id hro
  have eN := hN.2.2.2.2.2.2.2.2.2.2.2.2
  have kNV : (S NV).1 = 45 := by rw [hN.2.2.2.1.2]
  have nNV : (S NV).2.1 = 6 := by rw [hN.2.2.2.1.2]
  refine g_aload_n hΓ rfl dX0_between_0 ?_
  refine g_aload_n hΓ rfl dX0_between_1 ?_
  refine g_iload_n hΓ rfl dX0_between_2 ?_
  refine x_callV (As := [.int (iI a)]) (rest := [.ref (P.1)]) (c := 0) hE hΓ (x_X0_strokesOf hE hX S D R P σ a hx (by first | assumption | omega) (by first | assumption | omega) ) hp.1 ⟨by decide, rfl⟩ rfl rfl q903 q905 qs24 q123 q906 ndX0_strokesOf rfl (by decide) (by decide) (Nat.zero_le _) (Nat.zero_le _) rfl (Nat.le_of_ble_eq_true rfl) dX0_between_3 rfl (fun v1 S1 τ1 ρ1 h1 => ?_)
  obtain ⟨rfl, S1e, τ1e, ρ1e⟩ := h1
  have S1e := S1e.symm; subst S1e
  have τ1e := τ1e.symm; subst τ1e
  have ρ1e := ρ1e.symm; subst ρ1e
  show gW Γ E (xM E S D R) _ _ _ _ (.ref (lsA R (rf R P.1 4) a) :: _)
  refine g_aload_n hΓ rfl dX0_between_6 ?_
  refine g_iload_n hΓ rfl dX0_between_7 ?_
  refine x_callV (As := [.int (iI b)]) (rest := [.ref (lsA R (rf R P.1 4) a), .ref (P.1)]) (c := 0) hE hΓ (x_X0_strokesOf hE hX S D R P σ b hx (by first | assumption | omega) (by first | assumption | omega) ) hp.1 ⟨by decide, rfl⟩ rfl rfl q903 q905 qs24 q123 q906 ndX0_strokesOf rfl (by decide) (by decide) (Nat.zero_le _) (Nat.zero_le _) rfl (Nat.le_of_ble_eq_true rfl) dX0_between_8 rfl (fun v2 S2 τ2 ρ2 h2 => ?_)
  obtain ⟨rfl, S2e, τ2e, ρ2e⟩ := h2
  have S2e := S2e.symm; subst S2e
  have τ2e := τ2e.symm; subst τ2e
  have ρ2e := ρ2e.symm; subst ρ2e
  show gW Γ E (xM E S D R) _ _ _ _ (.ref (lsA R (rf R P.1 4) b) :: _)
  have hlt3 := (hx).letter (m := a) (by omega)
  obtain ⟨kl3, hkl3, hk33⟩ : ∃ k : Nat, (S (lsA R (rf R P.1 4) a)).1 = k ∧ (k = 10 ∨ k = 12 ∨ k = 13) := ⟨_, rfl, by have := hlt3.2.1; omega⟩
  have hkr3 : 10 ≤ kl3 ∧ kl3 ≤ 17 := by omega
  have hlt4 := (hx).letter (m := b) (by omega)
  obtain ⟨kl4, hkl4, hk34⟩ : ∃ k : Nat, (S (lsA R (rf R P.1 4) b)).1 = k ∧ (k = 10 ∨ k = 12 ∨ k = 13) := ⟨_, rfl, by have := hlt4.2.1; omega⟩
  have hkr4 : 10 ≤ kl4 ∧ kl4 ≤ 17 := by omega
  refine x_callV (As := [.ref (lsA R (rf R P.1 4) a), .ref (lsA R (rf R P.1 4) b)]) (rest := []) (c := 0) hE hΓ (x_X0_scoreOf hE hX hL S D R P σ (lsA R (rf R P.1 4) a) (lsA R (rf R P.1 4) b) kl3 kl4 (fsS a) (mnS σ a) (fsS b) (mnS σ b) hx hkl3 hk33 hlt3.1 hlt3.2.2.2 hkl4 hk34 hlt4.1 hlt4.2.2.2 ) hp.1 ⟨by decide, rfl⟩ rfl rfl q1039 q1041 qs33 q123 q1042 ndX0_scoreOf rfl (by decide) (by decide) (Nat.zero_le _) (Nat.zero_le _) rfl (Nat.le_of_ble_eq_true rfl) dX0_between_11 rfl (fun v5 S5 τ5 ρ5 h5 => ?_)
  obtain ⟨rfl, h5, S5e, τ5f, ρ5f⟩ := h5
  have S5e := S5e.symm; subst S5e
  show gW Γ E (xM E S τ5 ρ5) _ _ _ _ (.int (iI (scS σ (fsS a) (mnS σ a) (fsS b) (mnS σ b))) :: _)
  exact x_iret hΓ dX0_between_14 (Nat.zero_le _) (Nat.zero_le _) ⟨ri rfl, h5.1, rfl, (fun q9 j9 hk9 => by exact (τ5f q9 j9 (fun e9 => hk9 ((show ∀ x ∈ [8003, 42, 43, 44, 112, 115, 116, 117, 46, 47, 48, 49, 1022, 68, 69], x ∈ [8003, 42, 43, 44, 112, 115, 116, 117, 46, 47, 48, 49, 1022, 68, 69] by decide) _ e9)))), (fun q9 j9 hk9 => by exact (ρ5f q9 j9 (fun e9 => hk9 ((show ∀ x ∈ [1009, 1010], x ∈ [1009, 1010] by decide) _ e9))))⟩
set_option maxHeartbeats 4000000 in
theorem x_X0_withOthers {l : Launch} {E : gE} {X : State → Prop} {Z : Nat → Nat} {Y : Nat → Option Nat} (hE : E.2.1 = clsX) (hX : xOK l E X Z Y) (hL : xLam l E X (Z 20) (Z 21)) (S : xS) (D : xD) (R : xR) (P : xPk) (σ : mS) (a : Int) (hx : Rx E Z S D R P σ) (ha : 0 ≤ a ∧ a < σ 0 1000) : xC l E X yX0_withOthers cX0_withOthers 4 (some .int) 14 0 0 [.ref (P.1), .int (iI a)] S D R (fun rv S' D' R' => rv = some (.int (iI (suE σ a))) ∧ (Rx E Z S D' R' P σ) ∧ S' = S ∧ fr S D D' [8003, 42, 43, 44, 112, 115, 116, 117, 46, 47, 48, 49, 1022, 68, 69] ∧ fr S R R' [1009, 1010]) := by
  refine xC.of hX.1 (by decide) [some (.ref (P.1)), some (.int (iI a)), none, none] (Nat.le_of_ble_eq_true rfl) rfl rfl (fun Γ hΓ => ?_)
  obtain ⟨hg, hp, hki, hro, hnw, hbh, hsa, hpd⟩ := id hx
  obtain ⟨N, NI, NM, NV, hN⟩ := (hx).now
  have hAw := hg.2.2.2.2.2.2
  have hG : GS S D R := hg.1
  obtain ⟨h1000, h1009, h1042, h1043, h1044, h1045, h1046, h1047, hms, hsi, hsm, hnm⟩ := id hro
  have eN := hN.2.2.2.2.2.2.2.2.2.2.2.2
  have kNV : (S NV).1 = 45 := by rw [hN.2.2.2.1.2]
  have nNV : (S NV).2.1 = 6 := by rw [hN.2.2.2.1.2]
  have loop : ∀ (fu : Nat) (t : xD) (ρ : xR) (v : Int) (b : Int), (σ 0 1000 - b).toNat < fu → (Rx E Z S t ρ P σ) → (fr S D t [8003, 42, 43, 44, 112, 115, 116, 117, 46, 47, 48, 49, 1022, 68, 69]) → (fr S R ρ [1009, 1010]) → (0 ≤ b ∧ b ≤ σ 0 1000) → (v = suF (sc2 σ a) a b.toNat) → gW Γ E (xM E S t ρ) 0 0 4 [some (.ref (P.1)), some (.int (iI a)), some (.int (iI v)), some (.int (iI b))] [] := by
    intro fu
    induction fu with
    | zero => intro t ρ v b hn; exact absurd hn (Nat.not_lt_zero _)
    | succ fu ih_loop =>
      intro t ρ v b hn hx1 ht hr hb hv
      obtain ⟨hg, hp, hki, hro, hnw, hbh, hsa, hpd⟩ := id hx1
      obtain ⟨N, NI, NM, NV, hN⟩ := (hx1).now
      have hAw := hg.2.2.2.2.2.2
      have hG : GS S t ρ := hg.1
      obtain ⟨h1000, h1009, h1042, h1043, h1044, h1045, h1046, h1047, hms, hsi, hsm, hnm⟩ := id hro
      have eN := hN.2.2.2.2.2.2.2.2.2.2.2.2
      have kNV : (S NV).1 = 45 := by rw [hN.2.2.2.1.2]
      have nNV : (S NV).2.1 = 6 := by rw [hN.2.2.2.1.2]
      have hsu := suF_r (f := sc2 σ a) (m := a) (N := nMod σ) (fun o q0 q1 => sc2_r hro (Or.inr ha) (Or.inr ⟨q0, by rw [nMod_c (by omega)] at q1; omega⟩)) b.toNat (by rw [nMod]; omega)
      refine g_iload_n hΓ rfl dX0_withOthers_4 ?_
      refine g_aload_n hΓ rfl dX0_withOthers_5 ?_
      refine x_callV (As := []) (rest := [.int (iI b)]) (c := 0) hE hΓ (x_X0_models hE hX S t ρ P σ  hx1  ) hp.1 ⟨by decide, rfl⟩ rfl rfl q841 q843 qs21 q123 q844 ndX0_models rfl (by decide) (by decide) (Nat.zero_le _) (Nat.zero_le _) rfl (Nat.le_of_ble_eq_true rfl) dX0_withOthers_6 rfl (fun v1 S1 τ1 ρ1 h1 => ?_)
      obtain ⟨rfl, S1e, τ1e, ρ1e⟩ := h1
      have S1e := S1e.symm; subst S1e
      have τ1e := τ1e.symm; subst τ1e
      have ρ1e := ρ1e.symm; subst ρ1e
      show gW Γ E (xM E S t ρ) _ _ _ _ (.int (iI (σ 0 1000)) :: _)
      refine g_icmp_ge (tgt := 32) hΓ (by omega) (by omega) dX0_withOthers_9 (by decide) (fun c2 => ?_) (fun c2 => ?_)
      · refine g_iload_n hΓ rfl dX0_withOthers_32 ?_
        exact x_iret hΓ dX0_withOthers_33 (Nat.zero_le _) (Nat.zero_le _) ⟨ri (by rw [hv, suE, nMod, show b.toNat = (σ 0 1000).toNat by omega]), hx1, rfl, ht, hr⟩
      · refine g_iload_n hΓ rfl dX0_withOthers_12 ?_
        refine g_iload_n hΓ rfl dX0_withOthers_13 ?_
        refine g_icmp_eq (tgt := 26) hΓ (by omega) (by omega) dX0_withOthers_14 (by decide) (fun c3 => ?_) (fun c3 => ?_)
        · obtain ⟨x4, ex4⟩ : ∃ z9 : Int, z9 = b + 1 := ⟨_, rfl⟩
          refine g_iinc hΓ dX0_withOthers_26 rfl rfl (lv' := [some (.ref (P.1)), some (.int (iI a)), some (.int (iI v)), some (.int (iI x4))]) (by rw [ex4]; rfl) ?_
          refine g_goto (tgt := 4) hΓ dX0_withOthers_29 (by decide) ?_
          exact ih_loop t ρ v x4 (by omega) hx1 ht hr (by omega) (by rw [show x4.toNat = b.toNat + 1 by omega, suF, show ((b.toNat : Nat) : Int) = b by omega]; first | (rw [if_pos (by omega)]; omega) | (rw [if_neg (by omega)]; omega))
        · refine g_iload_n hΓ rfl dX0_withOthers_17 ?_
          refine g_aload_n hΓ rfl dX0_withOthers_18 ?_
          refine g_iload_n hΓ rfl dX0_withOthers_19 ?_
          refine g_iload_n hΓ rfl dX0_withOthers_20 ?_
          refine x_callV (As := [.int (iI a), .int (iI b)]) (rest := [.int (iI v)]) (c := 0) hE hΓ (x_X0_between hE hX hL S t ρ P σ a b hx1 (by first | assumption | omega) (by first | assumption | omega) (by first | assumption | omega) ) hp.1 ⟨by decide, rfl⟩ rfl rfl q1102 q1104 qs40 q123 q1105 ndX0_between rfl (by decide) (by decide) (Nat.zero_le _) (Nat.zero_le _) rfl (Nat.le_of_ble_eq_true rfl) dX0_withOthers_21 rfl (fun v5 S5 τ5 ρ5 h5 => ?_)
          obtain ⟨rfl, h5, S5e, τ5f, ρ5f⟩ := h5
          have S5e := S5e.symm; subst S5e
          show gW Γ E (xM E S τ5 ρ5) _ _ _ _ (.int (iI (sc2 σ a b)) :: _)
          refine g_iadd hΓ dX0_withOthers_24 ?_
          obtain ⟨x6, ex6⟩ : ∃ z9 : Int, z9 = v + (sc2 σ a b) := ⟨_, rfl⟩
          refine g_topi ex6.symm ?_
          refine g_istore_n hΓ dX0_withOthers_25 rfl (Nat.le_of_ble_eq_true rfl) (lv' := [some (.ref (P.1)), some (.int (iI a)), some (.int (iI x6)), some (.int (iI b))]) rfl ?_
          obtain ⟨x7, ex7⟩ : ∃ z9 : Int, z9 = b + 1 := ⟨_, rfl⟩
          refine g_iinc hΓ dX0_withOthers_26 rfl rfl (lv' := [some (.ref (P.1)), some (.int (iI a)), some (.int (iI x6)), some (.int (iI x7))]) (by rw [ex7]; rfl) ?_
          refine g_goto (tgt := 4) hΓ dX0_withOthers_29 (by decide) ?_
          exact ih_loop τ5 ρ5 x6 x7 (by omega) h5 (fr_t ht (fun q9 j9 hk9 => by exact (τ5f q9 j9 (fun e9 => hk9 ((show ∀ x ∈ [8003, 42, 43, 44, 112, 115, 116, 117, 46, 47, 48, 49, 1022, 68, 69], x ∈ [8003, 42, 43, 44, 112, 115, 116, 117, 46, 47, 48, 49, 1022, 68, 69] by decide) _ e9))))) (fr_t hr (fun q9 j9 hk9 => by exact (ρ5f q9 j9 (fun e9 => hk9 ((show ∀ x ∈ [1009, 1010], x ∈ [1009, 1010] by decide) _ e9))))) (by omega) (by rw [show x7.toNat = b.toNat + 1 by omega, suF, show ((b.toNat : Nat) : Int) = b by omega]; first | (rw [if_pos (by omega)]; omega) | (rw [if_neg (by omega)]; omega))
  refine g_iconst hΓ dX0_withOthers_0 ?_
  refine g_istore_n hΓ dX0_withOthers_1 rfl (Nat.le_of_ble_eq_true rfl) (lv' := [some (.ref (P.1)), some (.int (iI a)), some (.int (iI 0)), none]) rfl ?_
  refine g_iconst hΓ dX0_withOthers_2 ?_
  refine g_istore_n hΓ dX0_withOthers_3 rfl (Nat.le_of_ble_eq_true rfl) (lv' := [some (.ref (P.1)), some (.int (iI a)), some (.int (iI 0)), some (.int (iI 0))]) rfl ?_
  exact loop 9 D R 0 0 (by omega) hx fr_rfl fr_rfl (by omega) rfl
set_option maxHeartbeats 4000000 in
theorem x_X0_central {l : Launch} {E : gE} {X : State → Prop} {Z : Nat → Nat} {Y : Nat → Option Nat} (hE : E.2.1 = clsX) (hX : xOK l E X Z Y) (hL : xLam l E X (Z 20) (Z 21)) (S : xS) (D : xD) (R : xR) (P : xPk) (σ : mS) (u : Int) (hx : Rx E Z S D R P σ) (hu : r32 u) : xC l E X yX0_central cX0_central 6 (some .int) 15 0 0 [.ref (P.1), .int (iI u)] S D R (fun rv S' D' R' => rv = some (.int (iI (sp_central σ u))) ∧ (Rx E Z S D' R' P σ) ∧ S' = S ∧ fr S D D' [8003, 42, 43, 44, 112, 115, 116, 117, 46, 47, 48, 49, 1022, 68, 69] ∧ fr S R R' [1009, 1010]) := by
  refine xC.of hX.1 (by decide) [some (.ref (P.1)), some (.int (iI u)), none, none, none, none] (Nat.le_of_ble_eq_true rfl) rfl rfl (fun Γ hΓ => ?_)
  obtain ⟨hg, hp, hki, hro, hnw, hbh, hsa, hpd⟩ := id hx
  obtain ⟨N, NI, NM, NV, hN⟩ := (hx).now
  have hAw := hg.2.2.2.2.2.2
  have hG : GS S D R := hg.1
  obtain ⟨h1000, h1009, h1042, h1043, h1044, h1045, h1046, h1047, hms, hsi, hsm, hnm⟩ := id hro
  have eN := hN.2.2.2.2.2.2.2.2.2.2.2.2
  have kNV : (S NV).1 = 45 := by rw [hN.2.2.2.1.2]
  have nNV : (S NV).2.1 = 6 := by rw [hN.2.2.2.1.2]
  refine g_aload_n hΓ rfl dX0_central_0 ?_
  refine x_callV (As := []) (rest := []) (c := 0) hE hΓ (x_X0_models hE hX S D R P σ  hx  ) hp.1 ⟨by decide, rfl⟩ rfl rfl q841 q843 qs21 q123 q844 ndX0_models rfl (by decide) (by decide) (Nat.zero_le _) (Nat.zero_le _) rfl (Nat.le_of_ble_eq_true rfl) dX0_central_1 rfl (fun v1 S1 τ1 ρ1 h1 => ?_)
  obtain ⟨rfl, S1e, τ1e, ρ1e⟩ := h1
  have S1e := S1e.symm; subst S1e
  have τ1e := τ1e.symm; subst τ1e
  have ρ1e := ρ1e.symm; subst ρ1e
  show gW Γ E (xM E S D R) _ _ _ _ (.int (iI (σ 0 1000)) :: _)
  refine g_if_eq (tgt := 17) hΓ (by omega) dX0_central_4 (by decide) (fun c2 => ?_) (fun c2 => ?_)
  · refine g_iconst hΓ dX0_central_17 ?_
    exact x_iret hΓ dX0_central_18 (Nat.zero_le _) (Nat.zero_le _) ⟨ri (by rw [sp_central, if_neg (by omega)]), hx, rfl, (fun q9 j9 hk9 => rfl), (fun q9 j9 hk9 => rfl)⟩
  · refine g_iload_n hΓ rfl dX0_central_7 ?_
    refine g_i2l hΓ (by omega) dX0_central_8 ?_
    refine g_lconst (a := 0) hΓ rfl dX0_central_9 ?_
    refine g_lconst (a := 1) hΓ rfl dX0_central_10 ?_
    refine x_callS (As := [.long (lI u), .long (lI 0), .long (lI 1)]) (rest := []) hΓ (x_X0_isIn hE hX S D R u 0 1 (by first | assumption | omega) (by first | assumption | omega) (by first | assumption | omega)) rfl q387 q388 q123 q389 ndX0_isIn rfl (by decide) (by decide) (Nat.zero_le _) (Nat.zero_le _) rfl (Nat.le_of_ble_eq_true rfl) dX0_central_11 rfl (fun v3 S3 τ3 ρ3 h3 => ?_)
    obtain ⟨rfl, S3e, τ3e, ρ3e⟩ := h3
    have S3e := S3e.symm; subst S3e
    have τ3e := τ3e.symm; subst τ3e
    have ρ3e := ρ3e.symm; subst ρ3e
    show gW Γ E (xM E S D R) _ _ _ _ (.int (iI (if 0 ≤ u ∧ u ≤ 1 then 1 else 0)) :: _)
    refine g_ifB_ne (tgt := 19) hΓ  dX0_central_14 (by decide) (fun c4 => ?_) (fun c4 => ?_)
    · refine g_iconst hΓ dX0_central_19 ?_
      refine g_istore_n hΓ dX0_central_20 rfl (Nat.le_of_ble_eq_true rfl) (lv' := [some (.ref (P.1)), some (.int (iI u)), some (.int (iI 0)), none, none, none]) rfl ?_
      refine g_aload_n hΓ rfl dX0_central_21 ?_
      refine g_iconst hΓ dX0_central_22 ?_
      refine x_callV (As := [.int (iI 0)]) (rest := []) (c := 0) hE hΓ (x_X0_withOthers hE hX hL S D R P σ 0 hx (by first | assumption | omega) ) hp.1 ⟨by decide, rfl⟩ rfl rfl q1126 q1128 qs42 q123 q1129 ndX0_withOthers rfl (by decide) (by decide) (Nat.zero_le _) (Nat.zero_le _) rfl (Nat.le_of_ble_eq_true rfl) dX0_central_23 rfl (fun v5 S5 τ5 ρ5 h5 => ?_)
      obtain ⟨rfl, h5, S5e, τ5f, ρ5f⟩ := h5
      have S5e := S5e.symm; subst S5e
      show gW Γ E (xM E S τ5 ρ5) _ _ _ _ (.int (iI (suE σ 0)) :: _)
      obtain ⟨x6, ex6⟩ : ∃ z9 : Int, z9 = suE σ 0 := ⟨_, rfl⟩
      refine g_topi ex6.symm ?_
      refine g_istore_n hΓ dX0_central_26 rfl (Nat.le_of_ble_eq_true rfl) (lv' := [some (.ref (P.1)), some (.int (iI u)), some (.int (iI 0)), some (.int (iI x6)), none, none]) rfl ?_
      have hcs := ceE_start hro (by omega)
      have hs0 := suE_r hro (m := 0) (by omega) (by omega)
      have loop : ∀ (fu : Nat) (t : xD) (ρ : xR) (be : Int) (few : Int) (m : Int), (σ 0 1000 - m).toNat < fu → (Rx E Z S t ρ P σ) → (fr S D t [8003, 42, 43, 44, 112, 115, 116, 117, 46, 47, 48, 49, 1022, 68, 69]) → (fr S R ρ [1009, 1010]) → (1 ≤ m ∧ m ≤ σ 0 1000) → (0 ≤ few ∧ few ≤ 12672) → (ceE σ = ceF (suE σ) (σ 0 1000 - m).toNat m (be, few)) → gW Γ E (xM E S t ρ) 0 0 30 [some (.ref (P.1)), some (.int (iI u)), some (.int (iI be)), some (.int (iI few)), some (.int (iI m)), none] [] := by
        intro fu
        induction fu with
        | zero => intro t ρ be few m hn; exact absurd hn (Nat.not_lt_zero _)
        | succ fu ih_loop =>
          intro t ρ be few m hn hx1 ht hr hm hfw hce
          obtain ⟨hg, hp, hki, hro, hnw, hbh, hsa, hpd⟩ := id hx1
          obtain ⟨N, NI, NM, NV, hN⟩ := (hx1).now
          have hAw := hg.2.2.2.2.2.2
          have hG : GS S t ρ := hg.1
          obtain ⟨h1000, h1009, h1042, h1043, h1044, h1045, h1046, h1047, hms, hsi, hsm, hnm⟩ := id hro
          have eN := hN.2.2.2.2.2.2.2.2.2.2.2.2
          have kNV : (S NV).1 = 45 := by rw [hN.2.2.2.1.2]
          have nNV : (S NV).2.1 = 6 := by rw [hN.2.2.2.1.2]
          refine g_iload hΓ rfl dX0_central_30 ?_
          refine g_aload_n hΓ rfl dX0_central_32 ?_
          refine x_callV (As := []) (rest := [.int (iI m)]) (c := 0) hE hΓ (x_X0_models hE hX S t ρ P σ  hx1  ) hp.1 ⟨by decide, rfl⟩ rfl rfl q841 q843 qs21 q123 q844 ndX0_models rfl (by decide) (by decide) (Nat.zero_le _) (Nat.zero_le _) rfl (Nat.le_of_ble_eq_true rfl) dX0_central_33 rfl (fun v7 S7 τ7 ρ7 h7 => ?_)
          obtain ⟨rfl, S7e, τ7e, ρ7e⟩ := h7
          have S7e := S7e.symm; subst S7e
          have τ7e := τ7e.symm; subst τ7e
          have ρ7e := ρ7e.symm; subst ρ7e
          show gW Γ E (xM E S t ρ) _ _ _ _ (.int (iI (σ 0 1000)) :: _)
          refine g_icmp_ge (tgt := 68) hΓ (by omega) (by omega) dX0_central_36 (by decide) (fun c8 => ?_) (fun c8 => ?_)
          · refine g_iload_n hΓ rfl dX0_central_68 ?_
            refine g_if_ne (tgt := 76) hΓ (by omega) dX0_central_69 (by decide) (fun c9 => ?_) (fun c9 => ?_)
            · refine g_iload_n hΓ rfl dX0_central_76 ?_
              exact x_iret hΓ dX0_central_77 (Nat.zero_le _) (Nat.zero_le _) ⟨ri (by rw [sp_central, if_pos (by omega), hce, show (σ 0 1000 - m).toNat = 0 by omega, ceF]; first | (rw [if_pos (by omega)]; done) | (rw [if_neg (by omega)])), hx1, rfl, ht, hr⟩
            · refine g_iload_n hΓ rfl dX0_central_72 ?_
              refine g_goto (tgt := 77) hΓ dX0_central_73 (by decide) ?_
              exact x_iret hΓ dX0_central_77 (Nat.zero_le _) (Nat.zero_le _) ⟨ri (by rw [sp_central, if_pos (by omega), hce, show (σ 0 1000 - m).toNat = 0 by omega, ceF]; first | (rw [if_pos (by omega)]; done) | (rw [if_neg (by omega)])), hx1, rfl, ht, hr⟩
          · refine g_aload_n hΓ rfl dX0_central_39 ?_
            refine g_iload hΓ rfl dX0_central_40 ?_
            have hsm := suE_r hro (m := m) (by omega) (by omega)
            refine x_callV (As := [.int (iI m)]) (rest := []) (c := 0) hE hΓ (x_X0_withOthers hE hX hL S t ρ P σ m hx1 (by first | assumption | omega) ) hp.1 ⟨by decide, rfl⟩ rfl rfl q1126 q1128 qs42 q123 q1129 ndX0_withOthers rfl (by decide) (by decide) (Nat.zero_le _) (Nat.zero_le _) rfl (Nat.le_of_ble_eq_true rfl) dX0_central_42 rfl (fun v10 S10 τ10 ρ10 h10 => ?_)
            obtain ⟨rfl, h10, S10e, τ10f, ρ10f⟩ := h10
            have S10e := S10e.symm; subst S10e
            show gW Γ E (xM E S τ10 ρ10) _ _ _ _ (.int (iI (suE σ m)) :: _)
            obtain ⟨x11, ex11⟩ : ∃ z9 : Int, z9 = suE σ m := ⟨_, rfl⟩
            refine g_topi ex11.symm ?_
            refine g_istore hΓ dX0_central_45 rfl (Nat.le_of_ble_eq_true rfl) (lv' := [some (.ref (P.1)), some (.int (iI u)), some (.int (iI be)), some (.int (iI few)), some (.int (iI m)), some (.int (iI x11))]) rfl ?_
            refine g_iload hΓ rfl dX0_central_47 ?_
            refine g_iload_n hΓ rfl dX0_central_49 ?_
            refine g_icmp_lt (tgt := 56) hΓ (by omega) (by omega) dX0_central_50 (by decide) (fun c12 => ?_) (fun c12 => ?_)
            · refine g_iload hΓ rfl dX0_central_56 ?_
              refine g_istore_n hΓ dX0_central_58 rfl (Nat.le_of_ble_eq_true rfl) (lv' := [some (.ref (P.1)), some (.int (iI u)), some (.int (iI m)), some (.int (iI few)), some (.int (iI m)), some (.int (iI x11))]) rfl ?_
              refine g_iload hΓ rfl dX0_central_59 ?_
              refine g_istore_n hΓ dX0_central_61 rfl (Nat.le_of_ble_eq_true rfl) (lv' := [some (.ref (P.1)), some (.int (iI u)), some (.int (iI m)), some (.int (iI x11)), some (.int (iI m)), some (.int (iI x11))]) rfl ?_
              obtain ⟨x13, ex13⟩ : ∃ z9 : Int, z9 = m + 1 := ⟨_, rfl⟩
              refine g_iinc hΓ dX0_central_62 rfl rfl (lv' := [some (.ref (P.1)), some (.int (iI u)), some (.int (iI m)), some (.int (iI x11)), some (.int (iI x13)), some (.int (iI x11))]) (by rw [ex13]; rfl) ?_
              refine g_goto (tgt := 30) hΓ dX0_central_65 (by decide) ?_
              refine g_lvw (lv' := [some (.ref (P.1)), some (.int (iI u)), some (.int (iI m)), some (.int (iI x11)), some (.int (iI x13)), none]) ⟨rfl, ⟨rfl, ⟨rfl, ⟨rfl, ⟨rfl, trivial⟩⟩⟩⟩⟩ ?_
              exact ih_loop τ10 ρ10 m x11 x13 (by omega) h10 (fr_t ht (fun q9 j9 hk9 => by exact (τ10f q9 j9 (fun e9 => hk9 ((show ∀ x ∈ [8003, 42, 43, 44, 112, 115, 116, 117, 46, 47, 48, 49, 1022, 68, 69], x ∈ [8003, 42, 43, 44, 112, 115, 116, 117, 46, 47, 48, 49, 1022, 68, 69] by decide) _ e9))))) (fr_t hr (fun q9 j9 hk9 => by exact (ρ10f q9 j9 (fun e9 => hk9 ((show ∀ x ∈ [1009, 1010], x ∈ [1009, 1010] by decide) _ e9))))) (by omega) (by omega) (by rw [hce, show (σ 0 1000 - m).toNat = (σ 0 1000 - x13).toNat + 1 by omega, ceF, show m + 1 = x13 by omega]; first | (rw [if_pos (by show few ≤ suE σ m; omega)]; done) | (rw [if_neg (by show ¬ few ≤ suE σ m; omega), ← ex11]))
            · refine g_goto (tgt := 62) hΓ dX0_central_53 (by decide) ?_
              obtain ⟨x14, ex14⟩ : ∃ z9 : Int, z9 = m + 1 := ⟨_, rfl⟩
              refine g_iinc hΓ dX0_central_62 rfl rfl (lv' := [some (.ref (P.1)), some (.int (iI u)), some (.int (iI be)), some (.int (iI few)), some (.int (iI x14)), some (.int (iI x11))]) (by rw [ex14]; rfl) ?_
              refine g_goto (tgt := 30) hΓ dX0_central_65 (by decide) ?_
              refine g_lvw (lv' := [some (.ref (P.1)), some (.int (iI u)), some (.int (iI be)), some (.int (iI few)), some (.int (iI x14)), none]) ⟨rfl, ⟨rfl, ⟨rfl, ⟨rfl, ⟨rfl, trivial⟩⟩⟩⟩⟩ ?_
              exact ih_loop τ10 ρ10 be few x14 (by omega) h10 (fr_t ht (fun q9 j9 hk9 => by exact (τ10f q9 j9 (fun e9 => hk9 ((show ∀ x ∈ [8003, 42, 43, 44, 112, 115, 116, 117, 46, 47, 48, 49, 1022, 68, 69], x ∈ [8003, 42, 43, 44, 112, 115, 116, 117, 46, 47, 48, 49, 1022, 68, 69] by decide) _ e9))))) (fr_t hr (fun q9 j9 hk9 => by exact (ρ10f q9 j9 (fun e9 => hk9 ((show ∀ x ∈ [1009, 1010], x ∈ [1009, 1010] by decide) _ e9))))) (by omega) (by omega) (by rw [hce, show (σ 0 1000 - m).toNat = (σ 0 1000 - x14).toNat + 1 by omega, ceF, show m + 1 = x14 by omega]; first | (rw [if_pos (by show few ≤ suE σ m; omega)]; done) | (rw [if_neg (by show ¬ few ≤ suE σ m; omega), ← ex11]))
      refine g_iconst hΓ dX0_central_27 ?_
      refine g_istore hΓ dX0_central_28 rfl (Nat.le_of_ble_eq_true rfl) (lv' := [some (.ref (P.1)), some (.int (iI u)), some (.int (iI 0)), some (.int (iI x6)), some (.int (iI 1)), none]) rfl ?_
      exact loop 9 τ5 ρ5 0 x6 1 (by omega) h5 (fun q9 j9 hk9 => by exact (τ5f q9 j9 (fun e9 => hk9 ((show ∀ x ∈ [8003, 42, 43, 44, 112, 115, 116, 117, 46, 47, 48, 49, 1022, 68, 69], x ∈ [8003, 42, 43, 44, 112, 115, 116, 117, 46, 47, 48, 49, 1022, 68, 69] by decide) _ e9)))) (fun q9 j9 hk9 => by exact (ρ5f q9 j9 (fun e9 => hk9 ((show ∀ x ∈ [1009, 1010], x ∈ [1009, 1010] by decide) _ e9)))) (by omega) (by omega) (by rw [hcs, ex6])
    · refine g_iconst hΓ dX0_central_17 ?_
      exact x_iret hΓ dX0_central_18 (Nat.zero_le _) (Nat.zero_le _) ⟨ri (by rw [sp_central, if_neg (by omega)]), hx, rfl, (fun q9 j9 hk9 => rfl), (fun q9 j9 hk9 => rfl)⟩
set_option maxHeartbeats 4000000 in
theorem x_X0_nearest {l : Launch} {E : gE} {X : State → Prop} {Z : Nat → Nat} {Y : Nat → Option Nat} (hE : E.2.1 = clsX) (hX : xOK l E X Z Y) (hL : xLam l E X (Z 20) (Z 21)) (S : xS) (D : xD) (R : xR) (P : xPk) (σ : mS) (m u : Int) (hx : Rx E Z S D R P σ) (hm : r32 m) (hu : r32 u) : xC l E X yX0_nearest cX0_nearest 7 (some .int) 14 0 0 [.ref (P.1), .int (iI m), .int (iI u)] S D R (fun rv S' D' R' => rv = some (.int (iI (sp_nearest σ m u))) ∧ (Rx E Z S D' R' P σ) ∧ S' = S ∧ fr S D D' [8003, 42, 43, 44, 112, 115, 116, 117, 46, 47, 48, 49, 1022, 68, 69] ∧ fr S R R' [1009, 1010]) := by
  refine xC.of hX.1 (by decide) [some (.ref (P.1)), some (.int (iI m)), some (.int (iI u)), none, none, none, none] (Nat.le_of_ble_eq_true rfl) rfl rfl (fun Γ hΓ => ?_)
  obtain ⟨hg, hp, hki, hro, hnw, hbh, hsa, hpd⟩ := id hx
  obtain ⟨N, NI, NM, NV, hN⟩ := (hx).now
  have hAw := hg.2.2.2.2.2.2
  have hG : GS S D R := hg.1
  obtain ⟨h1000, h1009, h1042, h1043, h1044, h1045, h1046, h1047, hms, hsi, hsm, hnm⟩ := id hro
  have eN := hN.2.2.2.2.2.2.2.2.2.2.2.2
  have kNV : (S NV).1 = 45 := by rw [hN.2.2.2.1.2]
  have nNV : (S NV).2.1 = 6 := by rw [hN.2.2.2.1.2]
  refine g_aload_n hΓ rfl dX0_nearest_0 ?_
  refine g_iload_n hΓ rfl dX0_nearest_1 ?_
  refine x_callV (As := [.int (iI m)]) (rest := []) (c := 0) hE hΓ (x_X0_isModel hE hX S D R P σ m hx (by first | assumption | omega) ) hp.1 ⟨by decide, rfl⟩ rfl rfl q852 q854 qs22 q123 q855 ndX0_isModel rfl (by decide) (by decide) (Nat.zero_le _) (Nat.zero_le _) rfl (Nat.le_of_ble_eq_true rfl) dX0_nearest_2 rfl (fun v1 S1 τ1 ρ1 h1 => ?_)
  obtain ⟨rfl, S1e, τ1e, ρ1e⟩ := h1
  have S1e := S1e.symm; subst S1e
  have τ1e := τ1e.symm; subst τ1e
  have ρ1e := ρ1e.symm; subst ρ1e
  show gW Γ E (xM E S D R) _ _ _ _ (.int (iI (if 0 ≤ m ∧ m < σ 0 1000 then 1 else 0)) :: _)
  refine g_ifB_eq (tgt := 26) hΓ  dX0_nearest_5 (by decide) (fun c2 => ?_) (fun c2 => ?_)
  · refine g_iconst hΓ dX0_nearest_26 ?_
    exact x_iret hΓ dX0_nearest_27 (Nat.zero_le _) (Nat.zero_le _) ⟨ri (by rw [sp_nearest]; first | (rw [if_neg (by omega)]; done) | (by_cases c9 : (0 ≤ m ∧ m < σ 0 1000) ∧ 0 ≤ u ∧ u ≤ 1; rw [if_pos c9, ne_one (by omega) (by omega)]; split <;> rfl; rw [if_neg c9])), hx, rfl, (fun q9 j9 hk9 => rfl), (fun q9 j9 hk9 => rfl)⟩
  · refine g_aload_n hΓ rfl dX0_nearest_8 ?_
    refine x_callV (As := []) (rest := []) (c := 0) hE hΓ (x_X0_models hE hX S D R P σ  hx  ) hp.1 ⟨by decide, rfl⟩ rfl rfl q841 q843 qs21 q123 q844 ndX0_models rfl (by decide) (by decide) (Nat.zero_le _) (Nat.zero_le _) rfl (Nat.le_of_ble_eq_true rfl) dX0_nearest_9 rfl (fun v3 S3 τ3 ρ3 h3 => ?_)
    obtain ⟨rfl, S3e, τ3e, ρ3e⟩ := h3
    have S3e := S3e.symm; subst S3e
    have τ3e := τ3e.symm; subst τ3e
    have ρ3e := ρ3e.symm; subst ρ3e
    show gW Γ E (xM E S D R) _ _ _ _ (.int (iI (σ 0 1000)) :: _)
    refine g_iconst hΓ dX0_nearest_12 ?_
    refine g_icmp_lt (tgt := 26) hΓ (by omega) (by omega) dX0_nearest_13 (by decide) (fun c4 => ?_) (fun c4 => ?_)
    · refine g_iconst hΓ dX0_nearest_26 ?_
      exact x_iret hΓ dX0_nearest_27 (Nat.zero_le _) (Nat.zero_le _) ⟨ri (by rw [sp_nearest]; first | (rw [if_neg (by omega)]; done) | (by_cases c9 : (0 ≤ m ∧ m < σ 0 1000) ∧ 0 ≤ u ∧ u ≤ 1; rw [if_pos c9, ne_one (by omega) (by omega)]; split <;> rfl; rw [if_neg c9])), hx, rfl, (fun q9 j9 hk9 => rfl), (fun q9 j9 hk9 => rfl)⟩
    · refine g_iload_n hΓ rfl dX0_nearest_16 ?_
      refine g_i2l hΓ (by omega) dX0_nearest_17 ?_
      refine g_lconst (a := 0) hΓ rfl dX0_nearest_18 ?_
      refine g_lconst (a := 1) hΓ rfl dX0_nearest_19 ?_
      refine x_callS (As := [.long (lI u), .long (lI 0), .long (lI 1)]) (rest := []) hΓ (x_X0_isIn hE hX S D R u 0 1 (by first | assumption | omega) (by first | assumption | omega) (by first | assumption | omega)) rfl q387 q388 q123 q389 ndX0_isIn rfl (by decide) (by decide) (Nat.zero_le _) (Nat.zero_le _) rfl (Nat.le_of_ble_eq_true rfl) dX0_nearest_20 rfl (fun v5 S5 τ5 ρ5 h5 => ?_)
      obtain ⟨rfl, S5e, τ5e, ρ5e⟩ := h5
      have S5e := S5e.symm; subst S5e
      have τ5e := τ5e.symm; subst τ5e
      have ρ5e := ρ5e.symm; subst ρ5e
      show gW Γ E (xM E S D R) _ _ _ _ (.int (iI (if 0 ≤ u ∧ u ≤ 1 then 1 else 0)) :: _)
      refine g_ifB_ne (tgt := 28) hΓ  dX0_nearest_23 (by decide) (fun c6 => ?_) (fun c6 => ?_)
      · refine g_iconst hΓ dX0_nearest_28 ?_
        refine g_istore_n hΓ dX0_nearest_29 rfl (Nat.le_of_ble_eq_true rfl) (lv' := [some (.ref (P.1)), some (.int (iI m)), some (.int (iI u)), some (.int (iI (-1))), none, none, none]) rfl ?_
        refine g_ldcw (n := 100000) hΓ rfl q1002 (by decide) dX0_nearest_30 ?_
        refine g_istore hΓ dX0_nearest_33 rfl (Nat.le_of_ble_eq_true rfl) (lv' := [some (.ref (P.1)), some (.int (iI m)), some (.int (iI u)), some (.int (iI (-1))), some (.int (iI 100000)), none, none]) rfl ?_
        have loop : ∀ (fu : Nat) (t : xD) (ρ : xR) (fo : Int) (few : Int) (o : Int), (σ 0 1000 - o).toNat < fu → (Rx E Z S t ρ P σ) → (fr S D t [8003, 42, 43, 44, 112, 115, 116, 117, 46, 47, 48, 49, 1022, 68, 69]) → (fr S R ρ [1009, 1010]) → (0 ≤ o ∧ o ≤ σ 0 1000) → (0 ≤ few ∧ few ≤ 100000) → (neI σ m o fo few) → (fo = -1 → o = 0 ∨ (o = 1 ∧ m = 0)) → gW Γ E (xM E S t ρ) 0 0 38 [some (.ref (P.1)), some (.int (iI m)), some (.int (iI u)), some (.int (iI fo)), some (.int (iI few)), some (.int (iI o)), none] [] := by
          intro fu
          induction fu with
          | zero => intro t ρ fo few o hn; exact absurd hn (Nat.not_lt_zero _)
          | succ fu ih_loop =>
            intro t ρ fo few o hn hx1 ht hr ho hfw hI hfo
            obtain ⟨hg, hp, hki, hro, hnw, hbh, hsa, hpd⟩ := id hx1
            obtain ⟨N, NI, NM, NV, hN⟩ := (hx1).now
            have hAw := hg.2.2.2.2.2.2
            have hG : GS S t ρ := hg.1
            obtain ⟨h1000, h1009, h1042, h1043, h1044, h1045, h1046, h1047, hms, hsi, hsm, hnm⟩ := id hro
            have eN := hN.2.2.2.2.2.2.2.2.2.2.2.2
            have kNV : (S NV).1 = 45 := by rw [hN.2.2.2.1.2]
            have nNV : (S NV).2.1 = 6 := by rw [hN.2.2.2.1.2]
            have hI1 := hI.1
            refine g_iload hΓ rfl dX0_nearest_38 ?_
            refine g_aload_n hΓ rfl dX0_nearest_40 ?_
            refine x_callV (As := []) (rest := [.int (iI o)]) (c := 0) hE hΓ (x_X0_models hE hX S t ρ P σ  hx1  ) hp.1 ⟨by decide, rfl⟩ rfl rfl q841 q843 qs21 q123 q844 ndX0_models rfl (by decide) (by decide) (Nat.zero_le _) (Nat.zero_le _) rfl (Nat.le_of_ble_eq_true rfl) dX0_nearest_41 rfl (fun v7 S7 τ7 ρ7 h7 => ?_)
            obtain ⟨rfl, S7e, τ7e, ρ7e⟩ := h7
            have S7e := S7e.symm; subst S7e
            have τ7e := τ7e.symm; subst τ7e
            have ρ7e := ρ7e.symm; subst ρ7e
            show gW Γ E (xM E S t ρ) _ _ _ _ (.int (iI (σ 0 1000)) :: _)
            refine g_icmp_ge (tgt := 91) hΓ (by omega) (by omega) dX0_nearest_44 (by decide) (fun c8 => ?_) (fun c8 => ?_)
            · refine g_iload_n hΓ rfl dX0_nearest_91 ?_
              refine g_if_ne (tgt := 99) hΓ (by omega) dX0_nearest_92 (by decide) (fun c9 => ?_) (fun c9 => ?_)
              · refine g_iload hΓ rfl dX0_nearest_99 ?_
                exact x_iret hΓ dX0_nearest_101 (Nat.zero_le _) (Nat.zero_le _) ⟨ri (by obtain ⟨i1, i2⟩ := hI; rw [sp_nearest, if_pos (by omega), i2, show (σ 0 1000 - o).toNat = 0 by omega, neF]; first | (rw [if_pos (by omega)]; done) | (rw [if_neg (by omega)]; first | (rw [if_neg (by omega)]; done) | (exfalso; omega))), hx1, rfl, ht, hr⟩
              · refine g_iload_n hΓ rfl dX0_nearest_95 ?_
                refine g_goto (tgt := 101) hΓ dX0_nearest_96 (by decide) ?_
                exact x_iret hΓ dX0_nearest_101 (Nat.zero_le _) (Nat.zero_le _) ⟨ri (by obtain ⟨i1, i2⟩ := hI; rw [sp_nearest, if_pos (by omega), i2, show (σ 0 1000 - o).toNat = 0 by omega, neF]; first | (rw [if_pos (by omega)]; done) | (rw [if_neg (by omega)]; first | (rw [if_neg (by omega)]; done) | (exfalso; omega))), hx1, rfl, ht, hr⟩
            · have hsm := sc2_r hro (x := m) (y := o) (Or.inr (by omega)) (Or.inr (by omega))
              refine g_iload hΓ rfl dX0_nearest_47 ?_
              refine g_iload_n hΓ rfl dX0_nearest_49 ?_
              refine g_icmp_ne (tgt := 59) hΓ (by omega) (by omega) dX0_nearest_50 (by decide) (fun c10 => ?_) (fun c10 => ?_)
              · refine g_aload_n hΓ rfl dX0_nearest_59 ?_
                refine g_iload_n hΓ rfl dX0_nearest_60 ?_
                refine g_iload hΓ rfl dX0_nearest_61 ?_
                refine x_callV (As := [.int (iI m), .int (iI o)]) (rest := []) (c := 0) hE hΓ (x_X0_between hE hX hL S t ρ P σ m o hx1 (by first | assumption | omega) (by first | assumption | omega) (by first | assumption | omega) ) hp.1 ⟨by decide, rfl⟩ rfl rfl q1102 q1104 qs40 q123 q1105 ndX0_between rfl (by decide) (by decide) (Nat.zero_le _) (Nat.zero_le _) rfl (Nat.le_of_ble_eq_true rfl) dX0_nearest_63 rfl (fun v11 S11 τ11 ρ11 h11 => ?_)
                obtain ⟨rfl, h11, S11e, τ11f, ρ11f⟩ := h11
                have S11e := S11e.symm; subst S11e
                show gW Γ E (xM E S τ11 ρ11) _ _ _ _ (.int (iI (sc2 σ m o)) :: _)
                obtain ⟨x12, ex12⟩ : ∃ z9 : Int, z9 = sc2 σ m o := ⟨_, rfl⟩
                refine g_topi ex12.symm ?_
                refine g_istore hΓ dX0_nearest_66 rfl (Nat.le_of_ble_eq_true rfl) (lv' := [some (.ref (P.1)), some (.int (iI m)), some (.int (iI u)), some (.int (iI fo)), some (.int (iI few)), some (.int (iI o)), some (.int (iI x12))]) rfl ?_
                refine g_iload hΓ rfl dX0_nearest_68 ?_
                refine g_iload hΓ rfl dX0_nearest_70 ?_
                refine g_icmp_lt (tgt := 78) hΓ (by omega) (by omega) dX0_nearest_72 (by decide) (fun c13 => ?_) (fun c13 => ?_)
                · refine g_iload hΓ rfl dX0_nearest_78 ?_
                  refine g_istore_n hΓ dX0_nearest_80 rfl (Nat.le_of_ble_eq_true rfl) (lv' := [some (.ref (P.1)), some (.int (iI m)), some (.int (iI u)), some (.int (iI o)), some (.int (iI few)), some (.int (iI o)), some (.int (iI x12))]) rfl ?_
                  refine g_iload hΓ rfl dX0_nearest_81 ?_
                  refine g_istore hΓ dX0_nearest_83 rfl (Nat.le_of_ble_eq_true rfl) (lv' := [some (.ref (P.1)), some (.int (iI m)), some (.int (iI u)), some (.int (iI o)), some (.int (iI x12)), some (.int (iI o)), some (.int (iI x12))]) rfl ?_
                  obtain ⟨x14, ex14⟩ : ∃ z9 : Int, z9 = o + 1 := ⟨_, rfl⟩
                  refine g_iinc hΓ dX0_nearest_85 rfl rfl (lv' := [some (.ref (P.1)), some (.int (iI m)), some (.int (iI u)), some (.int (iI o)), some (.int (iI x12)), some (.int (iI x14)), some (.int (iI x12))]) (by rw [ex14]; rfl) ?_
                  refine g_goto (tgt := 38) hΓ dX0_nearest_88 (by decide) ?_
                  refine g_lvw (lv' := [some (.ref (P.1)), some (.int (iI m)), some (.int (iI u)), some (.int (iI o)), some (.int (iI x12)), some (.int (iI x14)), none]) ⟨rfl, ⟨rfl, ⟨rfl, ⟨rfl, ⟨rfl, ⟨rfl, trivial⟩⟩⟩⟩⟩⟩ ?_
                  exact ih_loop τ11 ρ11 o x12 x14 (by omega) h11 (fr_t ht (fun q9 j9 hk9 => by exact (τ11f q9 j9 (fun e9 => hk9 ((show ∀ x ∈ [8003, 42, 43, 44, 112, 115, 116, 117, 46, 47, 48, 49, 1022, 68, 69], x ∈ [8003, 42, 43, 44, 112, 115, 116, 117, 46, 47, 48, 49, 1022, 68, 69] by decide) _ e9))))) (fr_t hr (fun q9 j9 hk9 => by exact (ρ11f q9 j9 (fun e9 => hk9 ((show ∀ x ∈ [1009, 1010], x ∈ [1009, 1010] by decide) _ e9))))) (by omega) (by omega) (by rw [show x14 = o + 1 by omega, show x12 = sc2 σ m o by omega]; exact neI_take hI (by omega) (by omega) (by omega) (by omega)) (by omega)
                · refine g_goto (tgt := 85) hΓ dX0_nearest_75 (by decide) ?_
                  obtain ⟨x15, ex15⟩ : ∃ z9 : Int, z9 = o + 1 := ⟨_, rfl⟩
                  refine g_iinc hΓ dX0_nearest_85 rfl rfl (lv' := [some (.ref (P.1)), some (.int (iI m)), some (.int (iI u)), some (.int (iI fo)), some (.int (iI few)), some (.int (iI x15)), some (.int (iI x12))]) (by rw [ex15]; rfl) ?_
                  refine g_goto (tgt := 38) hΓ dX0_nearest_88 (by decide) ?_
                  refine g_lvw (lv' := [some (.ref (P.1)), some (.int (iI m)), some (.int (iI u)), some (.int (iI fo)), some (.int (iI few)), some (.int (iI x15)), none]) ⟨rfl, ⟨rfl, ⟨rfl, ⟨rfl, ⟨rfl, ⟨rfl, trivial⟩⟩⟩⟩⟩⟩ ?_
                  exact ih_loop τ11 ρ11 fo few x15 (by omega) h11 (fr_t ht (fun q9 j9 hk9 => by exact (τ11f q9 j9 (fun e9 => hk9 ((show ∀ x ∈ [8003, 42, 43, 44, 112, 115, 116, 117, 46, 47, 48, 49, 1022, 68, 69], x ∈ [8003, 42, 43, 44, 112, 115, 116, 117, 46, 47, 48, 49, 1022, 68, 69] by decide) _ e9))))) (fr_t hr (fun q9 j9 hk9 => by exact (ρ11f q9 j9 (fun e9 => hk9 ((show ∀ x ∈ [1009, 1010], x ∈ [1009, 1010] by decide) _ e9))))) (by omega) (by omega) (by rw [show x15 = o + 1 by omega]; exact neI_keep hI (by omega) (by omega)) (by omega)
              · refine g_ldcw (n := 100000) hΓ rfl q1002 (by decide) dX0_nearest_53 ?_
                refine g_goto (tgt := 66) hΓ dX0_nearest_56 (by decide) ?_
                refine g_istore hΓ dX0_nearest_66 rfl (Nat.le_of_ble_eq_true rfl) (lv' := [some (.ref (P.1)), some (.int (iI m)), some (.int (iI u)), some (.int (iI fo)), some (.int (iI few)), some (.int (iI o)), some (.int (iI 100000))]) rfl ?_
                refine g_iload hΓ rfl dX0_nearest_68 ?_
                refine g_iload hΓ rfl dX0_nearest_70 ?_
                refine g_icmp_lt (tgt := 78) hΓ (by omega) (by omega) dX0_nearest_72 (by decide) (fun c16 => ?_) (fun c16 => ?_)
                · refine g_iload hΓ rfl dX0_nearest_78 ?_
                  refine g_istore_n hΓ dX0_nearest_80 rfl (Nat.le_of_ble_eq_true rfl) (lv' := [some (.ref (P.1)), some (.int (iI m)), some (.int (iI u)), some (.int (iI o)), some (.int (iI few)), some (.int (iI o)), some (.int (iI 100000))]) rfl ?_
                  refine g_iload hΓ rfl dX0_nearest_81 ?_
                  refine g_istore hΓ dX0_nearest_83 rfl (Nat.le_of_ble_eq_true rfl) (lv' := [some (.ref (P.1)), some (.int (iI m)), some (.int (iI u)), some (.int (iI o)), some (.int (iI 100000)), some (.int (iI o)), some (.int (iI 100000))]) rfl ?_
                  obtain ⟨x17, ex17⟩ : ∃ z9 : Int, z9 = o + 1 := ⟨_, rfl⟩
                  refine g_iinc hΓ dX0_nearest_85 rfl rfl (lv' := [some (.ref (P.1)), some (.int (iI m)), some (.int (iI u)), some (.int (iI o)), some (.int (iI 100000)), some (.int (iI x17)), some (.int (iI 100000))]) (by rw [ex17]; rfl) ?_
                  refine g_goto (tgt := 38) hΓ dX0_nearest_88 (by decide) ?_
                  refine g_lvw (lv' := [some (.ref (P.1)), some (.int (iI m)), some (.int (iI u)), some (.int (iI o)), some (.int (iI 100000)), some (.int (iI x17)), none]) ⟨rfl, ⟨rfl, ⟨rfl, ⟨rfl, ⟨rfl, ⟨rfl, trivial⟩⟩⟩⟩⟩⟩ ?_
                  exact ih_loop t ρ o 100000 x17 (by omega) hx1 ht hr (by omega) (by omega) (by rw [show x17 = o + 1 by omega, show 100000 = sc2 σ m o by omega]; exact neI_take hI (by omega) (by omega) (by omega) (by omega)) (by omega)
                · refine g_goto (tgt := 85) hΓ dX0_nearest_75 (by decide) ?_
                  obtain ⟨x18, ex18⟩ : ∃ z9 : Int, z9 = o + 1 := ⟨_, rfl⟩
                  refine g_iinc hΓ dX0_nearest_85 rfl rfl (lv' := [some (.ref (P.1)), some (.int (iI m)), some (.int (iI u)), some (.int (iI fo)), some (.int (iI few)), some (.int (iI x18)), some (.int (iI 100000))]) (by rw [ex18]; rfl) ?_
                  refine g_goto (tgt := 38) hΓ dX0_nearest_88 (by decide) ?_
                  refine g_lvw (lv' := [some (.ref (P.1)), some (.int (iI m)), some (.int (iI u)), some (.int (iI fo)), some (.int (iI few)), some (.int (iI x18)), none]) ⟨rfl, ⟨rfl, ⟨rfl, ⟨rfl, ⟨rfl, ⟨rfl, trivial⟩⟩⟩⟩⟩⟩ ?_
                  exact ih_loop t ρ fo few x18 (by omega) hx1 ht hr (by omega) (by omega) (by rw [show x18 = o + 1 by omega]; exact neI_keep hI (by omega) (by omega)) (by omega)
        refine g_iconst hΓ dX0_nearest_35 ?_
        refine g_istore hΓ dX0_nearest_36 rfl (Nat.le_of_ble_eq_true rfl) (lv' := [some (.ref (P.1)), some (.int (iI m)), some (.int (iI u)), some (.int (iI (-1))), some (.int (iI 100000)), some (.int (iI 0)), none]) rfl ?_
        exact loop 9 D R (-1) 100000 0 (by omega) hx fr_rfl fr_rfl (by omega) (by omega) (neI_0 σ m) (by omega)
      · refine g_iconst hΓ dX0_nearest_26 ?_
        exact x_iret hΓ dX0_nearest_27 (Nat.zero_le _) (Nat.zero_le _) ⟨ri (by rw [sp_nearest]; first | (rw [if_neg (by omega)]; done) | (by_cases c9 : (0 ≤ m ∧ m < σ 0 1000) ∧ 0 ≤ u ∧ u ≤ 1; rw [if_pos c9, ne_one (by omega) (by omega)]; split <;> rfl; rw [if_neg c9])), hx, rfl, (fun q9 j9 hk9 => rfl), (fun q9 j9 hk9 => rfl)⟩
