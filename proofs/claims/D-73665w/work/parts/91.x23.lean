set_option maxRecDepth 100000
set_option maxHeartbeats 4000000 in
theorem x_X0_scoreOf {l : Launch} {E : gE} {X : State → Prop} {Z : Nat → Nat} {Y : Nat → Option Nat} (hE : E.2.1 = clsX) (hX : xOK l E X Z Y) (hL : xLam l E X (Z 20) (Z 21)) (S : xS) (D : xD) (R : xR) (P : xPk) (σ : mS) (a b ka kb : Nat) (sA nA sB nB : Int) (hx : Rx E Z S D R P σ) (hka : (S a).1 = ka) (hk3a : ka = 10 ∨ ka = 12 ∨ ka = 13) (hla : lsR S D R a σ sA nA) (hleA : letS σ sA nA) (hkb : (S b).1 = kb) (hk3b : kb = 10 ∨ kb = 12 ∨ kb = 13) (hlb : lsR S D R b σ sB nB) (hleB : letS σ sB nB) : xC l E X yX0_scoreOf cX0_scoreOf 3 (some .int) 12 0 0 [.ref (P.1), .ref a, .ref b] S D R (fun rv S' D' R' => rv = some (.int (iI (scS σ sA nA sB nB))) ∧ (Rx E Z S D' R' P σ ∧ cosT P D' σ sA nA sB nB (σ 0 1043) ∧ ∀ k, 0 ≤ k → k < nA → D' (P.2.1 19) k = parO (pcst σ sA nA sB nB (σ 0 1043) (σ 0 1045)) (σ 0 1044) nB.toNat nA.toNat k) ∧ S' = S ∧ fr S D D' [8003, 42, 43, 44, 112, 115, 116, 117, 46, 47, 48, 49, 1022, 68, 69] ∧ fr S R R' [1009, 1010]) := by
  refine xC.of hX.1 (by decide) [some (.ref (P.1)), some (.ref a), some (.ref b)] (Nat.le_of_ble_eq_true rfl) rfl rfl (fun Γ hΓ => ?_)
  obtain ⟨hg, hp, hki, hro, hnw, hbh, hsa, hpd⟩ := id hx
  obtain ⟨N, NI, NM, NV, hN⟩ := (hx).now
  have hAw := hg.2.2.2.2.2.2
  have hG : GS S D R := hg.1
  obtain ⟨h1000, h1009, h1042, h1043, h1044, h1045, h1046, h1047, hms, hsi, hsm, hnm⟩ := id hro
  have eN := hN.2.2.2.2.2.2.2.2.2.2.2.2
  have kNV : (S NV).1 = 45 := by rw [hN.2.2.2.1.2]
  have nNV : (S NV).2.1 = 6 := by rw [hN.2.2.2.1.2]
  have hkra : 10 ≤ ka ∧ ka ≤ 17 := by omega
  have hkrb : 10 ≤ kb ∧ kb ≤ 17 := by omega
  have hmA0 := hleA.2.1
  have hmA8 := hleA.2.2.1
  have hmB0 := hleB.2.1
  have hmB8 := hleB.2.2.1
  refine g_aload_n hΓ rfl dX0_scoreOf_0 ?_
  refine g_aload_n hΓ rfl dX0_scoreOf_1 ?_
  refine g_aload_n hΓ rfl dX0_scoreOf_2 ?_
  refine g_aload_n hΓ rfl dX0_scoreOf_3 ?_
  refine x_geta (r := some N) (c := 0) hE hΓ in_X0 rfl hp.1 ⟨by decide, rfl⟩ 4 (ji := 4) rfl (by decide) (by decide) rfl q250 rfl rfl hN.1.1 dX0_scoreOf_4 ?_
  show gW Γ E (xM E S D R) 0 0 _ _ (.ref N :: _)
  refine x_geta (r := some NV) (c := 1) hE hΓ in_X1 rfl hN.1.2 ⟨by decide, rfl⟩ 2 (ji := 2) rfl (by decide) (by decide) rfl q203 rfl rfl hN.2.2.2.1.1 dX0_scoreOf_7 ?_
  show gW Γ E (xM E S D R) 0 0 _ _ (.ref NV :: _)
  refine g_iconst hΓ dX0_scoreOf_10 ?_
  refine x_iald hΓ kNV nNV ⟨by decide, rfl⟩ (by omega) (by omega) dX0_scoreOf_11 ?_
  refine g_topi (hN.2.2.2.2.2.2.2.1) ?_
  refine x_callV (As := [.ref a, .ref b, .int (iI (σ 0 1043))]) (rest := []) (c := 0) hE hΓ (x_X0_laysCosts hE hX hL S D R P σ a b ka kb (σ 0 1043) sA nA sB nB hx hka hk3a hla hleA hkb hk3b hlb hleB (by omega) ) hp.1 ⟨by decide, rfl⟩ rfl rfl q1043 q1045 qs34 q123 q1046 ndX0_laysCosts rfl (by decide) (by decide) (Nat.zero_le _) (Nat.zero_le _) rfl (Nat.le_of_ble_eq_true rfl) dX0_scoreOf_12 rfl (fun v1 S1 τ1 ρ1 h1 => ?_)
  obtain ⟨rfl, h1, S1e, τ1f, ρ1f⟩ := h1
  have S1e := S1e.symm; subst S1e
  refine g_aload_n hΓ rfl dX0_scoreOf_15 ?_
  refine g_aload_n hΓ rfl dX0_scoreOf_16 ?_
  refine x_callV (As := []) (rest := [.ref (P.1)]) (c := 10) hE hΓ (x_J2_size hE hX S τ1 ρ1 a ka hka hkra ) hka (ks_10_17 hkra) rfl rfl q845 q662 q663 q127 q664 ndJ2_size rfl (by decide) (by decide) (Nat.zero_le _) (Nat.zero_le _) rfl (Nat.le_of_ble_eq_true rfl) dX0_scoreOf_17 rfl (fun v2 S2 τ2 ρ2 h2 => ?_)
  obtain ⟨rfl, S2e, τ2e, ρ2e⟩ := h2
  have S2e := S2e.symm; subst S2e
  have τ2e := τ2e.symm; subst τ2e
  have ρ2e := ρ2e.symm; subst ρ2e
  refine g_topi (((τ1f a 2 (by rw [hka, mdN _ (by omega)]; intro h9; simp at h9; omega)).trans hla.1)) ?_
  show gW Γ E (xM E S τ1 ρ1) _ _ _ _ (.int (iI nA) :: _)
  refine g_aload_n hΓ rfl dX0_scoreOf_20 ?_
  refine x_callV (As := []) (rest := [.int (iI nA), .ref (P.1)]) (c := 10) hE hΓ (x_J2_size hE hX S τ1 ρ1 b kb hkb hkrb ) hkb (ks_10_17 hkrb) rfl rfl q845 q662 q663 q127 q664 ndJ2_size rfl (by decide) (by decide) (Nat.zero_le _) (Nat.zero_le _) rfl (Nat.le_of_ble_eq_true rfl) dX0_scoreOf_21 rfl (fun v3 S3 τ3 ρ3 h3 => ?_)
  obtain ⟨rfl, S3e, τ3e, ρ3e⟩ := h3
  have S3e := S3e.symm; subst S3e
  have τ3e := τ3e.symm; subst τ3e
  have ρ3e := ρ3e.symm; subst ρ3e
  refine g_topi (((τ1f b 2 (by rw [hkb, mdN _ (by omega)]; intro h9; simp at h9; omega)).trans hlb.1)) ?_
  show gW Γ E (xM E S τ1 ρ1) _ _ _ _ (.int (iI nB) :: _)
  refine g_aload_n hΓ rfl dX0_scoreOf_24 ?_
  refine x_geta (r := some N) (c := 0) hE hΓ in_X0 rfl hp.1 ⟨by decide, rfl⟩ 4 (ji := 4) rfl (by decide) (by decide) rfl q250 rfl rfl ((ρ1f (P.1) 4 (by rw [hp.1]; decide)).trans hN.1.1) dX0_scoreOf_25 ?_
  show gW Γ E (xM E S τ1 ρ1) 0 0 _ _ (.ref N :: _)
  refine x_geta (r := some NV) (c := 1) hE hΓ in_X1 rfl hN.1.2 ⟨by decide, rfl⟩ 2 (ji := 2) rfl (by decide) (by decide) rfl q203 rfl rfl ((ρ1f N 2 (by rw [hN.1.2]; decide)).trans hN.2.2.2.1.1) dX0_scoreOf_28 ?_
  show gW Γ E (xM E S τ1 ρ1) 0 0 _ _ (.ref NV :: _)
  refine g_iconst hΓ dX0_scoreOf_31 ?_
  refine x_iald hΓ kNV nNV ⟨by decide, rfl⟩ (by omega) (by omega) dX0_scoreOf_32 ?_
  refine g_topi (((τ1f NV 2 (by rw [kNV, mdN _ (by decide)]; decide)).trans hN.2.2.2.2.2.2.2.2.1)) ?_
  refine g_aload_n hΓ rfl dX0_scoreOf_33 ?_
  refine x_geta (r := some N) (c := 0) hE hΓ in_X0 rfl hp.1 ⟨by decide, rfl⟩ 4 (ji := 4) rfl (by decide) (by decide) rfl q250 rfl rfl ((ρ1f (P.1) 4 (by rw [hp.1]; decide)).trans hN.1.1) dX0_scoreOf_34 ?_
  show gW Γ E (xM E S τ1 ρ1) 0 0 _ _ (.ref N :: _)
  refine x_geta (r := some NV) (c := 1) hE hΓ in_X1 rfl hN.1.2 ⟨by decide, rfl⟩ 2 (ji := 2) rfl (by decide) (by decide) rfl q203 rfl rfl ((ρ1f N 2 (by rw [hN.1.2]; decide)).trans hN.2.2.2.1.1) dX0_scoreOf_37 ?_
  show gW Γ E (xM E S τ1 ρ1) 0 0 _ _ (.ref NV :: _)
  refine g_iconst hΓ dX0_scoreOf_40 ?_
  refine x_iald hΓ kNV nNV ⟨by decide, rfl⟩ (by omega) (by omega) dX0_scoreOf_41 ?_
  refine g_topi (((τ1f NV 3 (by rw [kNV, mdN _ (by decide)]; decide)).trans hN.2.2.2.2.2.2.2.2.2.1)) ?_
  refine x_callV (As := [.int (iI nA), .int (iI nB), .int (iI (σ 0 1044)), .int (iI (σ 0 1045))]) (rest := []) (c := 0) hE hΓ (x_X0_scoreBy hE hX S τ1 ρ1 P σ nA nB (σ 0 1044) (σ 0 1045) (σ 0 1043) sA sB h1.1 hleA hleB (by omega) (by omega) (by omega) h1.2 ) hp.1 ⟨by decide, rfl⟩ rfl rfl q1047 q1049 qs35 q123 q1050 ndX0_scoreBy rfl (by decide) (by decide) (Nat.zero_le _) (Nat.zero_le _) rfl (Nat.le_of_ble_eq_true rfl) dX0_scoreOf_42 rfl (fun v4 S4 τ4 ρ4 h4 => ?_)
  obtain ⟨rfl, h4, S4e, τ4f, ρ4e⟩ := h4
  have S4e := S4e.symm; subst S4e
  have ρ4e := ρ4e.symm; subst ρ4e
  show gW Γ E (xM E S τ4 ρ1) _ _ _ _ (.int (iI (scr σ sA nA sB nB (σ 0 1043) (σ 0 1044) (σ 0 1045))) :: _)
  exact x_iret hΓ dX0_scoreOf_45 (Nat.zero_le _) (Nat.zero_le _) ⟨ri rfl, h4, rfl, (fun q9 j9 hk9 => by exact ((τ4f q9 j9 (fun e9 => hk9 ((show ∀ x ∈ [1022, 68, 69], x ∈ [8003, 42, 43, 44, 112, 115, 116, 117, 46, 47, 48, 49, 1022, 68, 69] by decide) _ e9))).trans (τ1f q9 j9 (fun e9 => hk9 ((show ∀ x ∈ [8003, 42, 43, 44, 112, 115, 116, 117, 46, 47, 48, 49], x ∈ [8003, 42, 43, 44, 112, 115, 116, 117, 46, 47, 48, 49, 1022, 68, 69] by decide) _ e9))))), (fun q9 j9 hk9 => by exact (ρ1f q9 j9 (fun e9 => hk9 ((show ∀ x ∈ [1009, 1010], x ∈ [1009, 1010] by decide) _ e9))))⟩
set_option maxHeartbeats 4000000 in
theorem x_X0_score {l : Launch} {E : gE} {X : State → Prop} {Z : Nat → Nat} {Y : Nat → Option Nat} (hE : E.2.1 = clsX) (hX : xOK l E X Z Y) (hL : xLam l E X (Z 20) (Z 21)) (S : xS) (D : xD) (R : xR) (P : xPk) (σ : mS) (lx ly : Int) (hx : Rx E Z S D R P σ) (hlx : r32 lx) (hly : r32 ly) : xC l E X yX0_score cX0_score 3 (some .int) 13 0 0 [.ref (P.1), .int (iI lx), .int (iI ly)] S D R (fun rv S' D' R' => rv = some (.int (iI (sp_score σ lx ly))) ∧ (Rx E Z S D' R' P σ) ∧ S' = S ∧ fr S D D' [8003, 42, 43, 44, 112, 115, 116, 117, 46, 47, 48, 49, 1022, 68, 69] ∧ fr S R R' [1009, 1010]) := by
  refine xC.of hX.1 (by decide) [some (.ref (P.1)), some (.int (iI lx)), some (.int (iI ly))] (Nat.le_of_ble_eq_true rfl) rfl rfl (fun Γ hΓ => ?_)
  obtain ⟨hg, hp, hki, hro, hnw, hbh, hsa, hpd⟩ := id hx
  obtain ⟨N, NI, NM, NV, hN⟩ := (hx).now
  have hAw := hg.2.2.2.2.2.2
  have hG : GS S D R := hg.1
  obtain ⟨h1000, h1009, h1042, h1043, h1044, h1045, h1046, h1047, hms, hsi, hsm, hnm⟩ := id hro
  have eN := hN.2.2.2.2.2.2.2.2.2.2.2.2
  have kNV : (S NV).1 = 45 := by rw [hN.2.2.2.1.2]
  have nNV : (S NV).2.1 = 6 := by rw [hN.2.2.2.1.2]
  refine g_aload_n hΓ rfl dX0_score_0 ?_
  refine g_iload_n hΓ rfl dX0_score_1 ?_
  refine x_callV (As := [.int (iI lx)]) (rest := []) (c := 0) hE hΓ (x_X0_isLetter hE hX S D R P σ lx hx (by first | assumption | omega) ) hp.1 ⟨by decide, rfl⟩ rfl rfl q899 q901 qs23 q123 q902 ndX0_isLetter rfl (by decide) (by decide) (Nat.zero_le _) (Nat.zero_le _) rfl (Nat.le_of_ble_eq_true rfl) dX0_score_2 rfl (fun v1 S1 τ1 ρ1 h1 => ?_)
  obtain ⟨rfl, S1e, τ1e, ρ1e⟩ := h1
  have S1e := S1e.symm; subst S1e
  have τ1e := τ1e.symm; subst τ1e
  have ρ1e := ρ1e.symm; subst ρ1e
  show gW Γ E (xM E S D R) _ _ _ _ (.int (iI (if lx = -1 ∨ (0 ≤ lx ∧ lx < σ 0 1000) then 1 else 0)) :: _)
  refine g_ifB_eq (tgt := 33) hΓ  dX0_score_5 (by decide) (fun c2 => ?_) (fun c2 => ?_)
  · refine g_iconst hΓ dX0_score_33 ?_
    exact x_iret hΓ dX0_score_34 (Nat.zero_le _) (Nat.zero_le _) ⟨ri (by rw [sp_score]; first | (rw [if_pos ⟨by omega, by omega⟩]; rfl) | (rw [if_neg (by omega)])), hx, rfl, (fun q9 j9 hk9 => rfl), (fun q9 j9 hk9 => rfl)⟩
  · refine g_aload_n hΓ rfl dX0_score_8 ?_
    refine g_iload_n hΓ rfl dX0_score_9 ?_
    refine x_callV (As := [.int (iI ly)]) (rest := []) (c := 0) hE hΓ (x_X0_isLetter hE hX S D R P σ ly hx (by first | assumption | omega) ) hp.1 ⟨by decide, rfl⟩ rfl rfl q899 q901 qs23 q123 q902 ndX0_isLetter rfl (by decide) (by decide) (Nat.zero_le _) (Nat.zero_le _) rfl (Nat.le_of_ble_eq_true rfl) dX0_score_10 rfl (fun v3 S3 τ3 ρ3 h3 => ?_)
    obtain ⟨rfl, S3e, τ3e, ρ3e⟩ := h3
    have S3e := S3e.symm; subst S3e
    have τ3e := τ3e.symm; subst τ3e
    have ρ3e := ρ3e.symm; subst ρ3e
    show gW Γ E (xM E S D R) _ _ _ _ (.int (iI (if ly = -1 ∨ (0 ≤ ly ∧ ly < σ 0 1000) then 1 else 0)) :: _)
    refine g_ifB_eq (tgt := 33) hΓ  dX0_score_13 (by decide) (fun c4 => ?_) (fun c4 => ?_)
    · refine g_iconst hΓ dX0_score_33 ?_
      exact x_iret hΓ dX0_score_34 (Nat.zero_le _) (Nat.zero_le _) ⟨ri (by rw [sp_score]; first | (rw [if_pos ⟨by omega, by omega⟩]; rfl) | (rw [if_neg (by omega)])), hx, rfl, (fun q9 j9 hk9 => rfl), (fun q9 j9 hk9 => rfl)⟩
    · refine g_aload_n hΓ rfl dX0_score_16 ?_
      refine g_aload_n hΓ rfl dX0_score_17 ?_
      refine g_iload_n hΓ rfl dX0_score_18 ?_
      refine x_callV (As := [.int (iI lx)]) (rest := [.ref (P.1)]) (c := 0) hE hΓ (x_X0_strokesOf hE hX S D R P σ lx hx (by first | assumption | omega) (by first | assumption | omega) ) hp.1 ⟨by decide, rfl⟩ rfl rfl q903 q905 qs24 q123 q906 ndX0_strokesOf rfl (by decide) (by decide) (Nat.zero_le _) (Nat.zero_le _) rfl (Nat.le_of_ble_eq_true rfl) dX0_score_19 rfl (fun v5 S5 τ5 ρ5 h5 => ?_)
      obtain ⟨rfl, S5e, τ5e, ρ5e⟩ := h5
      have S5e := S5e.symm; subst S5e
      have τ5e := τ5e.symm; subst τ5e
      have ρ5e := ρ5e.symm; subst ρ5e
      show gW Γ E (xM E S D R) _ _ _ _ (.ref (lsA R (rf R P.1 4) lx) :: _)
      refine g_aload_n hΓ rfl dX0_score_22 ?_
      refine g_iload_n hΓ rfl dX0_score_23 ?_
      refine x_callV (As := [.int (iI ly)]) (rest := [.ref (lsA R (rf R P.1 4) lx), .ref (P.1)]) (c := 0) hE hΓ (x_X0_strokesOf hE hX S D R P σ ly hx (by first | assumption | omega) (by first | assumption | omega) ) hp.1 ⟨by decide, rfl⟩ rfl rfl q903 q905 qs24 q123 q906 ndX0_strokesOf rfl (by decide) (by decide) (Nat.zero_le _) (Nat.zero_le _) rfl (Nat.le_of_ble_eq_true rfl) dX0_score_24 rfl (fun v6 S6 τ6 ρ6 h6 => ?_)
      obtain ⟨rfl, S6e, τ6e, ρ6e⟩ := h6
      have S6e := S6e.symm; subst S6e
      have τ6e := τ6e.symm; subst τ6e
      have ρ6e := ρ6e.symm; subst ρ6e
      show gW Γ E (xM E S D R) _ _ _ _ (.ref (lsA R (rf R P.1 4) ly) :: _)
      have hlt7 := (hx).letter (m := lx) (by omega)
      obtain ⟨kl7, hkl7, hk37⟩ : ∃ k : Nat, (S (lsA R (rf R P.1 4) lx)).1 = k ∧ (k = 10 ∨ k = 12 ∨ k = 13) := ⟨_, rfl, by have := hlt7.2.1; omega⟩
      have hkr7 : 10 ≤ kl7 ∧ kl7 ≤ 17 := by omega
      have hlt8 := (hx).letter (m := ly) (by omega)
      obtain ⟨kl8, hkl8, hk38⟩ : ∃ k : Nat, (S (lsA R (rf R P.1 4) ly)).1 = k ∧ (k = 10 ∨ k = 12 ∨ k = 13) := ⟨_, rfl, by have := hlt8.2.1; omega⟩
      have hkr8 : 10 ≤ kl8 ∧ kl8 ≤ 17 := by omega
      refine x_callV (As := [.ref (lsA R (rf R P.1 4) lx), .ref (lsA R (rf R P.1 4) ly)]) (rest := []) (c := 0) hE hΓ (x_X0_scoreOf hE hX hL S D R P σ (lsA R (rf R P.1 4) lx) (lsA R (rf R P.1 4) ly) kl7 kl8 (fsS lx) (mnS σ lx) (fsS ly) (mnS σ ly) hx hkl7 hk37 hlt7.1 hlt7.2.2.2 hkl8 hk38 hlt8.1 hlt8.2.2.2 ) hp.1 ⟨by decide, rfl⟩ rfl rfl q1039 q1041 qs33 q123 q1042 ndX0_scoreOf rfl (by decide) (by decide) (Nat.zero_le _) (Nat.zero_le _) rfl (Nat.le_of_ble_eq_true rfl) dX0_score_27 rfl (fun v9 S9 τ9 ρ9 h9 => ?_)
      obtain ⟨rfl, h9, S9e, τ9f, ρ9f⟩ := h9
      have S9e := S9e.symm; subst S9e
      show gW Γ E (xM E S τ9 ρ9) _ _ _ _ (.int (iI (scS σ (fsS lx) (mnS σ lx) (fsS ly) (mnS σ ly))) :: _)
      refine g_goto (tgt := 34) hΓ dX0_score_30 (by decide) ?_
      exact x_iret hΓ dX0_score_34 (Nat.zero_le _) (Nat.zero_le _) ⟨ri (by rw [sp_score]; first | (rw [if_pos ⟨by omega, by omega⟩]; rfl) | (rw [if_neg (by omega)])), h9.1, rfl, (fun q9 j9 hk9 => by exact (τ9f q9 j9 (fun e9 => hk9 ((show ∀ x ∈ [8003, 42, 43, 44, 112, 115, 116, 117, 46, 47, 48, 49, 1022, 68, 69], x ∈ [8003, 42, 43, 44, 112, 115, 116, 117, 46, 47, 48, 49, 1022, 68, 69] by decide) _ e9)))), (fun q9 j9 hk9 => by exact (ρ9f q9 j9 (fun e9 => hk9 ((show ∀ x ∈ [1009, 1010], x ∈ [1009, 1010] by decide) _ e9))))⟩
set_option maxHeartbeats 4000000 in
theorem x_X0_costOf {l : Launch} {E : gE} {X : State → Prop} {Z : Nat → Nat} {Y : Nat → Option Nat} (hE : E.2.1 = clsX) (hX : xOK l E X Z Y) (S : xS) (D : xD) (R : xR) (P : xPk) (σ : mS) (i x y : Int) (hx : Rx E Z S D R P σ) (hlx : isL σ x) (hly : isL σ y) (hi : 0 ≤ i ∧ i < mnS σ x) (hcos : cosT P D σ (fsS x) (mnS σ x) (fsS y) (mnS σ y) (σ 0 1043)) (hbe : D (P.2.1 19) i = pnr σ x y i) : xC l E X yX0_costOf cX0_costOf 3 (some .int) 1 0 0 [.ref (P.1), .int (iI i)] S D R (fun rv S' D' R' => rv = some (.int (iI (cof σ x y i))) ∧ S' = S ∧ D' = D ∧ R' = R) := by
  refine xC.of hX.1 (by decide) [some (.ref (P.1)), some (.int (iI i)), none] (Nat.le_of_ble_eq_true rfl) rfl rfl (fun Γ hΓ => ?_)
  obtain ⟨hg, hp, hki, hro, hnw, hbh, hsa, hpd⟩ := id hx
  obtain ⟨N, NI, NM, NV, hN⟩ := (hx).now
  have hAw := hg.2.2.2.2.2.2
  have hG : GS S D R := hg.1
  obtain ⟨h1000, h1009, h1042, h1043, h1044, h1045, h1046, h1047, hms, hsi, hsm, hnm⟩ := id hro
  have eN := hN.2.2.2.2.2.2.2.2.2.2.2.2
  have kNV : (S NV).1 = 45 := by rw [hN.2.2.2.1.2]
  have nNV : (S NV).2.1 = 6 := by rw [hN.2.2.2.1.2]
  have hmx := mnS_r hro hlx
  have hmy := mnS_r hro hly
  have hpn := pnr_r hro (x := x) hly i
  refine g_aload_n hΓ rfl dX0_costOf_0 ?_
  refine x_geta (r := some (P.2.1 19)) (c := 0) hE hΓ in_X0 rfl hp.1 ⟨by decide, rfl⟩ 19 (ji := 19) rfl (by decide) (by decide) rfl q265 rfl rfl (pA_r hp 19 rfl rfl) dX0_costOf_1 ?_
  show gW Γ E (xM E S D R) 0 0 _ _ (.ref (P.2.1 19) :: _)
  refine g_iload_n hΓ rfl dX0_costOf_4 ?_
  refine x_iald hΓ (pA_k hp 19 rfl (n := 69) rfl) (pA_n hp 19 rfl (n := 8) rfl) ⟨by decide, rfl⟩ (by omega) (by omega) dX0_costOf_5 ?_
  refine g_topi (hbe) ?_
  obtain ⟨x1, ex1⟩ : ∃ z9 : Int, z9 = pnr σ x y i := ⟨_, rfl⟩
  refine g_topi ex1.symm ?_
  refine g_istore_n hΓ dX0_costOf_6 rfl (Nat.le_of_ble_eq_true rfl) (lv' := [some (.ref (P.1)), some (.int (iI i)), some (.int (iI x1))]) rfl ?_
  refine g_iload_n hΓ rfl dX0_costOf_7 ?_
  refine g_iconst hΓ dX0_costOf_8 ?_
  refine g_icmp_ne (tgt := 22) hΓ (by omega) (by omega) dX0_costOf_9 (by decide) (fun c2 => ?_) (fun c2 => ?_)
  · have he0 := els_64 h1042 (fsS x + i) (fsS y + x1) 0 h1043.1
    have he1 := els_64 h1042 (fsS x + i) (fsS y + x1) 1 h1043.1
    refine g_aload_n hΓ rfl dX0_costOf_22 ?_
    refine x_geta (r := some (P.2.1 15)) (c := 0) hE hΓ in_X0 rfl hp.1 ⟨by decide, rfl⟩ 15 (ji := 15) rfl (by decide) (by decide) rfl q261 rfl rfl (pA_r hp 15 rfl rfl) dX0_costOf_23 ?_
    show gW Γ E (xM E S D R) 0 0 _ _ (.ref (P.2.1 15) :: _)
    refine g_iload_n hΓ rfl dX0_costOf_26 ?_
    refine x_aaldG (r := some (P.2.2 15 i)) hΓ (pA_k hp 15 rfl (n := 65) rfl) (pA_n hp 15 rfl (n := 8) rfl) ⟨by decide, rfl⟩ (by omega) (by omega) (pG_r hp 15 rfl (n := 8) rfl (i := i) (by omega)) dX0_costOf_27 ?_
    show gW Γ E (xM E S D R) 0 0 _ _ (.ref (P.2.2 15 i) :: _)
    refine g_iload_n hΓ rfl dX0_costOf_28 ?_
    refine x_iald hΓ (pG_k hp 15 rfl (n := 8) rfl (i := i) (by omega) (m := 115) rfl) (pG_n hp 15 rfl (n := 8) rfl (i := i) (by omega) (m := 8) rfl) ⟨by decide, rfl⟩ (by omega) (by omega) dX0_costOf_29 ?_
    refine g_topi ((hcos i x1 (by omega) (by omega) (by omega) (by omega)).1) ?_
    refine g_aload_n hΓ rfl dX0_costOf_30 ?_
    refine x_geta (r := some (P.2.1 16)) (c := 0) hE hΓ in_X0 rfl hp.1 ⟨by decide, rfl⟩ 16 (ji := 16) rfl (by decide) (by decide) rfl q262 rfl rfl (pA_r hp 16 rfl rfl) dX0_costOf_31 ?_
    show gW Γ E (xM E S D R) 0 0 _ _ (.ref (P.2.1 16) :: _)
    refine g_iload_n hΓ rfl dX0_costOf_34 ?_
    refine x_aaldG (r := some (P.2.2 16 i)) hΓ (pA_k hp 16 rfl (n := 66) rfl) (pA_n hp 16 rfl (n := 8) rfl) ⟨by decide, rfl⟩ (by omega) (by omega) (pG_r hp 16 rfl (n := 8) rfl (i := i) (by omega)) dX0_costOf_35 ?_
    show gW Γ E (xM E S D R) 0 0 _ _ (.ref (P.2.2 16 i) :: _)
    refine g_iload_n hΓ rfl dX0_costOf_36 ?_
    refine x_iald hΓ (pG_k hp 16 rfl (n := 8) rfl (i := i) (by omega) (m := 116) rfl) (pG_n hp 16 rfl (n := 8) rfl (i := i) (by omega) (m := 8) rfl) ⟨by decide, rfl⟩ (by omega) (by omega) dX0_costOf_37 ?_
    refine g_topi ((hcos i x1 (by omega) (by omega) (by omega) (by omega)).2.1) ?_
    refine g_aload_n hΓ rfl dX0_costOf_38 ?_
    refine x_geta (r := some N) (c := 0) hE hΓ in_X0 rfl hp.1 ⟨by decide, rfl⟩ 4 (ji := 4) rfl (by decide) (by decide) rfl q250 rfl rfl hN.1.1 dX0_costOf_39 ?_
    show gW Γ E (xM E S D R) 0 0 _ _ (.ref N :: _)
    refine x_geta (r := some NV) (c := 1) hE hΓ in_X1 rfl hN.1.2 ⟨by decide, rfl⟩ 2 (ji := 2) rfl (by decide) (by decide) rfl q203 rfl rfl hN.2.2.2.1.1 dX0_costOf_42 ?_
    show gW Γ E (xM E S D R) 0 0 _ _ (.ref NV :: _)
    refine g_iconst hΓ dX0_costOf_45 ?_
    refine x_iald hΓ kNV nNV ⟨by decide, rfl⟩ (by omega) (by omega) dX0_costOf_46 ?_
    refine g_topi (hN.2.2.2.2.2.2.2.2.2.1) ?_
    refine g_iadd hΓ dX0_costOf_47 ?_
    refine x_callS (As := [.int (iI (els σ (fsS x + i) (fsS y + x1) 0 (σ 0 1043))), .int (iI ((els σ (fsS x + i) (fsS y + x1) 1 (σ 0 1043)) + (σ 0 1045)))]) (rest := []) hΓ (x_J3_min hE hX S D R (els σ (fsS x + i) (fsS y + x1) 0 (σ 0 1043)) ((els σ (fsS x + i) (fsS y + x1) 1 (σ 0 1043)) + (σ 0 1045)) (by first | assumption | omega) (by first | assumption | omega)) rfl q222 q223 q129 q224 ndJ3_min rfl (by decide) (by decide) (Nat.zero_le _) (Nat.zero_le _) rfl (Nat.le_of_ble_eq_true rfl) dX0_costOf_48 rfl (fun v3 S3 τ3 ρ3 h3 => ?_)
    obtain ⟨rfl, S3e, τ3e, ρ3e⟩ := h3
    have S3e := S3e.symm; subst S3e
    have τ3e := τ3e.symm; subst τ3e
    have ρ3e := ρ3e.symm; subst ρ3e
    show gW Γ E (xM E S D R) _ _ _ _ (.int (iI (min (els σ (fsS x + i) (fsS y + x1) 0 (σ 0 1043)) ((els σ (fsS x + i) (fsS y + x1) 1 (σ 0 1043)) + (σ 0 1045)))) :: _)
    refine g_aload_n hΓ rfl dX0_costOf_51 ?_
    refine x_geta (r := some N) (c := 0) hE hΓ in_X0 rfl hp.1 ⟨by decide, rfl⟩ 4 (ji := 4) rfl (by decide) (by decide) rfl q250 rfl rfl hN.1.1 dX0_costOf_52 ?_
    show gW Γ E (xM E S D R) 0 0 _ _ (.ref N :: _)
    refine x_geta (r := some NV) (c := 1) hE hΓ in_X1 rfl hN.1.2 ⟨by decide, rfl⟩ 2 (ji := 2) rfl (by decide) (by decide) rfl q203 rfl rfl hN.2.2.2.1.1 dX0_costOf_55 ?_
    show gW Γ E (xM E S D R) 0 0 _ _ (.ref NV :: _)
    refine g_iconst hΓ dX0_costOf_58 ?_
    refine x_iald hΓ kNV nNV ⟨by decide, rfl⟩ (by omega) (by omega) dX0_costOf_59 ?_
    refine g_topi (hN.2.2.2.2.2.2.2.2.2.2.2.1) ?_
    refine g_aload_n hΓ rfl dX0_costOf_60 ?_
    refine x_geta (r := some (P.2.1 17)) (c := 0) hE hΓ in_X0 rfl hp.1 ⟨by decide, rfl⟩ 17 (ji := 17) rfl (by decide) (by decide) rfl q263 rfl rfl (pA_r hp 17 rfl rfl) dX0_costOf_61 ?_
    show gW Γ E (xM E S D R) 0 0 _ _ (.ref (P.2.1 17) :: _)
    refine g_iload_n hΓ rfl dX0_costOf_64 ?_
    refine x_aaldG (r := some (P.2.2 17 i)) hΓ (pA_k hp 17 rfl (n := 67) rfl) (pA_n hp 17 rfl (n := 8) rfl) ⟨by decide, rfl⟩ (by omega) (by omega) (pG_r hp 17 rfl (n := 8) rfl (i := i) (by omega)) dX0_costOf_65 ?_
    show gW Γ E (xM E S D R) 0 0 _ _ (.ref (P.2.2 17 i) :: _)
    refine g_iload_n hΓ rfl dX0_costOf_66 ?_
    refine x_iald hΓ (pG_k hp 17 rfl (n := 8) rfl (i := i) (by omega) (m := 117) rfl) (pG_n hp 17 rfl (n := 8) rfl (i := i) (by omega) (m := 8) rfl) ⟨by decide, rfl⟩ (by omega) (by omega) dX0_costOf_67 ?_
    refine g_topi ((hcos i x1 (by omega) (by omega) (by omega) (by omega)).2.2) ?_
    refine g_imul hΓ dX0_costOf_68 ?_
    refine g_iadd hΓ dX0_costOf_69 ?_
    exact x_iret hΓ dX0_costOf_70 (Nat.zero_le _) (Nat.zero_le _) ⟨ri (by rw [cof, ← ex1]; first | (rw [if_pos (by omega)]; done) | (rw [if_neg (by omega), pcL, pcst])), rfl, rfl, rfl⟩
  · refine g_aload_n hΓ rfl dX0_costOf_12 ?_
    refine x_geta (r := some N) (c := 0) hE hΓ in_X0 rfl hp.1 ⟨by decide, rfl⟩ 4 (ji := 4) rfl (by decide) (by decide) rfl q250 rfl rfl hN.1.1 dX0_costOf_13 ?_
    show gW Γ E (xM E S D R) 0 0 _ _ (.ref N :: _)
    refine x_geta (r := some NV) (c := 1) hE hΓ in_X1 rfl hN.1.2 ⟨by decide, rfl⟩ 2 (ji := 2) rfl (by decide) (by decide) rfl q203 rfl rfl hN.2.2.2.1.1 dX0_costOf_16 ?_
    show gW Γ E (xM E S D R) 0 0 _ _ (.ref NV :: _)
    refine g_iconst hΓ dX0_costOf_19 ?_
    refine x_iald hΓ kNV nNV ⟨by decide, rfl⟩ (by omega) (by omega) dX0_costOf_20 ?_
    refine g_topi (hN.2.2.2.2.2.2.2.2.1) ?_
    exact x_iret hΓ dX0_costOf_21 (Nat.zero_le _) (Nat.zero_le _) ⟨ri (by rw [cof, ← ex1]; first | (rw [if_pos (by omega)]; done) | (rw [if_neg (by omega), pcL, pcst])), rfl, rfl, rfl⟩
set_option maxHeartbeats 4000000 in
theorem x_X0_partner {l : Launch} {E : gE} {X : State → Prop} {Z : Nat → Nat} {Y : Nat → Option Nat} (hE : E.2.1 = clsX) (hX : xOK l E X Z Y) (hL : xLam l E X (Z 20) (Z 21)) (S : xS) (D : xD) (R : xR) (P : xPk) (σ : mS) (lx ly k u : Int) (hx : Rx E Z S D R P σ) (hlx : r32 lx) (hly : r32 ly) (hk : r32 k) (hu : r32 u) : xC l E X yX0_partner cX0_partner 7 (some .int) 13 0 0 [.ref (P.1), .int (iI lx), .int (iI ly), .int (iI k), .int (iI u)] S D R (fun rv S' D' R' => rv = some (.int (iI (sp_partner σ lx ly k u))) ∧ (Rx E Z S D' R' P σ) ∧ S' = S ∧ fr S D D' [8003, 42, 43, 44, 112, 115, 116, 117, 46, 47, 48, 49, 1022, 68, 69] ∧ fr S R R' [1009, 1010]) := by
  refine xC.of hX.1 (by decide) [some (.ref (P.1)), some (.int (iI lx)), some (.int (iI ly)), some (.int (iI k)), some (.int (iI u)), none, none] (Nat.le_of_ble_eq_true rfl) rfl rfl (fun Γ hΓ => ?_)
  obtain ⟨hg, hp, hki, hro, hnw, hbh, hsa, hpd⟩ := id hx
  obtain ⟨N, NI, NM, NV, hN⟩ := (hx).now
  have hAw := hg.2.2.2.2.2.2
  have hG : GS S D R := hg.1
  obtain ⟨h1000, h1009, h1042, h1043, h1044, h1045, h1046, h1047, hms, hsi, hsm, hnm⟩ := id hro
  have eN := hN.2.2.2.2.2.2.2.2.2.2.2.2
  have kNV : (S NV).1 = 45 := by rw [hN.2.2.2.1.2]
  have nNV : (S NV).2.1 = 6 := by rw [hN.2.2.2.1.2]
  have hmr := fun h => mnS_r hro (m := lx) h
  refine g_aload_n hΓ rfl dX0_partner_0 ?_
  refine g_iload_n hΓ rfl dX0_partner_1 ?_
  refine x_callV (As := [.int (iI lx)]) (rest := []) (c := 0) hE hΓ (x_X0_isLetter hE hX S D R P σ lx hx (by first | assumption | omega) ) hp.1 ⟨by decide, rfl⟩ rfl rfl q899 q901 qs23 q123 q902 ndX0_isLetter rfl (by decide) (by decide) (Nat.zero_le _) (Nat.zero_le _) rfl (Nat.le_of_ble_eq_true rfl) dX0_partner_2 rfl (fun v1 S1 τ1 ρ1 h1 => ?_)
  obtain ⟨rfl, S1e, τ1e, ρ1e⟩ := h1
  have S1e := S1e.symm; subst S1e
  have τ1e := τ1e.symm; subst τ1e
  have ρ1e := ρ1e.symm; subst ρ1e
  show gW Γ E (xM E S D R) _ _ _ _ (.int (iI (if lx = -1 ∨ (0 ≤ lx ∧ lx < σ 0 1000) then 1 else 0)) :: _)
  refine g_ifB_eq (tgt := 47) hΓ  dX0_partner_5 (by decide) (fun c2 => ?_) (fun c2 => ?_)
  · refine g_iconst hΓ dX0_partner_47 ?_
    exact x_iret hΓ dX0_partner_48 (Nat.zero_le _) (Nat.zero_le _) ⟨ri (by rw [sp_partner, if_neg (by omega)]), hx, rfl, (fun q9 j9 hk9 => rfl), (fun q9 j9 hk9 => rfl)⟩
  · refine g_aload_n hΓ rfl dX0_partner_8 ?_
    refine g_iload_n hΓ rfl dX0_partner_9 ?_
    refine x_callV (As := [.int (iI ly)]) (rest := []) (c := 0) hE hΓ (x_X0_isLetter hE hX S D R P σ ly hx (by first | assumption | omega) ) hp.1 ⟨by decide, rfl⟩ rfl rfl q899 q901 qs23 q123 q902 ndX0_isLetter rfl (by decide) (by decide) (Nat.zero_le _) (Nat.zero_le _) rfl (Nat.le_of_ble_eq_true rfl) dX0_partner_10 rfl (fun v3 S3 τ3 ρ3 h3 => ?_)
    obtain ⟨rfl, S3e, τ3e, ρ3e⟩ := h3
    have S3e := S3e.symm; subst S3e
    have τ3e := τ3e.symm; subst τ3e
    have ρ3e := ρ3e.symm; subst ρ3e
    show gW Γ E (xM E S D R) _ _ _ _ (.int (iI (if ly = -1 ∨ (0 ≤ ly ∧ ly < σ 0 1000) then 1 else 0)) :: _)
    refine g_ifB_eq (tgt := 47) hΓ  dX0_partner_13 (by decide) (fun c4 => ?_) (fun c4 => ?_)
    · refine g_iconst hΓ dX0_partner_47 ?_
      exact x_iret hΓ dX0_partner_48 (Nat.zero_le _) (Nat.zero_le _) ⟨ri (by rw [sp_partner, if_neg (by omega)]), hx, rfl, (fun q9 j9 hk9 => rfl), (fun q9 j9 hk9 => rfl)⟩
    · refine g_iload_n hΓ rfl dX0_partner_16 ?_
      refine g_i2l hΓ (by omega) dX0_partner_17 ?_
      refine g_lconst (a := 0) hΓ rfl dX0_partner_18 ?_
      refine g_aload_n hΓ rfl dX0_partner_19 ?_
      refine g_iload_n hΓ rfl dX0_partner_20 ?_
      refine x_callV (As := [.int (iI lx)]) (rest := [.long (lI 0), .long (lI k)]) (c := 0) hE hΓ (x_X0_strokesOf hE hX S D R P σ lx hx (by first | assumption | omega) (by first | assumption | omega) ) hp.1 ⟨by decide, rfl⟩ rfl rfl q903 q905 qs24 q123 q906 ndX0_strokesOf rfl (by decide) (by decide) (Nat.zero_le _) (Nat.zero_le _) rfl (Nat.le_of_ble_eq_true rfl) dX0_partner_21 rfl (fun v5 S5 τ5 ρ5 h5 => ?_)
      obtain ⟨rfl, S5e, τ5e, ρ5e⟩ := h5
      have S5e := S5e.symm; subst S5e
      have τ5e := τ5e.symm; subst τ5e
      have ρ5e := ρ5e.symm; subst ρ5e
      show gW Γ E (xM E S D R) _ _ _ _ (.ref (lsA R (rf R P.1 4) lx) :: _)
      have hlt6 := (hx).letter (m := lx) (by omega)
      obtain ⟨kl6, hkl6, hk36⟩ : ∃ k : Nat, (S (lsA R (rf R P.1 4) lx)).1 = k ∧ (k = 10 ∨ k = 12 ∨ k = 13) := ⟨_, rfl, by have := hlt6.2.1; omega⟩
      have hkr6 : 10 ≤ kl6 ∧ kl6 ≤ 17 := by omega
      have hmx := hmr (by omega)
      refine x_callV (As := []) (rest := [.long (lI 0), .long (lI k)]) (c := 10) hE hΓ (x_J2_size hE hX S D R (lsA R (rf R P.1 4) lx) kl6 hkl6 hkr6 ) hkl6 (ks_10_17 hkr6) rfl rfl q845 q662 q663 q127 q664 ndJ2_size rfl (by decide) (by decide) (Nat.zero_le _) (Nat.zero_le _) rfl (Nat.le_of_ble_eq_true rfl) dX0_partner_24 rfl (fun v7 S7 τ7 ρ7 h7 => ?_)
      obtain ⟨rfl, S7e, τ7e, ρ7e⟩ := h7
      have S7e := S7e.symm; subst S7e
      have τ7e := τ7e.symm; subst τ7e
      have ρ7e := ρ7e.symm; subst ρ7e
      refine g_topi (hlt6.1.1) ?_
      show gW Γ E (xM E S D R) _ _ _ _ (.int (iI (mnS σ lx)) :: _)
      refine g_iconst hΓ dX0_partner_27 ?_
      refine g_isub hΓ dX0_partner_28 ?_
      refine g_i2l hΓ (by omega) dX0_partner_29 ?_
      refine x_callS (As := [.long (lI k), .long (lI 0), .long (lI ((mnS σ lx) - 1))]) (rest := []) hΓ (x_X0_isIn hE hX S D R k 0 ((mnS σ lx) - 1) (by first | assumption | omega) (by first | assumption | omega) (by first | assumption | omega)) rfl q387 q388 q123 q389 ndX0_isIn rfl (by decide) (by decide) (Nat.zero_le _) (Nat.zero_le _) rfl (Nat.le_of_ble_eq_true rfl) dX0_partner_30 rfl (fun v8 S8 τ8 ρ8 h8 => ?_)
      obtain ⟨rfl, S8e, τ8e, ρ8e⟩ := h8
      have S8e := S8e.symm; subst S8e
      have τ8e := τ8e.symm; subst τ8e
      have ρ8e := ρ8e.symm; subst ρ8e
      show gW Γ E (xM E S D R) _ _ _ _ (.int (iI (if 0 ≤ k ∧ k ≤ ((mnS σ lx) - 1) then 1 else 0)) :: _)
      refine g_ifB_eq (tgt := 47) hΓ  dX0_partner_33 (by decide) (fun c9 => ?_) (fun c9 => ?_)
      · refine g_iconst hΓ dX0_partner_47 ?_
        exact x_iret hΓ dX0_partner_48 (Nat.zero_le _) (Nat.zero_le _) ⟨ri (by rw [sp_partner, if_neg (by omega)]), hx, rfl, (fun q9 j9 hk9 => rfl), (fun q9 j9 hk9 => rfl)⟩
      · refine g_iload hΓ rfl dX0_partner_36 ?_
        refine g_i2l hΓ (by omega) dX0_partner_38 ?_
        refine g_lconst (a := 0) hΓ rfl dX0_partner_39 ?_
        refine g_lconst (a := 1) hΓ rfl dX0_partner_40 ?_
        refine x_callS (As := [.long (lI u), .long (lI 0), .long (lI 1)]) (rest := []) hΓ (x_X0_isIn hE hX S D R u 0 1 (by first | assumption | omega) (by first | assumption | omega) (by first | assumption | omega)) rfl q387 q388 q123 q389 ndX0_isIn rfl (by decide) (by decide) (Nat.zero_le _) (Nat.zero_le _) rfl (Nat.le_of_ble_eq_true rfl) dX0_partner_41 rfl (fun v10 S10 τ10 ρ10 h10 => ?_)
        obtain ⟨rfl, S10e, τ10e, ρ10e⟩ := h10
        have S10e := S10e.symm; subst S10e
        have τ10e := τ10e.symm; subst τ10e
        have ρ10e := ρ10e.symm; subst ρ10e
        show gW Γ E (xM E S D R) _ _ _ _ (.int (iI (if 0 ≤ u ∧ u ≤ 1 then 1 else 0)) :: _)
        refine g_ifB_ne (tgt := 49) hΓ  dX0_partner_44 (by decide) (fun c11 => ?_) (fun c11 => ?_)
        · refine g_aload_n hΓ rfl dX0_partner_49 ?_
          refine g_aload_n hΓ rfl dX0_partner_50 ?_
          refine g_iload_n hΓ rfl dX0_partner_51 ?_
          refine x_callV (As := [.int (iI lx)]) (rest := [.ref (P.1)]) (c := 0) hE hΓ (x_X0_strokesOf hE hX S D R P σ lx hx (by first | assumption | omega) (by first | assumption | omega) ) hp.1 ⟨by decide, rfl⟩ rfl rfl q903 q905 qs24 q123 q906 ndX0_strokesOf rfl (by decide) (by decide) (Nat.zero_le _) (Nat.zero_le _) rfl (Nat.le_of_ble_eq_true rfl) dX0_partner_52 rfl (fun v12 S12 τ12 ρ12 h12 => ?_)
          obtain ⟨rfl, S12e, τ12e, ρ12e⟩ := h12
          have S12e := S12e.symm; subst S12e
          have τ12e := τ12e.symm; subst τ12e
          have ρ12e := ρ12e.symm; subst ρ12e
          show gW Γ E (xM E S D R) _ _ _ _ (.ref (lsA R (rf R P.1 4) lx) :: _)
          refine g_aload_n hΓ rfl dX0_partner_55 ?_
          refine g_iload_n hΓ rfl dX0_partner_56 ?_
          refine x_callV (As := [.int (iI ly)]) (rest := [.ref (lsA R (rf R P.1 4) lx), .ref (P.1)]) (c := 0) hE hΓ (x_X0_strokesOf hE hX S D R P σ ly hx (by first | assumption | omega) (by first | assumption | omega) ) hp.1 ⟨by decide, rfl⟩ rfl rfl q903 q905 qs24 q123 q906 ndX0_strokesOf rfl (by decide) (by decide) (Nat.zero_le _) (Nat.zero_le _) rfl (Nat.le_of_ble_eq_true rfl) dX0_partner_57 rfl (fun v13 S13 τ13 ρ13 h13 => ?_)
          obtain ⟨rfl, S13e, τ13e, ρ13e⟩ := h13
          have S13e := S13e.symm; subst S13e
          have τ13e := τ13e.symm; subst τ13e
          have ρ13e := ρ13e.symm; subst ρ13e
          show gW Γ E (xM E S D R) _ _ _ _ (.ref (lsA R (rf R P.1 4) ly) :: _)
          have hlt14 := (hx).letter (m := lx) (by omega)
          obtain ⟨kl14, hkl14, hk314⟩ : ∃ k : Nat, (S (lsA R (rf R P.1 4) lx)).1 = k ∧ (k = 10 ∨ k = 12 ∨ k = 13) := ⟨_, rfl, by have := hlt14.2.1; omega⟩
          have hkr14 : 10 ≤ kl14 ∧ kl14 ≤ 17 := by omega
          have hlt15 := (hx).letter (m := ly) (by omega)
          obtain ⟨kl15, hkl15, hk315⟩ : ∃ k : Nat, (S (lsA R (rf R P.1 4) ly)).1 = k ∧ (k = 10 ∨ k = 12 ∨ k = 13) := ⟨_, rfl, by have := hlt15.2.1; omega⟩
          have hkr15 : 10 ≤ kl15 ∧ kl15 ≤ 17 := by omega
          have hmy := mnS_r hro (m := ly) (by omega)
          have hpn := pnr_r hro (x := lx) (y := ly) (by omega) k
          have hsr := scS_r hro (letS_of hro (m := lx) (by omega)) (letS_of hro (m := ly) (by omega))
          refine x_callV (As := [.ref (lsA R (rf R P.1 4) lx), .ref (lsA R (rf R P.1 4) ly)]) (rest := []) (c := 0) hE hΓ (x_X0_scoreOf hE hX hL S D R P σ (lsA R (rf R P.1 4) lx) (lsA R (rf R P.1 4) ly) kl14 kl15 (fsS lx) (mnS σ lx) (fsS ly) (mnS σ ly) hx hkl14 hk314 hlt14.1 hlt14.2.2.2 hkl15 hk315 hlt15.1 hlt15.2.2.2 ) hp.1 ⟨by decide, rfl⟩ rfl rfl q1039 q1041 qs33 q123 q1042 ndX0_scoreOf rfl (by decide) (by decide) (Nat.zero_le _) (Nat.zero_le _) rfl (Nat.le_of_ble_eq_true rfl) dX0_partner_60 rfl (fun v16 S16 τ16 ρ16 h16 => ?_)
          obtain ⟨rfl, h16, S16e, τ16f, ρ16f⟩ := h16
          have S16e := S16e.symm; subst S16e
          show gW Γ E (xM E S τ16 ρ16) _ _ _ _ (.int (iI (scS σ (fsS lx) (mnS σ lx) (fsS ly) (mnS σ ly))) :: _)
          obtain ⟨x17, ex17⟩ : ∃ z9 : Int, z9 = scS σ (fsS lx) (mnS σ lx) (fsS ly) (mnS σ ly) := ⟨_, rfl⟩
          refine g_topi ex17.symm ?_
          refine g_istore hΓ dX0_partner_63 rfl (Nat.le_of_ble_eq_true rfl) (lv' := [some (.ref (P.1)), some (.int (iI lx)), some (.int (iI ly)), some (.int (iI k)), some (.int (iI u)), some (.int (iI x17)), none]) rfl ?_
          refine g_aload_n hΓ rfl dX0_partner_65 ?_
          refine x_geta (r := some (P.2.1 19)) (c := 0) hE hΓ in_X0 rfl hp.1 ⟨by decide, rfl⟩ 19 (ji := 19) rfl (by decide) (by decide) rfl q265 rfl rfl ((ρ16f (P.1) 19 (by rw [hp.1]; decide)).trans (pA_r hp 19 rfl rfl)) dX0_partner_66 ?_
          show gW Γ E (xM E S τ16 ρ16) 0 0 _ _ (.ref (P.2.1 19) :: _)
          refine g_iload_n hΓ rfl dX0_partner_69 ?_
          refine x_iald hΓ (pA_k hp 19 rfl (n := 69) rfl) (pA_n hp 19 rfl (n := 8) rfl) ⟨by decide, rfl⟩ (by omega) (by omega) dX0_partner_70 ?_
          refine g_topi ((h16.2.2 k (by omega) (by omega))) ?_
          obtain ⟨x18, ex18⟩ : ∃ z9 : Int, z9 = pnr σ lx ly k := ⟨_, rfl⟩
          refine g_topi ex18.symm ?_
          refine g_istore hΓ dX0_partner_71 rfl (Nat.le_of_ble_eq_true rfl) (lv' := [some (.ref (P.1)), some (.int (iI lx)), some (.int (iI ly)), some (.int (iI k)), some (.int (iI u)), some (.int (iI x17)), some (.int (iI x18))]) rfl ?_
          refine g_iload hΓ rfl dX0_partner_73 ?_
          refine g_if_ne (tgt := 81) hΓ (by omega) dX0_partner_75 (by decide) (fun c19 => ?_) (fun c19 => ?_)
          · refine g_iload hΓ rfl dX0_partner_81 ?_
            refine g_ldcw (n := 100000) hΓ rfl q1002 (by decide) dX0_partner_83 ?_
            refine g_icmp_ge (tgt := 130) hΓ (by omega) (by omega) dX0_partner_86 (by decide) (fun c20 => ?_) (fun c20 => ?_)
            · exact absurd c20 (by omega)
            · refine g_iload hΓ rfl dX0_partner_89 ?_
              refine g_iconst hΓ dX0_partner_91 ?_
              refine g_icmp_eq (tgt := 130) hΓ (by omega) (by omega) dX0_partner_92 (by decide) (fun c21 => ?_) (fun c21 => ?_)
              · refine g_iconst hΓ dX0_partner_130 ?_
                refine x_callS (As := [.int (iI 0)]) (rest := []) hΓ (x_X0_flag hE hX S τ16 ρ16 0 (by first | assumption | omega)) rfl q1066 q1067 q123 q1068 ndX0_flag rfl (by decide) (by decide) (Nat.zero_le _) (Nat.zero_le _) rfl (Nat.le_of_ble_eq_true rfl) dX0_partner_131 rfl (fun v22 S22 τ22 ρ22 h22 => ?_)
                obtain ⟨rfl, S22e, τ22e, ρ22e⟩ := h22
                have S22e := S22e.symm; subst S22e
                have τ22e := τ22e.symm; subst τ22e
                have ρ22e := ρ22e.symm; subst ρ22e
                show gW Γ E (xM E S τ16 ρ16) _ _ _ _ (.int (iI 0) :: _)
                exact x_iret hΓ dX0_partner_134 (Nat.zero_le _) (Nat.zero_le _) ⟨ri (by rw [sp_partner, if_pos (by omega), if_neg (by omega), trn, ← ex18]; first | (rw [if_pos (by omega)]; done) | (rw [if_neg (by omega)])), h16.1, rfl, (fun q9 j9 hk9 => by exact (τ16f q9 j9 (fun e9 => hk9 ((show ∀ x ∈ [8003, 42, 43, 44, 112, 115, 116, 117, 46, 47, 48, 49, 1022, 68, 69], x ∈ [8003, 42, 43, 44, 112, 115, 116, 117, 46, 47, 48, 49, 1022, 68, 69] by decide) _ e9)))), (fun q9 j9 hk9 => by exact (ρ16f q9 j9 (fun e9 => hk9 ((show ∀ x ∈ [1009, 1010], x ∈ [1009, 1010] by decide) _ e9))))⟩
              · have he0 := els_64 h1042 (fsS lx + k) (fsS ly + x18) 0 h1043.1
                have he1 := els_64 h1042 (fsS lx + k) (fsS ly + x18) 1 h1043.1
                refine g_aload_n hΓ rfl dX0_partner_95 ?_
                refine x_geta (r := some (P.2.1 16)) (c := 0) hE hΓ in_X0 rfl hp.1 ⟨by decide, rfl⟩ 16 (ji := 16) rfl (by decide) (by decide) rfl q262 rfl rfl ((ρ16f (P.1) 16 (by rw [hp.1]; decide)).trans (pA_r hp 16 rfl rfl)) dX0_partner_96 ?_
                show gW Γ E (xM E S τ16 ρ16) 0 0 _ _ (.ref (P.2.1 16) :: _)
                refine g_iload_n hΓ rfl dX0_partner_99 ?_
                refine x_aaldG (r := some (P.2.2 16 k)) hΓ (pA_k hp 16 rfl (n := 66) rfl) (pA_n hp 16 rfl (n := 8) rfl) ⟨by decide, rfl⟩ (by omega) (by omega) ((ρ16f (P.2.1 16) k (by rw [(pA_k hp 16 rfl (n := 66) rfl), mdN _ (by decide)]; decide)).trans (pG_r hp 16 rfl (n := 8) rfl (i := k) (by omega))) dX0_partner_100 ?_
                show gW Γ E (xM E S τ16 ρ16) 0 0 _ _ (.ref (P.2.2 16 k) :: _)
                refine g_iload hΓ rfl dX0_partner_101 ?_
                refine x_iald hΓ (pG_k hp 16 rfl (n := 8) rfl (i := k) (by omega) (m := 116) rfl) (pG_n hp 16 rfl (n := 8) rfl (i := k) (by omega) (m := 8) rfl) ⟨by decide, rfl⟩ (by omega) (by omega) dX0_partner_103 ?_
                refine g_topi ((h16.2.1 k x18 (by omega) (by omega) (by omega) (by omega)).2.1) ?_
                refine g_aload_n hΓ rfl dX0_partner_104 ?_
                refine x_geta (r := some N) (c := 0) hE hΓ in_X0 rfl hp.1 ⟨by decide, rfl⟩ 4 (ji := 4) rfl (by decide) (by decide) rfl q250 rfl rfl ((ρ16f (P.1) 4 (by rw [hp.1]; decide)).trans hN.1.1) dX0_partner_105 ?_
                show gW Γ E (xM E S τ16 ρ16) 0 0 _ _ (.ref N :: _)
                refine x_geta (r := some NV) (c := 1) hE hΓ in_X1 rfl hN.1.2 ⟨by decide, rfl⟩ 2 (ji := 2) rfl (by decide) (by decide) rfl q203 rfl rfl ((ρ16f N 2 (by rw [hN.1.2]; decide)).trans hN.2.2.2.1.1) dX0_partner_108 ?_
                show gW Γ E (xM E S τ16 ρ16) 0 0 _ _ (.ref NV :: _)
                refine g_iconst hΓ dX0_partner_111 ?_
                refine x_iald hΓ kNV nNV ⟨by decide, rfl⟩ (by omega) (by omega) dX0_partner_112 ?_
                refine g_topi (((τ16f NV 3 (by rw [kNV, mdN _ (by decide)]; decide)).trans hN.2.2.2.2.2.2.2.2.2.1)) ?_
                refine g_iadd hΓ dX0_partner_113 ?_
                refine g_aload_n hΓ rfl dX0_partner_114 ?_
                refine x_geta (r := some (P.2.1 15)) (c := 0) hE hΓ in_X0 rfl hp.1 ⟨by decide, rfl⟩ 15 (ji := 15) rfl (by decide) (by decide) rfl q261 rfl rfl ((ρ16f (P.1) 15 (by rw [hp.1]; decide)).trans (pA_r hp 15 rfl rfl)) dX0_partner_115 ?_
                show gW Γ E (xM E S τ16 ρ16) 0 0 _ _ (.ref (P.2.1 15) :: _)
                refine g_iload_n hΓ rfl dX0_partner_118 ?_
                refine x_aaldG (r := some (P.2.2 15 k)) hΓ (pA_k hp 15 rfl (n := 65) rfl) (pA_n hp 15 rfl (n := 8) rfl) ⟨by decide, rfl⟩ (by omega) (by omega) ((ρ16f (P.2.1 15) k (by rw [(pA_k hp 15 rfl (n := 65) rfl), mdN _ (by decide)]; decide)).trans (pG_r hp 15 rfl (n := 8) rfl (i := k) (by omega))) dX0_partner_119 ?_
                show gW Γ E (xM E S τ16 ρ16) 0 0 _ _ (.ref (P.2.2 15 k) :: _)
                refine g_iload hΓ rfl dX0_partner_120 ?_
                refine x_iald hΓ (pG_k hp 15 rfl (n := 8) rfl (i := k) (by omega) (m := 115) rfl) (pG_n hp 15 rfl (n := 8) rfl (i := k) (by omega) (m := 8) rfl) ⟨by decide, rfl⟩ (by omega) (by omega) dX0_partner_122 ?_
                refine g_topi ((h16.2.1 k x18 (by omega) (by omega) (by omega) (by omega)).1) ?_
                refine g_icmp_ge (tgt := 130) hΓ (by omega) (by omega) dX0_partner_123 (by decide) (fun c23 => ?_) (fun c23 => ?_)
                · refine g_iconst hΓ dX0_partner_130 ?_
                  refine x_callS (As := [.int (iI 0)]) (rest := []) hΓ (x_X0_flag hE hX S τ16 ρ16 0 (by first | assumption | omega)) rfl q1066 q1067 q123 q1068 ndX0_flag rfl (by decide) (by decide) (Nat.zero_le _) (Nat.zero_le _) rfl (Nat.le_of_ble_eq_true rfl) dX0_partner_131 rfl (fun v24 S24 τ24 ρ24 h24 => ?_)
                  obtain ⟨rfl, S24e, τ24e, ρ24e⟩ := h24
                  have S24e := S24e.symm; subst S24e
                  have τ24e := τ24e.symm; subst τ24e
                  have ρ24e := ρ24e.symm; subst ρ24e
                  show gW Γ E (xM E S τ16 ρ16) _ _ _ _ (.int (iI 0) :: _)
                  exact x_iret hΓ dX0_partner_134 (Nat.zero_le _) (Nat.zero_le _) ⟨ri (by rw [sp_partner, if_pos (by omega), if_neg (by omega), trn, ← ex18]; first | (rw [if_pos (by omega)]; done) | (rw [if_neg (by omega)])), h16.1, rfl, (fun q9 j9 hk9 => by exact (τ16f q9 j9 (fun e9 => hk9 ((show ∀ x ∈ [8003, 42, 43, 44, 112, 115, 116, 117, 46, 47, 48, 49, 1022, 68, 69], x ∈ [8003, 42, 43, 44, 112, 115, 116, 117, 46, 47, 48, 49, 1022, 68, 69] by decide) _ e9)))), (fun q9 j9 hk9 => by exact (ρ16f q9 j9 (fun e9 => hk9 ((show ∀ x ∈ [1009, 1010], x ∈ [1009, 1010] by decide) _ e9))))⟩
                · refine g_iconst hΓ dX0_partner_126 ?_
                  refine g_goto (tgt := 131) hΓ dX0_partner_127 (by decide) ?_
                  refine x_callS (As := [.int (iI 1)]) (rest := []) hΓ (x_X0_flag hE hX S τ16 ρ16 1 (by first | assumption | omega)) rfl q1066 q1067 q123 q1068 ndX0_flag rfl (by decide) (by decide) (Nat.zero_le _) (Nat.zero_le _) rfl (Nat.le_of_ble_eq_true rfl) dX0_partner_131 rfl (fun v25 S25 τ25 ρ25 h25 => ?_)
                  obtain ⟨rfl, S25e, τ25e, ρ25e⟩ := h25
                  have S25e := S25e.symm; subst S25e
                  have τ25e := τ25e.symm; subst τ25e
                  have ρ25e := ρ25e.symm; subst ρ25e
                  show gW Γ E (xM E S τ16 ρ16) _ _ _ _ (.int (iI 1) :: _)
                  exact x_iret hΓ dX0_partner_134 (Nat.zero_le _) (Nat.zero_le _) ⟨ri (by rw [sp_partner, if_pos (by omega), if_neg (by omega), trn, ← ex18]; first | (rw [if_pos (by omega)]; done) | (rw [if_neg (by omega)])), h16.1, rfl, (fun q9 j9 hk9 => by exact (τ16f q9 j9 (fun e9 => hk9 ((show ∀ x ∈ [8003, 42, 43, 44, 112, 115, 116, 117, 46, 47, 48, 49, 1022, 68, 69], x ∈ [8003, 42, 43, 44, 112, 115, 116, 117, 46, 47, 48, 49, 1022, 68, 69] by decide) _ e9)))), (fun q9 j9 hk9 => by exact (ρ16f q9 j9 (fun e9 => hk9 ((show ∀ x ∈ [1009, 1010], x ∈ [1009, 1010] by decide) _ e9))))⟩
          · refine g_iload hΓ rfl dX0_partner_78 ?_
            exact x_iret hΓ dX0_partner_80 (Nat.zero_le _) (Nat.zero_le _) ⟨ri (by rw [sp_partner, if_pos (by omega), if_pos (by omega)]; exact ex18), h16.1, rfl, (fun q9 j9 hk9 => by exact (τ16f q9 j9 (fun e9 => hk9 ((show ∀ x ∈ [8003, 42, 43, 44, 112, 115, 116, 117, 46, 47, 48, 49, 1022, 68, 69], x ∈ [8003, 42, 43, 44, 112, 115, 116, 117, 46, 47, 48, 49, 1022, 68, 69] by decide) _ e9)))), (fun q9 j9 hk9 => by exact (ρ16f q9 j9 (fun e9 => hk9 ((show ∀ x ∈ [1009, 1010], x ∈ [1009, 1010] by decide) _ e9))))⟩
        · refine g_iconst hΓ dX0_partner_47 ?_
          exact x_iret hΓ dX0_partner_48 (Nat.zero_le _) (Nat.zero_le _) ⟨ri (by rw [sp_partner, if_neg (by omega)]), hx, rfl, (fun q9 j9 hk9 => rfl), (fun q9 j9 hk9 => rfl)⟩
set_option maxHeartbeats 4000000 in
theorem x_X0_worst {l : Launch} {E : gE} {X : State → Prop} {Z : Nat → Nat} {Y : Nat → Option Nat} (hE : E.2.1 = clsX) (hX : xOK l E X Z Y) (hL : xLam l E X (Z 20) (Z 21)) (S : xS) (D : xD) (R : xR) (P : xPk) (σ : mS) (lx ly u : Int) (hx : Rx E Z S D R P σ) (hlx : r32 lx) (hly : r32 ly) (hu : r32 u) : xC l E X yX0_worst cX0_worst 9 (some .int) 13 0 0 [.ref (P.1), .int (iI lx), .int (iI ly), .int (iI u)] S D R (fun rv S' D' R' => rv = some (.int (iI (sp_worst σ lx ly u))) ∧ (Rx E Z S D' R' P σ) ∧ S' = S ∧ fr S D D' [8003, 42, 43, 44, 112, 115, 116, 117, 46, 47, 48, 49, 1022, 68, 69] ∧ fr S R R' [1009, 1010]) := by
  refine xC.of hX.1 (by decide) [some (.ref (P.1)), some (.int (iI lx)), some (.int (iI ly)), some (.int (iI u)), none, none, none, none, none] (Nat.le_of_ble_eq_true rfl) rfl rfl (fun Γ hΓ => ?_)
  obtain ⟨hg, hp, hki, hro, hnw, hbh, hsa, hpd⟩ := id hx
  obtain ⟨N, NI, NM, NV, hN⟩ := (hx).now
  have hAw := hg.2.2.2.2.2.2
  have hG : GS S D R := hg.1
  obtain ⟨h1000, h1009, h1042, h1043, h1044, h1045, h1046, h1047, hms, hsi, hsm, hnm⟩ := id hro
  have eN := hN.2.2.2.2.2.2.2.2.2.2.2.2
  have kNV : (S NV).1 = 45 := by rw [hN.2.2.2.1.2]
  have nNV : (S NV).2.1 = 6 := by rw [hN.2.2.2.1.2]
  refine g_aload_n hΓ rfl dX0_worst_0 ?_
  refine g_iload_n hΓ rfl dX0_worst_1 ?_
  refine x_callV (As := [.int (iI lx)]) (rest := []) (c := 0) hE hΓ (x_X0_isLetter hE hX S D R P σ lx hx (by first | assumption | omega) ) hp.1 ⟨by decide, rfl⟩ rfl rfl q899 q901 qs23 q123 q902 ndX0_isLetter rfl (by decide) (by decide) (Nat.zero_le _) (Nat.zero_le _) rfl (Nat.le_of_ble_eq_true rfl) dX0_worst_2 rfl (fun v1 S1 τ1 ρ1 h1 => ?_)
  obtain ⟨rfl, S1e, τ1e, ρ1e⟩ := h1
  have S1e := S1e.symm; subst S1e
  have τ1e := τ1e.symm; subst τ1e
  have ρ1e := ρ1e.symm; subst ρ1e
  show gW Γ E (xM E S D R) _ _ _ _ (.int (iI (if lx = -1 ∨ (0 ≤ lx ∧ lx < σ 0 1000) then 1 else 0)) :: _)
  refine g_ifB_eq (tgt := 28) hΓ  dX0_worst_5 (by decide) (fun c2 => ?_) (fun c2 => ?_)
  · refine g_iconst hΓ dX0_worst_28 ?_
    exact x_iret hΓ dX0_worst_29 (Nat.zero_le _) (Nat.zero_le _) ⟨ri (by rw [sp_worst, if_neg (by omega)]), hx, rfl, (fun q9 j9 hk9 => rfl), (fun q9 j9 hk9 => rfl)⟩
  · refine g_aload_n hΓ rfl dX0_worst_8 ?_
    refine g_iload_n hΓ rfl dX0_worst_9 ?_
    refine x_callV (As := [.int (iI ly)]) (rest := []) (c := 0) hE hΓ (x_X0_isLetter hE hX S D R P σ ly hx (by first | assumption | omega) ) hp.1 ⟨by decide, rfl⟩ rfl rfl q899 q901 qs23 q123 q902 ndX0_isLetter rfl (by decide) (by decide) (Nat.zero_le _) (Nat.zero_le _) rfl (Nat.le_of_ble_eq_true rfl) dX0_worst_10 rfl (fun v3 S3 τ3 ρ3 h3 => ?_)
    obtain ⟨rfl, S3e, τ3e, ρ3e⟩ := h3
    have S3e := S3e.symm; subst S3e
    have τ3e := τ3e.symm; subst τ3e
    have ρ3e := ρ3e.symm; subst ρ3e
    show gW Γ E (xM E S D R) _ _ _ _ (.int (iI (if ly = -1 ∨ (0 ≤ ly ∧ ly < σ 0 1000) then 1 else 0)) :: _)
    refine g_ifB_eq (tgt := 28) hΓ  dX0_worst_13 (by decide) (fun c4 => ?_) (fun c4 => ?_)
    · refine g_iconst hΓ dX0_worst_28 ?_
      exact x_iret hΓ dX0_worst_29 (Nat.zero_le _) (Nat.zero_le _) ⟨ri (by rw [sp_worst, if_neg (by omega)]), hx, rfl, (fun q9 j9 hk9 => rfl), (fun q9 j9 hk9 => rfl)⟩
    · refine g_iload_n hΓ rfl dX0_worst_16 ?_
      refine g_i2l hΓ (by omega) dX0_worst_17 ?_
      refine g_lconst (a := 0) hΓ rfl dX0_worst_18 ?_
      refine g_ldc2 (n := 2) hΓ rfl q846 (by decide) dX0_worst_19 ?_
      refine x_callS (As := [.long (lI u), .long (lI 0), .long (lI 2)]) (rest := []) hΓ (x_X0_isIn hE hX S D R u 0 2 (by first | assumption | omega) (by first | assumption | omega) (by first | assumption | omega)) rfl q387 q388 q123 q389 ndX0_isIn rfl (by decide) (by decide) (Nat.zero_le _) (Nat.zero_le _) rfl (Nat.le_of_ble_eq_true rfl) dX0_worst_22 rfl (fun v5 S5 τ5 ρ5 h5 => ?_)
      obtain ⟨rfl, S5e, τ5e, ρ5e⟩ := h5
      have S5e := S5e.symm; subst S5e
      have τ5e := τ5e.symm; subst τ5e
      have ρ5e := ρ5e.symm; subst ρ5e
      show gW Γ E (xM E S D R) _ _ _ _ (.int (iI (if 0 ≤ u ∧ u ≤ 2 then 1 else 0)) :: _)
      refine g_ifB_ne (tgt := 30) hΓ  dX0_worst_25 (by decide) (fun c6 => ?_) (fun c6 => ?_)
      · refine g_aload_n hΓ rfl dX0_worst_30 ?_
        refine g_iload_n hΓ rfl dX0_worst_31 ?_
        refine x_callV (As := [.int (iI lx)]) (rest := []) (c := 0) hE hΓ (x_X0_strokesOf hE hX S D R P σ lx hx (by first | assumption | omega) (by first | assumption | omega) ) hp.1 ⟨by decide, rfl⟩ rfl rfl q903 q905 qs24 q123 q906 ndX0_strokesOf rfl (by decide) (by decide) (Nat.zero_le _) (Nat.zero_le _) rfl (Nat.le_of_ble_eq_true rfl) dX0_worst_32 rfl (fun v7 S7 τ7 ρ7 h7 => ?_)
        obtain ⟨rfl, S7e, τ7e, ρ7e⟩ := h7
        have S7e := S7e.symm; subst S7e
        have τ7e := τ7e.symm; subst τ7e
        have ρ7e := ρ7e.symm; subst ρ7e
        show gW Γ E (xM E S D R) _ _ _ _ (.ref (lsA R (rf R P.1 4) lx) :: _)
        have hlt8 := (hx).letter (m := lx) (by omega)
        obtain ⟨kl8, hkl8, hk38⟩ : ∃ k : Nat, (S (lsA R (rf R P.1 4) lx)).1 = k ∧ (k = 10 ∨ k = 12 ∨ k = 13) := ⟨_, rfl, by have := hlt8.2.1; omega⟩
        have hkr8 : 10 ≤ kl8 ∧ kl8 ≤ 17 := by omega
        have hmx := mnS_r hro (m := lx) (by omega)
        have hmy := mnS_r hro (m := ly) (by omega)
        refine x_callV (As := []) (rest := []) (c := 10) hE hΓ (x_J2_size hE hX S D R (lsA R (rf R P.1 4) lx) kl8 hkl8 hkr8 ) hkl8 (ks_10_17 hkr8) rfl rfl q845 q662 q663 q127 q664 ndJ2_size rfl (by decide) (by decide) (Nat.zero_le _) (Nat.zero_le _) rfl (Nat.le_of_ble_eq_true rfl) dX0_worst_35 rfl (fun v9 S9 τ9 ρ9 h9 => ?_)
        obtain ⟨rfl, S9e, τ9e, ρ9e⟩ := h9
        have S9e := S9e.symm; subst S9e
        have τ9e := τ9e.symm; subst τ9e
        have ρ9e := ρ9e.symm; subst ρ9e
        refine g_topi (hlt8.1.1) ?_
        show gW Γ E (xM E S D R) _ _ _ _ (.int (iI (mnS σ lx)) :: _)
        obtain ⟨x10, ex10⟩ : ∃ z9 : Int, z9 = mnS σ lx := ⟨_, rfl⟩
        refine g_topi ex10.symm ?_
        refine g_istore hΓ dX0_worst_38 rfl (Nat.le_of_ble_eq_true rfl) (lv' := [some (.ref (P.1)), some (.int (iI lx)), some (.int (iI ly)), some (.int (iI u)), some (.int (iI x10)), none, none, none, none]) rfl ?_
        refine g_iload hΓ rfl dX0_worst_40 ?_
        refine g_aload_n hΓ rfl dX0_worst_42 ?_
        refine g_iload_n hΓ rfl dX0_worst_43 ?_
        refine x_callV (As := [.int (iI ly)]) (rest := [.int (iI x10)]) (c := 0) hE hΓ (x_X0_strokesOf hE hX S D R P σ ly hx (by first | assumption | omega) (by first | assumption | omega) ) hp.1 ⟨by decide, rfl⟩ rfl rfl q903 q905 qs24 q123 q906 ndX0_strokesOf rfl (by decide) (by decide) (Nat.zero_le _) (Nat.zero_le _) rfl (Nat.le_of_ble_eq_true rfl) dX0_worst_44 rfl (fun v11 S11 τ11 ρ11 h11 => ?_)
        obtain ⟨rfl, S11e, τ11e, ρ11e⟩ := h11
        have S11e := S11e.symm; subst S11e
        have τ11e := τ11e.symm; subst τ11e
        have ρ11e := ρ11e.symm; subst ρ11e
        show gW Γ E (xM E S D R) _ _ _ _ (.ref (lsA R (rf R P.1 4) ly) :: _)
        have hlt12 := (hx).letter (m := ly) (by omega)
        obtain ⟨kl12, hkl12, hk312⟩ : ∃ k : Nat, (S (lsA R (rf R P.1 4) ly)).1 = k ∧ (k = 10 ∨ k = 12 ∨ k = 13) := ⟨_, rfl, by have := hlt12.2.1; omega⟩
        have hkr12 : 10 ≤ kl12 ∧ kl12 ≤ 17 := by omega
        refine x_callV (As := []) (rest := [.int (iI x10)]) (c := 10) hE hΓ (x_J2_size hE hX S D R (lsA R (rf R P.1 4) ly) kl12 hkl12 hkr12 ) hkl12 (ks_10_17 hkr12) rfl rfl q845 q662 q663 q127 q664 ndJ2_size rfl (by decide) (by decide) (Nat.zero_le _) (Nat.zero_le _) rfl (Nat.le_of_ble_eq_true rfl) dX0_worst_47 rfl (fun v13 S13 τ13 ρ13 h13 => ?_)
        obtain ⟨rfl, S13e, τ13e, ρ13e⟩ := h13
        have S13e := S13e.symm; subst S13e
        have τ13e := τ13e.symm; subst τ13e
        have ρ13e := ρ13e.symm; subst ρ13e
        refine g_topi (hlt12.1.1) ?_
        show gW Γ E (xM E S D R) _ _ _ _ (.int (iI (mnS σ ly)) :: _)
        refine g_iadd hΓ dX0_worst_50 ?_
        obtain ⟨x14, ex14⟩ : ∃ z9 : Int, z9 = x10 + (mnS σ ly) := ⟨_, rfl⟩
        refine g_topi ex14.symm ?_
        refine g_istore hΓ dX0_worst_51 rfl (Nat.le_of_ble_eq_true rfl) (lv' := [some (.ref (P.1)), some (.int (iI lx)), some (.int (iI ly)), some (.int (iI u)), some (.int (iI x10)), some (.int (iI x14)), none, none, none]) rfl ?_
        refine g_iconst hΓ dX0_worst_53 ?_
        refine g_istore hΓ dX0_worst_54 rfl (Nat.le_of_ble_eq_true rfl) (lv' := [some (.ref (P.1)), some (.int (iI lx)), some (.int (iI ly)), some (.int (iI u)), some (.int (iI x10)), some (.int (iI x14)), some (.int (iI (-1))), none, none]) rfl ?_
        refine g_iconst hΓ dX0_worst_56 ?_
        refine g_istore hΓ dX0_worst_57 rfl (Nat.le_of_ble_eq_true rfl) (lv' := [some (.ref (P.1)), some (.int (iI lx)), some (.int (iI ly)), some (.int (iI u)), some (.int (iI x10)), some (.int (iI x14)), some (.int (iI (-1))), some (.int (iI (-1))), none]) rfl ?_
        refine g_aload_n hΓ rfl dX0_worst_59 ?_
        refine g_aload_n hΓ rfl dX0_worst_60 ?_
        refine g_iload_n hΓ rfl dX0_worst_61 ?_
        refine x_callV (As := [.int (iI lx)]) (rest := [.ref (P.1)]) (c := 0) hE hΓ (x_X0_strokesOf hE hX S D R P σ lx hx (by first | assumption | omega) (by first | assumption | omega) ) hp.1 ⟨by decide, rfl⟩ rfl rfl q903 q905 qs24 q123 q906 ndX0_strokesOf rfl (by decide) (by decide) (Nat.zero_le _) (Nat.zero_le _) rfl (Nat.le_of_ble_eq_true rfl) dX0_worst_62 rfl (fun v15 S15 τ15 ρ15 h15 => ?_)
        obtain ⟨rfl, S15e, τ15e, ρ15e⟩ := h15
        have S15e := S15e.symm; subst S15e
        have τ15e := τ15e.symm; subst τ15e
        have ρ15e := ρ15e.symm; subst ρ15e
        show gW Γ E (xM E S D R) _ _ _ _ (.ref (lsA R (rf R P.1 4) lx) :: _)
        refine g_aload_n hΓ rfl dX0_worst_65 ?_
        refine g_iload_n hΓ rfl dX0_worst_66 ?_
        refine x_callV (As := [.int (iI ly)]) (rest := [.ref (lsA R (rf R P.1 4) lx), .ref (P.1)]) (c := 0) hE hΓ (x_X0_strokesOf hE hX S D R P σ ly hx (by first | assumption | omega) (by first | assumption | omega) ) hp.1 ⟨by decide, rfl⟩ rfl rfl q903 q905 qs24 q123 q906 ndX0_strokesOf rfl (by decide) (by decide) (Nat.zero_le _) (Nat.zero_le _) rfl (Nat.le_of_ble_eq_true rfl) dX0_worst_67 rfl (fun v16 S16 τ16 ρ16 h16 => ?_)
        obtain ⟨rfl, S16e, τ16e, ρ16e⟩ := h16
        have S16e := S16e.symm; subst S16e
        have τ16e := τ16e.symm; subst τ16e
        have ρ16e := ρ16e.symm; subst ρ16e
        show gW Γ E (xM E S D R) _ _ _ _ (.ref (lsA R (rf R P.1 4) ly) :: _)
        have hlt17 := (hx).letter (m := lx) (by omega)
        obtain ⟨kl17, hkl17, hk317⟩ : ∃ k : Nat, (S (lsA R (rf R P.1 4) lx)).1 = k ∧ (k = 10 ∨ k = 12 ∨ k = 13) := ⟨_, rfl, by have := hlt17.2.1; omega⟩
        have hkr17 : 10 ≤ kl17 ∧ kl17 ≤ 17 := by omega
        have hlt18 := (hx).letter (m := ly) (by omega)
        obtain ⟨kl18, hkl18, hk318⟩ : ∃ k : Nat, (S (lsA R (rf R P.1 4) ly)).1 = k ∧ (k = 10 ∨ k = 12 ∨ k = 13) := ⟨_, rfl, by have := hlt18.2.1; omega⟩
        have hkr18 : 10 ≤ kl18 ∧ kl18 ≤ 17 := by omega
        refine x_callV (As := [.ref (lsA R (rf R P.1 4) lx), .ref (lsA R (rf R P.1 4) ly)]) (rest := []) (c := 0) hE hΓ (x_X0_scoreOf hE hX hL S D R P σ (lsA R (rf R P.1 4) lx) (lsA R (rf R P.1 4) ly) kl17 kl18 (fsS lx) (mnS σ lx) (fsS ly) (mnS σ ly) hx hkl17 hk317 hlt17.1 hlt17.2.2.2 hkl18 hk318 hlt18.1 hlt18.2.2.2 ) hp.1 ⟨by decide, rfl⟩ rfl rfl q1039 q1041 qs33 q123 q1042 ndX0_scoreOf rfl (by decide) (by decide) (Nat.zero_le _) (Nat.zero_le _) rfl (Nat.le_of_ble_eq_true rfl) dX0_worst_70 rfl (fun v19 S19 τ19 ρ19 h19 => ?_)
        obtain ⟨rfl, h19, S19e, τ19f, ρ19f⟩ := h19
        have S19e := S19e.symm; subst S19e
        show gW Γ E (xM E S τ19 ρ19) _ _ _ _ (.int (iI (scS σ (fsS lx) (mnS σ lx) (fsS ly) (mnS σ ly))) :: _)
        refine g_pop hΓ rfl dX0_worst_73 ?_
        have loop : ∀ (fu : Nat) (lf : Int) (mo : Int) (fo : Int) (k : Int), (mnS σ lx - k).toNat < fu → (0 ≤ k ∧ k ≤ mnS σ lx) → (-1 ≤ mo ∧ mo ≤ 144) → (wrI σ lx ly k fo mo lf) → gW Γ E (xM E S τ19 ρ19) 0 0 77 [some (.ref (P.1)), some (.int (iI lx)), some (.int (iI ly)), some (.int (iI u)), some (.int (iI x10)), some (.int (iI lf)), some (.int (iI mo)), some (.int (iI fo)), some (.int (iI k))] [] := by
          intro fu
          induction fu with
          | zero => intro lf mo fo k hn; exact absurd hn (Nat.not_lt_zero _)
          | succ fu ih_loop =>
            intro lf mo fo k hn hk hmo hI
            have hpn := pnr_r hro (x := lx) (y := ly) (by omega) k
            have hcf := fun (h9 : k < mnS σ lx) => cof_r hro (x := lx) (y := ly) (by omega) (by omega) (i := k) (by omega) h9
            refine g_iload hΓ rfl dX0_worst_77 ?_
            refine g_iload hΓ rfl dX0_worst_79 ?_
            refine g_icmp_ge (tgt := 137) hΓ (by omega) (by omega) dX0_worst_81 (by decide) (fun c20 => ?_) (fun c20 => ?_)
            · refine g_iload_n hΓ rfl dX0_worst_137 ?_
              refine g_if_ne (tgt := 146) hΓ (by omega) dX0_worst_138 (by decide) (fun c21 => ?_) (fun c21 => ?_)
              · refine g_iload_n hΓ rfl dX0_worst_146 ?_
                refine g_iconst hΓ dX0_worst_147 ?_
                refine g_icmp_ne (tgt := 160) hΓ (by omega) (by omega) dX0_worst_148 (by decide) (fun c22 => ?_) (fun c22 => ?_)
                · refine g_iload hΓ rfl dX0_worst_160 ?_
                  exact x_iret hΓ dX0_worst_162 (Nat.zero_le _) (Nat.zero_le _) ⟨ri (by rw [sp_worst, if_pos (by omega), show (mnS σ lx).toNat = k.toNat by omega]; obtain ⟨i1, i2, i3, i4⟩ := hI; first | (rw [if_pos (by omega), i1]; done) | (rw [if_neg (by omega), if_pos (by omega), i2]; done) | (rw [if_neg (by omega), if_neg (by omega), i3])), h19.1, rfl, (fun q9 j9 hk9 => by exact (τ19f q9 j9 (fun e9 => hk9 ((show ∀ x ∈ [8003, 42, 43, 44, 112, 115, 116, 117, 46, 47, 48, 49, 1022, 68, 69], x ∈ [8003, 42, 43, 44, 112, 115, 116, 117, 46, 47, 48, 49, 1022, 68, 69] by decide) _ e9)))), (fun q9 j9 hk9 => by exact (ρ19f q9 j9 (fun e9 => hk9 ((show ∀ x ∈ [1009, 1010], x ∈ [1009, 1010] by decide) _ e9))))⟩
                · refine g_iconst hΓ dX0_worst_151 ?_
                  refine g_iload hΓ rfl dX0_worst_152 ?_
                  refine x_callS (As := [.int (iI 0), .int (iI mo)]) (rest := []) hΓ (x_J3_max hE hX S τ19 ρ19 0 mo (by first | assumption | omega) (by first | assumption | omega)) rfl q1019 q722 q129 q723 ndJ3_max rfl (by decide) (by decide) (Nat.zero_le _) (Nat.zero_le _) rfl (Nat.le_of_ble_eq_true rfl) dX0_worst_154 rfl (fun v23 S23 τ23 ρ23 h23 => ?_)
                  obtain ⟨rfl, S23e, τ23e, ρ23e⟩ := h23
                  have S23e := S23e.symm; subst S23e
                  have τ23e := τ23e.symm; subst τ23e
                  have ρ23e := ρ23e.symm; subst ρ23e
                  show gW Γ E (xM E S τ19 ρ19) _ _ _ _ (.int (iI (max 0 mo)) :: _)
                  refine g_goto (tgt := 162) hΓ dX0_worst_157 (by decide) ?_
                  exact x_iret hΓ dX0_worst_162 (Nat.zero_le _) (Nat.zero_le _) ⟨ri (by rw [sp_worst, if_pos (by omega), show (mnS σ lx).toNat = k.toNat by omega]; obtain ⟨i1, i2, i3, i4⟩ := hI; first | (rw [if_pos (by omega), i1]; done) | (rw [if_neg (by omega), if_pos (by omega), i2]; done) | (rw [if_neg (by omega), if_neg (by omega), i3])), h19.1, rfl, (fun q9 j9 hk9 => by exact (τ19f q9 j9 (fun e9 => hk9 ((show ∀ x ∈ [8003, 42, 43, 44, 112, 115, 116, 117, 46, 47, 48, 49, 1022, 68, 69], x ∈ [8003, 42, 43, 44, 112, 115, 116, 117, 46, 47, 48, 49, 1022, 68, 69] by decide) _ e9)))), (fun q9 j9 hk9 => by exact (ρ19f q9 j9 (fun e9 => hk9 ((show ∀ x ∈ [1009, 1010], x ∈ [1009, 1010] by decide) _ e9))))⟩
              · refine g_iload hΓ rfl dX0_worst_141 ?_
                refine g_goto (tgt := 162) hΓ dX0_worst_143 (by decide) ?_
                exact x_iret hΓ dX0_worst_162 (Nat.zero_le _) (Nat.zero_le _) ⟨ri (by rw [sp_worst, if_pos (by omega), show (mnS σ lx).toNat = k.toNat by omega]; obtain ⟨i1, i2, i3, i4⟩ := hI; first | (rw [if_pos (by omega), i1]; done) | (rw [if_neg (by omega), if_pos (by omega), i2]; done) | (rw [if_neg (by omega), if_neg (by omega), i3])), h19.1, rfl, (fun q9 j9 hk9 => by exact (τ19f q9 j9 (fun e9 => hk9 ((show ∀ x ∈ [8003, 42, 43, 44, 112, 115, 116, 117, 46, 47, 48, 49, 1022, 68, 69], x ∈ [8003, 42, 43, 44, 112, 115, 116, 117, 46, 47, 48, 49, 1022, 68, 69] by decide) _ e9)))), (fun q9 j9 hk9 => by exact (ρ19f q9 j9 (fun e9 => hk9 ((show ∀ x ∈ [1009, 1010], x ∈ [1009, 1010] by decide) _ e9))))⟩
            · refine g_iload hΓ rfl dX0_worst_84 ?_
              refine g_aload_n hΓ rfl dX0_worst_86 ?_
              refine x_geta (r := some (P.2.1 19)) (c := 0) hE hΓ in_X0 rfl hp.1 ⟨by decide, rfl⟩ 19 (ji := 19) rfl (by decide) (by decide) rfl q265 rfl rfl ((ρ19f (P.1) 19 (by rw [hp.1]; decide)).trans (pA_r hp 19 rfl rfl)) dX0_worst_87 ?_
              show gW Γ E (xM E S τ19 ρ19) 0 0 _ _ (.ref (P.2.1 19) :: _)
              refine g_iload hΓ rfl dX0_worst_90 ?_
              refine x_iald hΓ (pA_k hp 19 rfl (n := 69) rfl) (pA_n hp 19 rfl (n := 8) rfl) ⟨by decide, rfl⟩ (by omega) (by omega) dX0_worst_92 ?_
              refine g_topi ((show τ19 (P.2.1 19) k = pnr σ lx ly k from h19.2.2 k (by omega) (by omega))) ?_
              refine g_iconst hΓ dX0_worst_93 ?_
              refine g_icmp_ne (tgt := 101) hΓ (by omega) (by omega) dX0_worst_94 (by decide) (fun c24 => ?_) (fun c24 => ?_)
              · refine g_iconst hΓ dX0_worst_101 ?_
                refine g_isub hΓ dX0_worst_102 ?_
                obtain ⟨x25, ex25⟩ : ∃ z9 : Int, z9 = lf - 2 := ⟨_, rfl⟩
                refine g_topi ex25.symm ?_
                refine g_istore hΓ dX0_worst_103 rfl (Nat.le_of_ble_eq_true rfl) (lv' := [some (.ref (P.1)), some (.int (iI lx)), some (.int (iI ly)), some (.int (iI u)), some (.int (iI x10)), some (.int (iI x25)), some (.int (iI mo)), some (.int (iI fo)), some (.int (iI k))]) rfl ?_
                have hc9 := hcf (by omega)
                refine g_aload_n hΓ rfl dX0_worst_105 ?_
                refine g_iload hΓ rfl dX0_worst_106 ?_
                refine x_callV (As := [.int (iI k)]) (rest := []) (c := 0) hE hΓ (x_X0_costOf hE hX S τ19 ρ19 P σ k lx ly h19.1 (by omega) (by omega) (by omega) h19.2.1 (h19.2.2 k (by omega) (by omega)) ) hp.1 ⟨by decide, rfl⟩ rfl rfl q1073 q1075 qs37 q123 q1076 ndX0_costOf rfl (by decide) (by decide) (Nat.zero_le _) (Nat.zero_le _) rfl (Nat.le_of_ble_eq_true rfl) dX0_worst_108 rfl (fun v26 S26 τ26 ρ26 h26 => ?_)
                obtain ⟨rfl, S26e, τ26e, ρ26e⟩ := h26
                have S26e := S26e.symm; subst S26e
                have τ26e := τ26e.symm; subst τ26e
                have ρ26e := ρ26e.symm; subst ρ26e
                show gW Γ E (xM E S τ19 ρ19) _ _ _ _ (.int (iI (cof σ lx ly k)) :: _)
                refine g_iload hΓ rfl dX0_worst_111 ?_
                refine g_icmp_gt (tgt := 119) hΓ (by omega) (by omega) dX0_worst_113 (by decide) (fun c27 => ?_) (fun c27 => ?_)
                · refine g_aload_n hΓ rfl dX0_worst_119 ?_
                  refine g_iload hΓ rfl dX0_worst_120 ?_
                  refine x_callV (As := [.int (iI k)]) (rest := []) (c := 0) hE hΓ (x_X0_costOf hE hX S τ19 ρ19 P σ k lx ly h19.1 (by omega) (by omega) (by omega) h19.2.1 (h19.2.2 k (by omega) (by omega)) ) hp.1 ⟨by decide, rfl⟩ rfl rfl q1073 q1075 qs37 q123 q1076 ndX0_costOf rfl (by decide) (by decide) (Nat.zero_le _) (Nat.zero_le _) rfl (Nat.le_of_ble_eq_true rfl) dX0_worst_122 rfl (fun v28 S28 τ28 ρ28 h28 => ?_)
                  obtain ⟨rfl, S28e, τ28e, ρ28e⟩ := h28
                  have S28e := S28e.symm; subst S28e
                  have τ28e := τ28e.symm; subst τ28e
                  have ρ28e := ρ28e.symm; subst ρ28e
                  show gW Γ E (xM E S τ19 ρ19) _ _ _ _ (.int (iI (cof σ lx ly k)) :: _)
                  obtain ⟨x29, ex29⟩ : ∃ z9 : Int, z9 = cof σ lx ly k := ⟨_, rfl⟩
                  refine g_topi ex29.symm ?_
                  refine g_istore hΓ dX0_worst_125 rfl (Nat.le_of_ble_eq_true rfl) (lv' := [some (.ref (P.1)), some (.int (iI lx)), some (.int (iI ly)), some (.int (iI u)), some (.int (iI x10)), some (.int (iI x25)), some (.int (iI x29)), some (.int (iI fo)), some (.int (iI k))]) rfl ?_
                  refine g_iload hΓ rfl dX0_worst_127 ?_
                  refine g_istore hΓ dX0_worst_129 rfl (Nat.le_of_ble_eq_true rfl) (lv' := [some (.ref (P.1)), some (.int (iI lx)), some (.int (iI ly)), some (.int (iI u)), some (.int (iI x10)), some (.int (iI x25)), some (.int (iI x29)), some (.int (iI k)), some (.int (iI k))]) rfl ?_
                  obtain ⟨x30, ex30⟩ : ∃ z9 : Int, z9 = k + 1 := ⟨_, rfl⟩
                  refine g_iinc hΓ dX0_worst_131 rfl rfl (lv' := [some (.ref (P.1)), some (.int (iI lx)), some (.int (iI ly)), some (.int (iI u)), some (.int (iI x10)), some (.int (iI x25)), some (.int (iI x29)), some (.int (iI k)), some (.int (iI x30))]) (by rw [ex30]; rfl) ?_
                  refine g_goto (tgt := 77) hΓ dX0_worst_134 (by decide) ?_
                  have hlf : x25 = lf - (if pnr σ lx ly k = -1 then 0 else 2) := by
                    first | (rw [if_pos (by omega)]; omega) | (rw [if_neg (by omega)]; omega)
                  exact ih_loop x25 x29 k x30 (by omega) (by omega) (by omega) (by rw [show x30 = k + 1 by omega, ex29]; exact wrI_take (by omega) hI (by omega) (by omega) hlf)
                · refine g_goto (tgt := 131) hΓ dX0_worst_116 (by decide) ?_
                  obtain ⟨x31, ex31⟩ : ∃ z9 : Int, z9 = k + 1 := ⟨_, rfl⟩
                  refine g_iinc hΓ dX0_worst_131 rfl rfl (lv' := [some (.ref (P.1)), some (.int (iI lx)), some (.int (iI ly)), some (.int (iI u)), some (.int (iI x10)), some (.int (iI x25)), some (.int (iI mo)), some (.int (iI fo)), some (.int (iI x31))]) (by rw [ex31]; rfl) ?_
                  refine g_goto (tgt := 77) hΓ dX0_worst_134 (by decide) ?_
                  have hlf : x25 = lf - (if pnr σ lx ly k = -1 then 0 else 2) := by
                    first | (rw [if_pos (by omega)]; omega) | (rw [if_neg (by omega)]; omega)
                  exact ih_loop x25 mo fo x31 (by omega) (by omega) (by omega) (by rw [show x31 = k + 1 by omega]; exact wrI_keep (by omega) hI (by omega) (by omega) hlf)
              · refine g_iconst hΓ dX0_worst_97 ?_
                refine g_goto (tgt := 102) hΓ dX0_worst_98 (by decide) ?_
                refine g_isub hΓ dX0_worst_102 ?_
                obtain ⟨x32, ex32⟩ : ∃ z9 : Int, z9 = lf - 0 := ⟨_, rfl⟩
                refine g_topi ex32.symm ?_
                refine g_istore hΓ dX0_worst_103 rfl (Nat.le_of_ble_eq_true rfl) (lv' := [some (.ref (P.1)), some (.int (iI lx)), some (.int (iI ly)), some (.int (iI u)), some (.int (iI x10)), some (.int (iI x32)), some (.int (iI mo)), some (.int (iI fo)), some (.int (iI k))]) rfl ?_
                have hc9 := hcf (by omega)
                refine g_aload_n hΓ rfl dX0_worst_105 ?_
                refine g_iload hΓ rfl dX0_worst_106 ?_
                refine x_callV (As := [.int (iI k)]) (rest := []) (c := 0) hE hΓ (x_X0_costOf hE hX S τ19 ρ19 P σ k lx ly h19.1 (by omega) (by omega) (by omega) h19.2.1 (h19.2.2 k (by omega) (by omega)) ) hp.1 ⟨by decide, rfl⟩ rfl rfl q1073 q1075 qs37 q123 q1076 ndX0_costOf rfl (by decide) (by decide) (Nat.zero_le _) (Nat.zero_le _) rfl (Nat.le_of_ble_eq_true rfl) dX0_worst_108 rfl (fun v33 S33 τ33 ρ33 h33 => ?_)
                obtain ⟨rfl, S33e, τ33e, ρ33e⟩ := h33
                have S33e := S33e.symm; subst S33e
                have τ33e := τ33e.symm; subst τ33e
                have ρ33e := ρ33e.symm; subst ρ33e
                show gW Γ E (xM E S τ19 ρ19) _ _ _ _ (.int (iI (cof σ lx ly k)) :: _)
                refine g_iload hΓ rfl dX0_worst_111 ?_
                refine g_icmp_gt (tgt := 119) hΓ (by omega) (by omega) dX0_worst_113 (by decide) (fun c34 => ?_) (fun c34 => ?_)
                · refine g_aload_n hΓ rfl dX0_worst_119 ?_
                  refine g_iload hΓ rfl dX0_worst_120 ?_
                  refine x_callV (As := [.int (iI k)]) (rest := []) (c := 0) hE hΓ (x_X0_costOf hE hX S τ19 ρ19 P σ k lx ly h19.1 (by omega) (by omega) (by omega) h19.2.1 (h19.2.2 k (by omega) (by omega)) ) hp.1 ⟨by decide, rfl⟩ rfl rfl q1073 q1075 qs37 q123 q1076 ndX0_costOf rfl (by decide) (by decide) (Nat.zero_le _) (Nat.zero_le _) rfl (Nat.le_of_ble_eq_true rfl) dX0_worst_122 rfl (fun v35 S35 τ35 ρ35 h35 => ?_)
                  obtain ⟨rfl, S35e, τ35e, ρ35e⟩ := h35
                  have S35e := S35e.symm; subst S35e
                  have τ35e := τ35e.symm; subst τ35e
                  have ρ35e := ρ35e.symm; subst ρ35e
                  show gW Γ E (xM E S τ19 ρ19) _ _ _ _ (.int (iI (cof σ lx ly k)) :: _)
                  obtain ⟨x36, ex36⟩ : ∃ z9 : Int, z9 = cof σ lx ly k := ⟨_, rfl⟩
                  refine g_topi ex36.symm ?_
                  refine g_istore hΓ dX0_worst_125 rfl (Nat.le_of_ble_eq_true rfl) (lv' := [some (.ref (P.1)), some (.int (iI lx)), some (.int (iI ly)), some (.int (iI u)), some (.int (iI x10)), some (.int (iI x32)), some (.int (iI x36)), some (.int (iI fo)), some (.int (iI k))]) rfl ?_
                  refine g_iload hΓ rfl dX0_worst_127 ?_
                  refine g_istore hΓ dX0_worst_129 rfl (Nat.le_of_ble_eq_true rfl) (lv' := [some (.ref (P.1)), some (.int (iI lx)), some (.int (iI ly)), some (.int (iI u)), some (.int (iI x10)), some (.int (iI x32)), some (.int (iI x36)), some (.int (iI k)), some (.int (iI k))]) rfl ?_
                  obtain ⟨x37, ex37⟩ : ∃ z9 : Int, z9 = k + 1 := ⟨_, rfl⟩
                  refine g_iinc hΓ dX0_worst_131 rfl rfl (lv' := [some (.ref (P.1)), some (.int (iI lx)), some (.int (iI ly)), some (.int (iI u)), some (.int (iI x10)), some (.int (iI x32)), some (.int (iI x36)), some (.int (iI k)), some (.int (iI x37))]) (by rw [ex37]; rfl) ?_
                  refine g_goto (tgt := 77) hΓ dX0_worst_134 (by decide) ?_
                  have hlf : x32 = lf - (if pnr σ lx ly k = -1 then 0 else 2) := by
                    first | (rw [if_pos (by omega)]; omega) | (rw [if_neg (by omega)]; omega)
                  exact ih_loop x32 x36 k x37 (by omega) (by omega) (by omega) (by rw [show x37 = k + 1 by omega, ex36]; exact wrI_take (by omega) hI (by omega) (by omega) hlf)
                · refine g_goto (tgt := 131) hΓ dX0_worst_116 (by decide) ?_
                  obtain ⟨x38, ex38⟩ : ∃ z9 : Int, z9 = k + 1 := ⟨_, rfl⟩
                  refine g_iinc hΓ dX0_worst_131 rfl rfl (lv' := [some (.ref (P.1)), some (.int (iI lx)), some (.int (iI ly)), some (.int (iI u)), some (.int (iI x10)), some (.int (iI x32)), some (.int (iI mo)), some (.int (iI fo)), some (.int (iI x38))]) (by rw [ex38]; rfl) ?_
                  refine g_goto (tgt := 77) hΓ dX0_worst_134 (by decide) ?_
                  have hlf : x32 = lf - (if pnr σ lx ly k = -1 then 0 else 2) := by
                    first | (rw [if_pos (by omega)]; omega) | (rw [if_neg (by omega)]; omega)
                  exact ih_loop x32 mo fo x38 (by omega) (by omega) (by omega) (by rw [show x38 = k + 1 by omega]; exact wrI_keep (by omega) hI (by omega) (by omega) hlf)
        refine g_iconst hΓ dX0_worst_74 ?_
        refine g_istore hΓ dX0_worst_75 rfl (Nat.le_of_ble_eq_true rfl) (lv' := [some (.ref (P.1)), some (.int (iI lx)), some (.int (iI ly)), some (.int (iI u)), some (.int (iI x10)), some (.int (iI x14)), some (.int (iI (-1))), some (.int (iI (-1))), some (.int (iI 0))]) rfl ?_
        exact loop 9 x14 (-1) (-1) 0 (by omega) (by omega) (by omega) (by rw [show x14 = mnS σ lx + mnS σ ly by omega]; exact wrI_0 σ lx ly)
      · refine g_iconst hΓ dX0_worst_28 ?_
        exact x_iret hΓ dX0_worst_29 (Nat.zero_le _) (Nat.zero_le _) ⟨ri (by rw [sp_worst, if_neg (by omega)]), hx, rfl, (fun q9 j9 hk9 => rfl), (fun q9 j9 hk9 => rfl)⟩
