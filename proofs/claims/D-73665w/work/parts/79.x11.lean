set_option maxRecDepth 100000
set_option maxHeartbeats 4000000 in
theorem x_X0_models {l : Launch} {E : gE} {X : State → Prop} {Z : Nat → Nat} {Y : Nat → Option Nat} (hE : E.2.1 = clsX) (hX : xOK l E X Z Y) (S : xS) (D : xD) (R : xR) (P : xPk) (σ : mS)  (hx : Rx E Z S D R P σ) : xC l E X yX0_models cX0_models 1 (some .int) 1 0 0 [.ref (P.1)] S D R (fun rv S' D' R' => rv = some (.int (iI (σ 0 1000))) ∧ S' = S ∧ D' = D ∧ R' = R) := by
  refine xC.of hX.1 (by decide) [some (.ref (P.1))] (Nat.le_of_ble_eq_true rfl) rfl rfl (fun Γ hΓ => ?_)
  obtain ⟨hg, hp, hki, hro, hnw, hbh, hsa, hpd⟩ := id hx
  obtain ⟨N, NI, NM, NV, hN⟩ := (hx).now
  have hAw := hg.2.2.2.2.2.2
  have hG : GS S D R := hg.1
  obtain ⟨h1000, h1009, h1042, h1043, h1044, h1045, h1046, h1047, hms, hsi, hsm, hnm⟩ := id hro
  have eN := hN.2.2.2.2.2.2.2.2.2.2.2.2
  have kNV : (S NV).1 = 45 := by rw [hN.2.2.2.1.2]
  have nNV : (S NV).2.1 = 6 := by rw [hN.2.2.2.1.2]
  refine g_aload_n hΓ rfl dX0_models_0 ?_
  refine x_geta (r := some N) (c := 0) hE hΓ in_X0 rfl hp.1 ⟨by decide, rfl⟩ 4 (ji := 4) rfl (by decide) (by decide) rfl q250 rfl rfl hN.1.1 dX0_models_1 ?_
  show gW Γ E (xM E S D R) 0 0 _ _ (.ref N :: _)
  refine x_geta (r := some NM) (c := 1) hE hΓ in_X1 rfl hN.1.2 ⟨by decide, rfl⟩ 0 (ji := 0) rfl (by decide) (by decide) rfl q197 rfl rfl hN.2.1.1 dX0_models_4 ?_
  show gW Γ E (xM E S D R) 0 0 _ _ (.ref NM :: _)
  refine x_callV (As := []) (rest := []) (c := 10) hE hΓ (x_J2_size hE hX S D R NM 11 hN.2.1.2 (by decide) ) hN.2.1.2 ⟨by decide, rfl⟩ rfl rfl q845 q662 q663 q127 q664 ndJ2_size rfl (by decide) (by decide) (Nat.zero_le _) (Nat.zero_le _) rfl (Nat.le_of_ble_eq_true rfl) dX0_models_7 rfl (fun v1 S1 τ1 ρ1 h1 => ?_)
  obtain ⟨rfl, S1e, τ1e, ρ1e⟩ := h1
  have S1e := S1e.symm; subst S1e
  have τ1e := τ1e.symm; subst τ1e
  have ρ1e := ρ1e.symm; subst ρ1e
  refine g_topi (hN.2.2.2.2.2.1) ?_
  show gW Γ E (xM E S D R) _ _ _ _ (.int (iI (σ 0 1000)) :: _)
  exact x_iret hΓ dX0_models_10 (Nat.zero_le _) (Nat.zero_le _) ⟨ri (by first | rfl | omega | exact if_iff (by omega) | (simp_all; done) | ((repeat' split) <;> omega)), rfl, rfl, rfl⟩
set_option maxHeartbeats 4000000 in
theorem x_X0_isModel {l : Launch} {E : gE} {X : State → Prop} {Z : Nat → Nat} {Y : Nat → Option Nat} (hE : E.2.1 = clsX) (hX : xOK l E X Z Y) (S : xS) (D : xD) (R : xR) (P : xPk) (σ : mS) (m : Int) (hx : Rx E Z S D R P σ) (hm : r32 m) : xC l E X yX0_isModel cX0_isModel 2 (some .boolean) 2 0 0 [.ref (P.1), .int (iI m)] S D R (fun rv S' D' R' => rv = some (.int (iI (if 0 ≤ m ∧ m < σ 0 1000 then 1 else 0))) ∧ S' = S ∧ D' = D ∧ R' = R) := by
  refine xC.of hX.1 (by decide) [some (.ref (P.1)), some (.int (iI m))] (Nat.le_of_ble_eq_true rfl) rfl rfl (fun Γ hΓ => ?_)
  obtain ⟨hg, hp, hki, hro, hnw, hbh, hsa, hpd⟩ := id hx
  obtain ⟨N, NI, NM, NV, hN⟩ := (hx).now
  have hAw := hg.2.2.2.2.2.2
  have hG : GS S D R := hg.1
  obtain ⟨h1000, h1009, h1042, h1043, h1044, h1045, h1046, h1047, hms, hsi, hsm, hnm⟩ := id hro
  have eN := hN.2.2.2.2.2.2.2.2.2.2.2.2
  have kNV : (S NV).1 = 45 := by rw [hN.2.2.2.1.2]
  have nNV : (S NV).2.1 = 6 := by rw [hN.2.2.2.1.2]
  refine g_iload_n hΓ rfl dX0_isModel_0 ?_
  refine g_i2l hΓ (by omega) dX0_isModel_1 ?_
  refine g_lconst (a := 0) hΓ rfl dX0_isModel_2 ?_
  refine g_aload_n hΓ rfl dX0_isModel_3 ?_
  refine x_callV (As := []) (rest := [.long (lI 0), .long (lI m)]) (c := 0) hE hΓ (x_X0_models hE hX S D R P σ  hx  ) hp.1 ⟨by decide, rfl⟩ rfl rfl q841 q843 qs21 q123 q844 ndX0_models rfl (by decide) (by decide) (Nat.zero_le _) (Nat.zero_le _) rfl (Nat.le_of_ble_eq_true rfl) dX0_isModel_4 rfl (fun v1 S1 τ1 ρ1 h1 => ?_)
  obtain ⟨rfl, S1e, τ1e, ρ1e⟩ := h1
  have S1e := S1e.symm; subst S1e
  have τ1e := τ1e.symm; subst τ1e
  have ρ1e := ρ1e.symm; subst ρ1e
  show gW Γ E (xM E S D R) _ _ _ _ (.int (iI (σ 0 1000)) :: _)
  refine g_iconst hΓ dX0_isModel_7 ?_
  refine g_isub hΓ dX0_isModel_8 ?_
  refine g_i2l hΓ (by omega) dX0_isModel_9 ?_
  refine x_callS (As := [.long (lI m), .long (lI 0), .long (lI ((σ 0 1000) - 1))]) (rest := []) hΓ (x_X0_isIn hE hX S D R m 0 ((σ 0 1000) - 1) (by first | assumption | omega) (by first | assumption | omega) (by first | assumption | omega)) rfl q387 q388 q123 q389 ndX0_isIn rfl (by decide) (by decide) (Nat.zero_le _) (Nat.zero_le _) rfl (Nat.le_of_ble_eq_true rfl) dX0_isModel_10 rfl (fun v2 S2 τ2 ρ2 h2 => ?_)
  obtain ⟨rfl, S2e, τ2e, ρ2e⟩ := h2
  have S2e := S2e.symm; subst S2e
  have τ2e := τ2e.symm; subst τ2e
  have ρ2e := ρ2e.symm; subst ρ2e
  show gW Γ E (xM E S D R) _ _ _ _ (.int (iI (if 0 ≤ m ∧ m ≤ ((σ 0 1000) - 1) then 1 else 0)) :: _)
  exact x_zret hΓ (by omega) dX0_isModel_13 (Nat.zero_le _) (Nat.zero_le _) ⟨ri (by first | rfl | omega | exact if_iff (by omega) | (simp_all; done) | ((repeat' split) <;> omega)), rfl, rfl, rfl⟩
set_option maxHeartbeats 4000000 in
theorem x_X0_isLetter {l : Launch} {E : gE} {X : State → Prop} {Z : Nat → Nat} {Y : Nat → Option Nat} (hE : E.2.1 = clsX) (hX : xOK l E X Z Y) (S : xS) (D : xD) (R : xR) (P : xPk) (σ : mS) (m : Int) (hx : Rx E Z S D R P σ) (hm : r32 m) : xC l E X yX0_isLetter cX0_isLetter 2 (some .boolean) 3 0 0 [.ref (P.1), .int (iI m)] S D R (fun rv S' D' R' => rv = some (.int (iI (if m = -1 ∨ (0 ≤ m ∧ m < σ 0 1000) then 1 else 0))) ∧ S' = S ∧ D' = D ∧ R' = R) := by
  refine xC.of hX.1 (by decide) [some (.ref (P.1)), some (.int (iI m))] (Nat.le_of_ble_eq_true rfl) rfl rfl (fun Γ hΓ => ?_)
  obtain ⟨hg, hp, hki, hro, hnw, hbh, hsa, hpd⟩ := id hx
  obtain ⟨N, NI, NM, NV, hN⟩ := (hx).now
  have hAw := hg.2.2.2.2.2.2
  have hG : GS S D R := hg.1
  obtain ⟨h1000, h1009, h1042, h1043, h1044, h1045, h1046, h1047, hms, hsi, hsm, hnm⟩ := id hro
  have eN := hN.2.2.2.2.2.2.2.2.2.2.2.2
  have kNV : (S NV).1 = 45 := by rw [hN.2.2.2.1.2]
  have nNV : (S NV).2.1 = 6 := by rw [hN.2.2.2.1.2]
  refine g_iload_n hΓ rfl dX0_isLetter_0 ?_
  refine g_iconst hΓ dX0_isLetter_1 ?_
  refine g_icmp_eq (tgt := 13) hΓ (by omega) (by omega) dX0_isLetter_2 (by decide) (fun c1 => ?_) (fun c1 => ?_)
  · refine g_iconst hΓ dX0_isLetter_13 ?_
    refine g_goto (tgt := 18) hΓ dX0_isLetter_14 (by decide) ?_
    exact x_zret hΓ (by omega) dX0_isLetter_18 (Nat.zero_le _) (Nat.zero_le _) ⟨ri (by first | rfl | omega | exact if_iff (by omega) | (simp_all; done) | ((repeat' split) <;> omega)), rfl, rfl, rfl⟩
  · refine g_aload_n hΓ rfl dX0_isLetter_5 ?_
    refine g_iload_n hΓ rfl dX0_isLetter_6 ?_
    refine x_callV (As := [.int (iI m)]) (rest := []) (c := 0) hE hΓ (x_X0_isModel hE hX S D R P σ m hx (by first | assumption | omega) ) hp.1 ⟨by decide, rfl⟩ rfl rfl q852 q854 qs22 q123 q855 ndX0_isModel rfl (by decide) (by decide) (Nat.zero_le _) (Nat.zero_le _) rfl (Nat.le_of_ble_eq_true rfl) dX0_isLetter_7 rfl (fun v2 S2 τ2 ρ2 h2 => ?_)
    obtain ⟨rfl, S2e, τ2e, ρ2e⟩ := h2
    have S2e := S2e.symm; subst S2e
    have τ2e := τ2e.symm; subst τ2e
    have ρ2e := ρ2e.symm; subst ρ2e
    show gW Γ E (xM E S D R) _ _ _ _ (.int (iI (if 0 ≤ m ∧ m < σ 0 1000 then 1 else 0)) :: _)
    refine g_ifB_eq (tgt := 17) hΓ  dX0_isLetter_10 (by decide) (fun c3 => ?_) (fun c3 => ?_)
    · refine g_iconst hΓ dX0_isLetter_17 ?_
      exact x_zret hΓ (by omega) dX0_isLetter_18 (Nat.zero_le _) (Nat.zero_le _) ⟨ri (by first | rfl | omega | exact if_iff (by omega) | (simp_all; done) | ((repeat' split) <;> omega)), rfl, rfl, rfl⟩
    · refine g_iconst hΓ dX0_isLetter_13 ?_
      refine g_goto (tgt := 18) hΓ dX0_isLetter_14 (by decide) ?_
      exact x_zret hΓ (by omega) dX0_isLetter_18 (Nat.zero_le _) (Nat.zero_le _) ⟨ri (by first | rfl | omega | exact if_iff (by omega) | (simp_all; done) | ((repeat' split) <;> omega)), rfl, rfl, rfl⟩
set_option maxHeartbeats 4000000 in
theorem x_X0_fault {l : Launch} {E : gE} {X : State → Prop} {Z : Nat → Nat} {Y : Nat → Option Nat} (hE : E.2.1 = clsX) (hX : xOK l E X Z Y) (S : xS) (D : xD) (R : xR) (P : xPk) (σ : mS) (w : Int) (hx : Rx E Z S D R P σ) (hw : r32 w) : xC l E X yX0_fault cX0_fault 2 (some .int) 0 0 0 [.ref (P.1), .int (iI w)] S D R (fun rv S' D' R' => rv = some (.int (iI (if w = 0 then σ 14 0 else if w = 1 then σ 15 0 else -1))) ∧ S' = S ∧ D' = D ∧ R' = R) := by
  refine xC.of hX.1 (by decide) [some (.ref (P.1)), some (.int (iI w))] (Nat.le_of_ble_eq_true rfl) rfl rfl (fun Γ hΓ => ?_)
  obtain ⟨hg, hp, hki, hro, hnw, hbh, hsa, hpd⟩ := id hx
  obtain ⟨N, NI, NM, NV, hN⟩ := (hx).now
  have hAw := hg.2.2.2.2.2.2
  have hG : GS S D R := hg.1
  obtain ⟨h1000, h1009, h1042, h1043, h1044, h1045, h1046, h1047, hms, hsi, hsm, hnm⟩ := id hro
  have eN := hN.2.2.2.2.2.2.2.2.2.2.2.2
  have kNV : (S NV).1 = 45 := by rw [hN.2.2.2.1.2]
  have nNV : (S NV).2.1 = 6 := by rw [hN.2.2.2.1.2]
  refine g_iload_n hΓ rfl dX0_fault_0 ?_
  refine g_if_ne (tgt := 11) hΓ (by omega) dX0_fault_1 (by decide) (fun c1 => ?_) (fun c1 => ?_)
  · refine g_iload_n hΓ rfl dX0_fault_11 ?_
    refine g_iconst hΓ dX0_fault_12 ?_
    refine g_icmp_ne (tgt := 23) hΓ (by omega) (by omega) dX0_fault_13 (by decide) (fun c2 => ?_) (fun c2 => ?_)
    · refine g_iconst hΓ dX0_fault_23 ?_
      exact x_iret hΓ dX0_fault_24 (Nat.zero_le _) (Nat.zero_le _) ⟨ri (by first | (rw [if_pos (by omega)]; done) | (rw [if_neg (by omega), if_pos (by omega)]; done) | (rw [if_neg (by omega), if_neg (by omega)])), rfl, rfl, rfl⟩
    · refine g_aload_n hΓ rfl dX0_fault_16 ?_
      refine x_geti (c := 0) hE hΓ in_X0 rfl hp.1 ⟨by decide, rfl⟩ 8 (ji := 8) rfl (by decide) (by decide) rfl q254 rfl rfl dX0_fault_17 ?_
      refine g_topi (hpd.2.2.2.1.2) ?_
      refine g_goto (tgt := 24) hΓ dX0_fault_20 (by decide) ?_
      exact x_iret hΓ dX0_fault_24 (Nat.zero_le _) (Nat.zero_le _) ⟨ri (by first | (rw [if_pos (by omega)]; done) | (rw [if_neg (by omega), if_pos (by omega)]; done) | (rw [if_neg (by omega), if_neg (by omega)])), rfl, rfl, rfl⟩
  · refine g_aload_n hΓ rfl dX0_fault_4 ?_
    refine x_geti (c := 0) hE hΓ in_X0 rfl hp.1 ⟨by decide, rfl⟩ 7 (ji := 7) rfl (by decide) (by decide) rfl q253 rfl rfl dX0_fault_5 ?_
    refine g_topi (hpd.2.2.2.1.1) ?_
    refine g_goto (tgt := 24) hΓ dX0_fault_8 (by decide) ?_
    exact x_iret hΓ dX0_fault_24 (Nat.zero_le _) (Nat.zero_le _) ⟨ri (by first | (rw [if_pos (by omega)]; done) | (rw [if_neg (by omega), if_pos (by omega)]; done) | (rw [if_neg (by omega), if_neg (by omega)])), rfl, rfl, rfl⟩
set_option maxHeartbeats 4000000 in
theorem x_X0_status {l : Launch} {E : gE} {X : State → Prop} {Z : Nat → Nat} {Y : Nat → Option Nat} (hE : E.2.1 = clsX) (hX : xOK l E X Z Y) (S : xS) (D : xD) (R : xR) (P : xPk) (σ : mS) (w : Int) (hx : Rx E Z S D R P σ) (hw : r32 w) : xC l E X yX0_status cX0_status 2 (some .int) 1 0 0 [.ref (P.1), .int (iI w)] S D R (fun rv S' D' R' => rv = some (.int (iI (if 0 ≤ w ∧ w ≤ 5 then σ 13 w else -1))) ∧ S' = S ∧ D' = D ∧ R' = R) := by
  refine xC.of hX.1 (by decide) [some (.ref (P.1)), some (.int (iI w))] (Nat.le_of_ble_eq_true rfl) rfl rfl (fun Γ hΓ => ?_)
  obtain ⟨hg, hp, hki, hro, hnw, hbh, hsa, hpd⟩ := id hx
  obtain ⟨N, NI, NM, NV, hN⟩ := (hx).now
  have hAw := hg.2.2.2.2.2.2
  have hG : GS S D R := hg.1
  obtain ⟨h1000, h1009, h1042, h1043, h1044, h1045, h1046, h1047, hms, hsi, hsm, hnm⟩ := id hro
  have eN := hN.2.2.2.2.2.2.2.2.2.2.2.2
  have kNV : (S NV).1 = 45 := by rw [hN.2.2.2.1.2]
  have nNV : (S NV).2.1 = 6 := by rw [hN.2.2.2.1.2]
  refine g_iload_n hΓ rfl dX0_status_0 ?_
  refine g_i2l hΓ (by omega) dX0_status_1 ?_
  refine g_lconst (a := 0) hΓ rfl dX0_status_2 ?_
  refine g_ldc2 (n := 5) hΓ rfl q386 (by decide) dX0_status_3 ?_
  refine x_callS (As := [.long (lI w), .long (lI 0), .long (lI 5)]) (rest := []) hΓ (x_X0_isIn hE hX S D R w 0 5 (by first | assumption | omega) (by first | assumption | omega) (by first | assumption | omega)) rfl q387 q388 q123 q389 ndX0_isIn rfl (by decide) (by decide) (Nat.zero_le _) (Nat.zero_le _) rfl (Nat.le_of_ble_eq_true rfl) dX0_status_6 rfl (fun v1 S1 τ1 ρ1 h1 => ?_)
  obtain ⟨rfl, S1e, τ1e, ρ1e⟩ := h1
  have S1e := S1e.symm; subst S1e
  have τ1e := τ1e.symm; subst τ1e
  have ρ1e := ρ1e.symm; subst ρ1e
  show gW Γ E (xM E S D R) _ _ _ _ (.int (iI (if 0 ≤ w ∧ w ≤ 5 then 1 else 0)) :: _)
  refine g_ifB_eq (tgt := 21) hΓ  dX0_status_9 (by decide) (fun c2 => ?_) (fun c2 => ?_)
  · refine g_iconst hΓ dX0_status_21 ?_
    exact x_iret hΓ dX0_status_22 (Nat.zero_le _) (Nat.zero_le _) ⟨ri (by first | (rw [if_pos (by omega)]; done) | (rw [if_neg (by omega)])), rfl, rfl, rfl⟩
  · refine g_aload_n hΓ rfl dX0_status_12 ?_
    refine x_geta (r := some (P.2.1 2)) (c := 0) hE hΓ in_X0 rfl hp.1 ⟨by decide, rfl⟩ 2 (ji := 2) rfl (by decide) (by decide) rfl q247 rfl rfl (pA_r hp 2 rfl rfl) dX0_status_13 ?_
    show gW Γ E (xM E S D R) 0 0 _ _ (.ref (P.2.1 2) :: _)
    refine g_iload_n hΓ rfl dX0_status_16 ?_
    refine x_iald hΓ (pA_k hp 2 rfl (n := 52) rfl) (pA_n hp 2 rfl (n := 6) rfl) ⟨by decide, rfl⟩ (by omega) (by omega) dX0_status_17 ?_
    refine g_topi ((hpd.2.2.1 w (by omega) (by omega))) ?_
    refine g_goto (tgt := 22) hΓ dX0_status_18 (by decide) ?_
    exact x_iret hΓ dX0_status_22 (Nat.zero_le _) (Nat.zero_le _) ⟨ri (by first | (rw [if_pos (by omega)]; done) | (rw [if_neg (by omega)])), rfl, rfl, rfl⟩
set_option maxHeartbeats 4000000 in
theorem x_X0_strokesOf {l : Launch} {E : gE} {X : State → Prop} {Z : Nat → Nat} {Y : Nat → Option Nat} (hE : E.2.1 = clsX) (hX : xOK l E X Z Y) (S : xS) (D : xD) (R : xR) (P : xPk) (σ : mS) (m : Int) (hx : Rx E Z S D R P σ) (hm : r32 m) (hm : isL σ m) : xC l E X yX0_strokesOf cX0_strokesOf 2 (some (.object "java/util/ArrayList")) 4 0 0 [.ref (P.1), .int (iI m)] S D R (fun rv S' D' R' => rv = some (.ref (lsA R (rf R P.1 4) m)) ∧ S' = S ∧ D' = D ∧ R' = R) := by
  refine xC.of hX.1 (by decide) [some (.ref (P.1)), some (.int (iI m))] (Nat.le_of_ble_eq_true rfl) rfl rfl (fun Γ hΓ => ?_)
  obtain ⟨hg, hp, hki, hro, hnw, hbh, hsa, hpd⟩ := id hx
  obtain ⟨N, NI, NM, NV, hN⟩ := (hx).now
  have hAw := hg.2.2.2.2.2.2
  have hG : GS S D R := hg.1
  obtain ⟨h1000, h1009, h1042, h1043, h1044, h1045, h1046, h1047, hms, hsi, hsm, hnm⟩ := id hro
  have eN := hN.2.2.2.2.2.2.2.2.2.2.2.2
  have kNV : (S NV).1 = 45 := by rw [hN.2.2.2.1.2]
  have nNV : (S NV).2.1 = 6 := by rw [hN.2.2.2.1.2]
  refine g_iload_n hΓ rfl dX0_strokesOf_0 ?_
  refine g_iconst hΓ dX0_strokesOf_1 ?_
  refine g_icmp_ne (tgt := 15) hΓ (by omega) (by omega) dX0_strokesOf_2 (by decide) (fun c1 => ?_) (fun c1 => ?_)
  · refine g_aload_n hΓ rfl dX0_strokesOf_15 ?_
    refine x_geta (r := some N) (c := 0) hE hΓ in_X0 rfl hp.1 ⟨by decide, rfl⟩ 4 (ji := 4) rfl (by decide) (by decide) rfl q250 rfl rfl hN.1.1 dX0_strokesOf_16 ?_
    show gW Γ E (xM E S D R) 0 0 _ _ (.ref N :: _)
    refine x_geta (r := some NM) (c := 1) hE hΓ in_X1 rfl hN.1.2 ⟨by decide, rfl⟩ 0 (ji := 0) rfl (by decide) (by decide) rfl q197 rfl rfl hN.2.1.1 dX0_strokesOf_19 ?_
    show gW Γ E (xM E S D R) 0 0 _ _ (.ref NM :: _)
    refine g_iload_n hΓ rfl dX0_strokesOf_22 ?_
    obtain ⟨b2, kb2, hbr2, hbe2, hbk2, hbq2, hbc2⟩ := lsOK_b (hg.2.1 NM (by rw [hN.2.1.2]; decide) (by rw [hN.2.1.2]; decide)) (by rw [hN.2.1.2]; decide)
    have he3 := lsOK_e (hg.2.1 NM (by rw [hN.2.1.2]; decide) (by rw [hN.2.1.2]; decide)) hbe2 (i := m) (by have := hN.2.2.2.2.2.1; omega)
    have hk3 : (S (lE R NM m)).1 = 7 := by rw [he3.2, hN.2.1.2]; rfl
    have hl4 := hg.2.2.2.1 (lE R NM m) hk3
    have hz6 : D NM 2 = σ 0 1000 := hN.2.2.2.2.2.1
    refine x_callV (As := [.int (iI m)]) (rest := []) (c := 10) hE hΓ (x_J2_get hE hX S D R NM b2 (lE R NM m) 11 kb2 ((S b2).2.1) m hN.2.1.2 (by decide) hbr2 hbk2 hbq2 rfl (by omega) (by omega) he3.1 ) hN.2.1.2 ⟨by decide, rfl⟩ rfl rfl q857 q858 q859 q127 q860 ndJ2_get rfl (by decide) (by decide) (Nat.zero_le _) (Nat.zero_le _) rfl (Nat.le_of_ble_eq_true rfl) dX0_strokesOf_23 rfl (fun v5 S5 τ5 ρ5 h5 => ?_)
    obtain ⟨rfl, S5e, τ5e, ρ5e⟩ := h5
    have S5e := S5e.symm; subst S5e
    have τ5e := τ5e.symm; subst τ5e
    have ρ5e := ρ5e.symm; subst ρ5e
    show gW Γ E (xM E S D R) _ _ _ _ (.ref (lE R NM m) :: _)
    refine x_castS (c := 7) hE hΓ rfl q871 hk3 ⟨by decide, rfl⟩ rfl dX0_strokesOf_26 ?_
    refine x_geta (r := some (rf R (lE R NM m) 1)) (c := 7) hE hΓ in_X7 rfl hk3 ⟨by decide, rfl⟩ 1 (ji := 1) rfl (by decide) (by decide) rfl q769 rfl rfl hl4.2.2.1 dX0_strokesOf_29 ?_
    show gW Γ E (xM E S D R) 0 0 _ _ (.ref (rf R (lE R NM m) 1) :: _)
    exact x_aret hΓ (Or.inl ⟨_, rfl⟩) (Or.inr ⟨_, rfl⟩) dX0_strokesOf_32 (Nat.zero_le _) (Nat.zero_le _) ⟨(by rw [lsA, if_neg (by omega), ← eN.1, ← eN.2.1]), rfl, rfl, rfl⟩
  · refine g_aload_n hΓ rfl dX0_strokesOf_5 ?_
    refine x_geta (r := some N) (c := 0) hE hΓ in_X0 rfl hp.1 ⟨by decide, rfl⟩ 4 (ji := 4) rfl (by decide) (by decide) rfl q250 rfl rfl hN.1.1 dX0_strokesOf_6 ?_
    show gW Γ E (xM E S D R) 0 0 _ _ (.ref N :: _)
    refine x_geta (r := some NI) (c := 1) hE hΓ in_X1 rfl hN.1.2 ⟨by decide, rfl⟩ 1 (ji := 1) rfl (by decide) (by decide) rfl q200 rfl rfl hN.2.2.1.1 dX0_strokesOf_9 ?_
    show gW Γ E (xM E S D R) 0 0 _ _ (.ref NI :: _)
    refine g_goto (tgt := 32) hΓ dX0_strokesOf_12 (by decide) ?_
    exact x_aret hΓ (Or.inl ⟨_, rfl⟩) (Or.inr ⟨_, rfl⟩) dX0_strokesOf_32 (Nat.zero_le _) (Nat.zero_le _) ⟨(by rw [lsA, if_pos (by omega), ← eN.1, ← eN.2.2.1]), rfl, rfl, rfl⟩
