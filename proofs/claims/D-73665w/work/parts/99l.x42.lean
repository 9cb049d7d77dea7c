set_option maxRecDepth 100000
set_option maxHeartbeats 4000000 in
theorem x_X0_lift {l : Launch} {E : gE} {X : State → Prop} {Z : Nat → Nat} {Y : Nat → Option Nat} (hE : E.2.1 = clsX) (hX : xOK l E X Z Y) (S : xS) (D : xD) (R : xR) (P : xPk) (σ : mS) (k : Int) (hx : Rx E Z S D R P σ) (hk : r32 k) : xC l E X yX0_lift cX0_lift 2 (some .boolean) 8 9 215 [.ref (P.1), .int (iI k)] S D R (fun rv S' D' R' => rv = some (.int (iI (if 0 ≤ k ∧ k < σ 0 1009 then 1 else 0))) ∧ (Rx E Z S' D' R' P (if 0 ≤ k ∧ k < σ 0 1009 then rowS (remS σ) (lifF (σ 0) k) else (us σ 13 2 (σ 13 2 + 1)))) ∧ sle S S') := by
  refine xC.of hX.1 (by decide) [some (.ref (P.1)), some (.int (iI k))] (Nat.le_of_ble_eq_true rfl) rfl rfl (fun Γ hΓ => ?_)
  obtain ⟨hg, hp, hki, hro, hnw, hbh, hsa, hpd⟩ := id hx
  obtain ⟨N, NI, NM, NV, hN⟩ := (hx).now
  have hAw := hg.2.2.2.2.2.2
  have hG : GS S D R := hg.1
  obtain ⟨h1000, h1009, h1042, h1043, h1044, h1045, h1046, h1047, hms, hsi, hsm, hnm⟩ := id hro
  have eN := hN.2.2.2.2.2.2.2.2.2.2.2.2
  have kNV : (S NV).1 = 45 := by rw [hN.2.2.2.1.2]
  have nNV : (S NV).2.1 = 6 := by rw [hN.2.2.2.1.2]
  refine g_iload_n hΓ rfl dX0_lift_0 ?_
  refine g_i2l hΓ (by omega) dX0_lift_1 ?_
  refine g_lconst (a := 0) hΓ rfl dX0_lift_2 ?_
  refine g_aload_n hΓ rfl dX0_lift_3 ?_
  refine x_geta (r := some N) (c := 0) hE hΓ in_X0 rfl hp.1 ⟨by decide, rfl⟩ 4 (ji := 4) rfl (by decide) (by decide) rfl q250 rfl rfl hN.1.1 dX0_lift_4 ?_
  show gW Γ E (xM E S D R) 0 0 _ _ (.ref N :: _)
  refine x_geta (r := some NI) (c := 1) hE hΓ in_X1 rfl hN.1.2 ⟨by decide, rfl⟩ 1 (ji := 1) rfl (by decide) (by decide) rfl q200 rfl rfl hN.2.2.1.1 dX0_lift_7 ?_
  show gW Γ E (xM E S D R) 0 0 _ _ (.ref NI :: _)
  refine x_callV (As := []) (rest := [.long (lI 0), .long (lI k)]) (c := 10) hE hΓ (x_J2_size hE hX S D R NI 10 hN.2.2.1.2 (by decide) ) hN.2.2.1.2 ⟨by decide, rfl⟩ rfl rfl q845 q662 q663 q127 q664 ndJ2_size rfl (by decide) (by decide) (Nat.zero_le _) (Nat.zero_le _) rfl (Nat.le_of_ble_eq_true rfl) dX0_lift_10 rfl (fun v1 S1 τ1 ρ1 h1 => ?_)
  obtain ⟨rfl, S1e, τ1e, ρ1e⟩ := h1
  have S1e := S1e.symm; subst S1e
  have τ1e := τ1e.symm; subst τ1e
  have ρ1e := ρ1e.symm; subst ρ1e
  refine g_topi (hN.2.2.2.2.1) ?_
  show gW Γ E (xM E S D R) _ _ _ _ (.int (iI (σ 0 1009)) :: _)
  refine g_iconst hΓ dX0_lift_13 ?_
  refine g_isub hΓ dX0_lift_14 ?_
  refine g_i2l hΓ (by omega) dX0_lift_15 ?_
  refine x_callS (As := [.long (lI k), .long (lI 0), .long (lI ((σ 0 1009) - 1))]) (rest := []) hΓ (x_X0_isIn hE hX S D R k 0 ((σ 0 1009) - 1) (by first | assumption | omega) (by first | assumption | omega) (by first | assumption | omega)) rfl q387 q388 q123 q389 ndX0_isIn rfl (by decide) (by decide) (Nat.zero_le _) (Nat.zero_le _) rfl (Nat.le_of_ble_eq_true rfl) dX0_lift_16 rfl (fun v2 S2 τ2 ρ2 h2 => ?_)
  obtain ⟨rfl, S2e, τ2e, ρ2e⟩ := h2
  have S2e := S2e.symm; subst S2e
  have τ2e := τ2e.symm; subst τ2e
  have ρ2e := ρ2e.symm; subst ρ2e
  show gW Γ E (xM E S D R) _ _ _ _ (.int (iI (if 0 ≤ k ∧ k ≤ ((σ 0 1009) - 1) then 1 else 0)) :: _)
  refine g_ifB_ne (tgt := 28) hΓ  dX0_lift_19 (by decide) (fun c3 => ?_) (fun c3 => ?_)
  · refine g_aload_n hΓ rfl dX0_lift_28 ?_
    refine x_callV (As := []) (rest := []) (c := 0) hE hΓ (x_X0_keeps hE hX S D R P σ  hx  ) hp.1 ⟨by decide, rfl⟩ rfl rfl q1264 q1266 qs51 q123 q1267 ndX0_keeps rfl (by decide) (by decide) (by omega) (by omega) rfl (Nat.le_of_ble_eq_true rfl) dX0_lift_29 rfl (fun v4 S4 τ4 ρ4 h4 => ?_)
    obtain ⟨rfl, h4, S4f⟩ := h4
    have kd5 : (S4 (P.1)).1 = 1 := kup hp.1 (by decide) S4f
    have kd6 : (S4 N).1 = 2 := kup hN.1.2 (by decide) S4f
    have kd7 : (S4 NI).1 = 10 := kup hN.2.2.1.2 (by decide) S4f
    have kd8 : (S4 NM).1 = 11 := kup hN.2.1.2 (by decide) S4f
    have kd9 : (S4 NV).1 = 45 := kup kNV (by decide) S4f
    have ln9 : (S4 NV).2.1 = 6 := nup kNV (by decide) nNV S4f
    have hx1 := h4.1
    have e3k := h4.2
    obtain ⟨hg, hp, hki, hro0, hnw, hbh, hsa, hpd⟩ := id hx1
    have hro : rowOK (σ 0) := hro0
    obtain ⟨N, NI, NM, NV, hN0⟩ := (hx1).now
    have hN : nowF S4 τ4 ρ4 P σ N NI NM NV := hN0
    have hAw := hg.2.2.2.2.2.2
    have hG : GS S4 τ4 ρ4 := hg.1
    obtain ⟨h1000, h1009, h1042, h1043, h1044, h1045, h1046, h1047, hms, hsi, hsm, hnm⟩ := id hro
    have eN := hN.2.2.2.2.2.2.2.2.2.2.2.2
    have kNV : (S4 NV).1 = 45 := by rw [hN.2.2.2.1.2]
    have nNV : (S4 NV).2.1 = 6 := by rw [hN.2.2.2.1.2]
    have eNI : NI = rf ρ4 (rf ρ4 P.1 4) 1 := by rw [eN.2.2.1, eN.1]
    have eNM : NM = rf ρ4 (rf ρ4 P.1 4) 0 := by rw [eN.2.1, eN.1]
    have eNV : NV = rf ρ4 (rf ρ4 P.1 4) 2 := by rw [eN.2.2.2, eN.1]
    refine g_aload_n hΓ rfl dX0_lift_32 ?_
    refine x_geta (r := some N) (c := 0) hE hΓ in_X0 rfl hp.1 ⟨by decide, rfl⟩ 4 (ji := 4) rfl (by decide) (by decide) rfl q250 rfl rfl hN.1.1 dX0_lift_33 ?_
    show gW Γ E (xM E S4 τ4 ρ4) (0 + 9) (0 + 215) _ _ (.ref N :: _)
    refine x_geta (r := some NI) (c := 1) hE hΓ in_X1 rfl hN.1.2 ⟨by decide, rfl⟩ 1 (ji := 1) rfl (by decide) (by decide) rfl q200 rfl rfl hN.2.2.1.1 dX0_lift_36 ?_
    show gW Γ E (xM E S4 τ4 ρ4) (0 + 9) (0 + 215) _ _ (.ref NI :: _)
    refine g_iload_n hΓ rfl dX0_lift_39 ?_
    have hz11 : τ4 NI 2 = σ 0 1009 := hN.2.2.2.2.1
    refine x_callV (As := [.int (iI k)]) (rest := []) (c := 10) hE hΓ (x_J2_remove hE hX S4 τ4 ρ4 NI 10 k hN.2.2.1.2 (by decide) (hx1).1 (by omega) ) hN.2.2.1.2 ⟨by decide, rfl⟩ rfl rfl q1250 q1251 q1252 q127 q1253 ndJ2_remove rfl (by decide) (by decide) (by omega) (by omega) rfl (Nat.le_of_ble_eq_true rfl) dX0_lift_40 rfl (fun v10 S10 τ10 ρ10 h10 => ?_)
    obtain ⟨rfl, h10, S10e⟩ := h10
    have S10e := S10e.symm; subst S10e
    rw [eNI] at h10
    have hxf := act_lift hx1 (k := k) (show 0 ≤ k ∧ k < σ 0 1009 by omega) h10
    show gW Γ E (xM E S4 τ10 ρ10) _ _ _ _ (.ref (lE ρ4 NI k) :: _)
    refine g_pop hΓ rfl dX0_lift_43 ?_
    refine g_iconst hΓ dX0_lift_44 ?_
    exact x_zret hΓ (by omega) dX0_lift_45 (by omega) (by omega) ⟨ri (by rw [if_pos (by omega)]), (by rw [if_pos (by omega)]; exact hxf), S4f⟩
  · refine g_aload_n hΓ rfl dX0_lift_22 ?_
    refine g_iconst hΓ dX0_lift_23 ?_
    refine x_callV (As := [.int (iI 2)]) (rest := []) (c := 0) hE hΓ (x_X0_refuses hE hX S D R P σ 2 hx (by first | assumption | omega) ) hp.1 ⟨by decide, rfl⟩ rfl rfl q378 q380 qs4 q123 q381 ndX0_refuses rfl (by decide) (by decide) (Nat.zero_le _) (Nat.zero_le _) rfl (Nat.le_of_ble_eq_true rfl) dX0_lift_24 rfl (fun v12 S12 τ12 ρ12 h12 => ?_)
    obtain ⟨rfl, h12, S12e, τ12f, ρ12e⟩ := h12
    have S12e := S12e.symm; subst S12e
    have ρ12e := ρ12e.symm; subst ρ12e
    show gW Γ E (xM E S τ12 R) _ _ _ _ (.int (iI 0) :: _)
    exact x_zret hΓ (by omega) dX0_lift_27 (Nat.zero_le _) (Nat.zero_le _) ⟨ri (by rw [if_neg (by omega)]), (by rw [if_neg (by omega)]; exact h12), (fun q h => rfl)⟩
set_option maxHeartbeats 4000000 in
theorem x_X0_clear {l : Launch} {E : gE} {X : State → Prop} {Z : Nat → Nat} {Y : Nat → Option Nat} (hE : E.2.1 = clsX) (hX : xOK l E X Z Y) (S : xS) (D : xD) (R : xR) (P : xPk) (σ : mS)  (hx : Rx E Z S D R P σ) : xC l E X yX0_clear cX0_clear 2 (some .int) 8 9 215 [.ref (P.1)] S D R (fun rv S' D' R' => rv = some (.int (iI (if ¬ σ 0 1009 = 0 then σ 0 1009 else -1))) ∧ (Rx E Z S' D' R' P (if ¬ σ 0 1009 = 0 then rowS (remS σ) (up (σ 0) 1009 0) else (us σ 13 2 (σ 13 2 + 1)))) ∧ sle S S') := by
  refine xC.of hX.1 (by decide) [some (.ref (P.1)), none] (Nat.le_of_ble_eq_true rfl) rfl rfl (fun Γ hΓ => ?_)
  obtain ⟨hg, hp, hki, hro, hnw, hbh, hsa, hpd⟩ := id hx
  obtain ⟨N, NI, NM, NV, hN⟩ := (hx).now
  have hAw := hg.2.2.2.2.2.2
  have hG : GS S D R := hg.1
  obtain ⟨h1000, h1009, h1042, h1043, h1044, h1045, h1046, h1047, hms, hsi, hsm, hnm⟩ := id hro
  have eN := hN.2.2.2.2.2.2.2.2.2.2.2.2
  have kNV : (S NV).1 = 45 := by rw [hN.2.2.2.1.2]
  have nNV : (S NV).2.1 = 6 := by rw [hN.2.2.2.1.2]
  refine g_aload_n hΓ rfl dX0_clear_0 ?_
  refine x_geta (r := some N) (c := 0) hE hΓ in_X0 rfl hp.1 ⟨by decide, rfl⟩ 4 (ji := 4) rfl (by decide) (by decide) rfl q250 rfl rfl hN.1.1 dX0_clear_1 ?_
  show gW Γ E (xM E S D R) 0 0 _ _ (.ref N :: _)
  refine x_geta (r := some NI) (c := 1) hE hΓ in_X1 rfl hN.1.2 ⟨by decide, rfl⟩ 1 (ji := 1) rfl (by decide) (by decide) rfl q200 rfl rfl hN.2.2.1.1 dX0_clear_4 ?_
  show gW Γ E (xM E S D R) 0 0 _ _ (.ref NI :: _)
  refine x_callV (As := []) (rest := []) (c := 10) hE hΓ (x_J2_size hE hX S D R NI 10 hN.2.2.1.2 (by decide) ) hN.2.2.1.2 ⟨by decide, rfl⟩ rfl rfl q845 q662 q663 q127 q664 ndJ2_size rfl (by decide) (by decide) (Nat.zero_le _) (Nat.zero_le _) rfl (Nat.le_of_ble_eq_true rfl) dX0_clear_7 rfl (fun v1 S1 τ1 ρ1 h1 => ?_)
  obtain ⟨rfl, S1e, τ1e, ρ1e⟩ := h1
  have S1e := S1e.symm; subst S1e
  have τ1e := τ1e.symm; subst τ1e
  have ρ1e := ρ1e.symm; subst ρ1e
  refine g_topi (hN.2.2.2.2.1) ?_
  show gW Γ E (xM E S D R) _ _ _ _ (.int (iI (σ 0 1009)) :: _)
  refine g_istore_n hΓ dX0_clear_10 rfl (Nat.le_of_ble_eq_true rfl) (lv' := [some (.ref (P.1)), some (.int (iI (σ 0 1009)))]) rfl ?_
  refine g_iload_n hΓ rfl dX0_clear_11 ?_
  refine g_if_ne (tgt := 21) hΓ (by omega) dX0_clear_12 (by decide) (fun c2 => ?_) (fun c2 => ?_)
  · refine g_aload_n hΓ rfl dX0_clear_21 ?_
    refine x_callV (As := []) (rest := []) (c := 0) hE hΓ (x_X0_keeps hE hX S D R P σ  hx  ) hp.1 ⟨by decide, rfl⟩ rfl rfl q1264 q1266 qs51 q123 q1267 ndX0_keeps rfl (by decide) (by decide) (by omega) (by omega) rfl (Nat.le_of_ble_eq_true rfl) dX0_clear_22 rfl (fun v3 S3 τ3 ρ3 h3 => ?_)
    obtain ⟨rfl, h3, S3f⟩ := h3
    have kd4 : (S3 (P.1)).1 = 1 := kup hp.1 (by decide) S3f
    have kd5 : (S3 N).1 = 2 := kup hN.1.2 (by decide) S3f
    have kd6 : (S3 NI).1 = 10 := kup hN.2.2.1.2 (by decide) S3f
    have kd7 : (S3 NM).1 = 11 := kup hN.2.1.2 (by decide) S3f
    have kd8 : (S3 NV).1 = 45 := kup kNV (by decide) S3f
    have ln8 : (S3 NV).2.1 = 6 := nup kNV (by decide) nNV S3f
    have hx1 := h3.1
    have e3k := h3.2
    obtain ⟨hg, hp, hki, hro0, hnw, hbh, hsa, hpd⟩ := id hx1
    have hro : rowOK (σ 0) := hro0
    obtain ⟨N, NI, NM, NV, hN0⟩ := (hx1).now
    have hN : nowF S3 τ3 ρ3 P σ N NI NM NV := hN0
    have hAw := hg.2.2.2.2.2.2
    have hG : GS S3 τ3 ρ3 := hg.1
    obtain ⟨h1000, h1009, h1042, h1043, h1044, h1045, h1046, h1047, hms, hsi, hsm, hnm⟩ := id hro
    have eN := hN.2.2.2.2.2.2.2.2.2.2.2.2
    have kNV : (S3 NV).1 = 45 := by rw [hN.2.2.2.1.2]
    have nNV : (S3 NV).2.1 = 6 := by rw [hN.2.2.2.1.2]
    have eNI : NI = rf ρ3 (rf ρ3 P.1 4) 1 := by rw [eN.2.2.1, eN.1]
    have eNM : NM = rf ρ3 (rf ρ3 P.1 4) 0 := by rw [eN.2.1, eN.1]
    have eNV : NV = rf ρ3 (rf ρ3 P.1 4) 2 := by rw [eN.2.2.2, eN.1]
    refine g_aload_n hΓ rfl dX0_clear_25 ?_
    refine x_geta (r := some N) (c := 0) hE hΓ in_X0 rfl hp.1 ⟨by decide, rfl⟩ 4 (ji := 4) rfl (by decide) (by decide) rfl q250 rfl rfl hN.1.1 dX0_clear_26 ?_
    show gW Γ E (xM E S3 τ3 ρ3) (0 + 9) (0 + 215) _ _ (.ref N :: _)
    refine x_geta (r := some NI) (c := 1) hE hΓ in_X1 rfl hN.1.2 ⟨by decide, rfl⟩ 1 (ji := 1) rfl (by decide) (by decide) rfl q200 rfl rfl hN.2.2.1.1 dX0_clear_29 ?_
    show gW Γ E (xM E S3 τ3 ρ3) (0 + 9) (0 + 215) _ _ (.ref NI :: _)
    refine x_callV (As := []) (rest := []) (c := 10) hE hΓ (x_J2_clear hE hX S3 τ3 ρ3 NI 10 hN.2.2.1.2 (by decide) (hx1).1 ) hN.2.2.1.2 ⟨by decide, rfl⟩ rfl rfl q829 q830 q831 q127 q832 ndJ2_clear rfl (by decide) (by decide) (by omega) (by omega) rfl (Nat.le_of_ble_eq_true rfl) dX0_clear_32 rfl (fun v9 S9 τ9 ρ9 h9 => ?_)
    obtain ⟨rfl, h9, S9e⟩ := h9
    have S9e := S9e.symm; subst S9e
    rw [eNI] at h9
    have hxf := act_clear hx1 h9
    refine g_iload_n hΓ rfl dX0_clear_35 ?_
    exact x_iret hΓ dX0_clear_36 (by omega) (by omega) ⟨ri (by rw [if_pos (by omega)]), (by rw [if_pos (by omega)]; exact hxf), S3f⟩
  · refine g_aload_n hΓ rfl dX0_clear_15 ?_
    refine g_iconst hΓ dX0_clear_16 ?_
    refine x_callV (As := [.int (iI 2)]) (rest := []) (c := 0) hE hΓ (x_X0_refused hE hX S D R P σ 2 hx (by first | assumption | omega) ) hp.1 ⟨by decide, rfl⟩ rfl rfl q366 q368 qs2 q123 q369 ndX0_refused rfl (by decide) (by decide) (Nat.zero_le _) (Nat.zero_le _) rfl (Nat.le_of_ble_eq_true rfl) dX0_clear_17 rfl (fun v10 S10 τ10 ρ10 h10 => ?_)
    obtain ⟨rfl, h10, S10e, τ10f, ρ10e⟩ := h10
    have S10e := S10e.symm; subst S10e
    have ρ10e := ρ10e.symm; subst ρ10e
    show gW Γ E (xM E S τ10 R) _ _ _ _ (.int (iI (-1)) :: _)
    exact x_iret hΓ dX0_clear_20 (Nat.zero_le _) (Nat.zero_le _) ⟨ri (by rw [if_neg (by omega)]), (by rw [if_neg (by omega)]; exact h10), (fun q h => rfl)⟩
set_option maxHeartbeats 4000000 in
theorem x_X0_forget {l : Launch} {E : gE} {X : State → Prop} {Z : Nat → Nat} {Y : Nat → Option Nat} (hE : E.2.1 = clsX) (hX : xOK l E X Z Y) (S : xS) (D : xD) (R : xR) (P : xPk) (σ : mS) (k : Int) (hx : Rx E Z S D R P σ) (hk : r32 k) : xC l E X yX0_forget cX0_forget 2 (some .boolean) 8 9 215 [.ref (P.1), .int (iI k)] S D R (fun rv S' D' R' => rv = some (.int (iI (if 0 ≤ k ∧ k < σ 0 1000 then 1 else 0))) ∧ (Rx E Z S' D' R' P (if 0 ≤ k ∧ k < σ 0 1000 then rowS (remS σ) (foF (σ 0) k) else (us σ 13 3 (σ 13 3 + 1)))) ∧ sle S S') := by
  refine xC.of hX.1 (by decide) [some (.ref (P.1)), some (.int (iI k))] (Nat.le_of_ble_eq_true rfl) rfl rfl (fun Γ hΓ => ?_)
  obtain ⟨hg, hp, hki, hro, hnw, hbh, hsa, hpd⟩ := id hx
  obtain ⟨N, NI, NM, NV, hN⟩ := (hx).now
  have hAw := hg.2.2.2.2.2.2
  have hG : GS S D R := hg.1
  obtain ⟨h1000, h1009, h1042, h1043, h1044, h1045, h1046, h1047, hms, hsi, hsm, hnm⟩ := id hro
  have eN := hN.2.2.2.2.2.2.2.2.2.2.2.2
  have kNV : (S NV).1 = 45 := by rw [hN.2.2.2.1.2]
  have nNV : (S NV).2.1 = 6 := by rw [hN.2.2.2.1.2]
  refine g_aload_n hΓ rfl dX0_forget_0 ?_
  refine g_iload_n hΓ rfl dX0_forget_1 ?_
  refine x_callV (As := [.int (iI k)]) (rest := []) (c := 0) hE hΓ (x_X0_isModel hE hX S D R P σ k hx (by first | assumption | omega) ) hp.1 ⟨by decide, rfl⟩ rfl rfl q852 q854 qs22 q123 q855 ndX0_isModel rfl (by decide) (by decide) (Nat.zero_le _) (Nat.zero_le _) rfl (Nat.le_of_ble_eq_true rfl) dX0_forget_2 rfl (fun v1 S1 τ1 ρ1 h1 => ?_)
  obtain ⟨rfl, S1e, τ1e, ρ1e⟩ := h1
  have S1e := S1e.symm; subst S1e
  have τ1e := τ1e.symm; subst τ1e
  have ρ1e := ρ1e.symm; subst ρ1e
  show gW Γ E (xM E S D R) _ _ _ _ (.int (iI (if 0 ≤ k ∧ k < σ 0 1000 then 1 else 0)) :: _)
  refine g_ifB_ne (tgt := 14) hΓ  dX0_forget_5 (by decide) (fun c2 => ?_) (fun c2 => ?_)
  · refine g_aload_n hΓ rfl dX0_forget_14 ?_
    refine x_callV (As := []) (rest := []) (c := 0) hE hΓ (x_X0_keeps hE hX S D R P σ  hx  ) hp.1 ⟨by decide, rfl⟩ rfl rfl q1264 q1266 qs51 q123 q1267 ndX0_keeps rfl (by decide) (by decide) (by omega) (by omega) rfl (Nat.le_of_ble_eq_true rfl) dX0_forget_15 rfl (fun v3 S3 τ3 ρ3 h3 => ?_)
    obtain ⟨rfl, h3, S3f⟩ := h3
    have kd4 : (S3 (P.1)).1 = 1 := kup hp.1 (by decide) S3f
    have kd5 : (S3 N).1 = 2 := kup hN.1.2 (by decide) S3f
    have kd6 : (S3 NI).1 = 10 := kup hN.2.2.1.2 (by decide) S3f
    have kd7 : (S3 NM).1 = 11 := kup hN.2.1.2 (by decide) S3f
    have kd8 : (S3 NV).1 = 45 := kup kNV (by decide) S3f
    have ln8 : (S3 NV).2.1 = 6 := nup kNV (by decide) nNV S3f
    have hx1 := h3.1
    have e3k := h3.2
    obtain ⟨hg, hp, hki, hro0, hnw, hbh, hsa, hpd⟩ := id hx1
    have hro : rowOK (σ 0) := hro0
    obtain ⟨N, NI, NM, NV, hN0⟩ := (hx1).now
    have hN : nowF S3 τ3 ρ3 P σ N NI NM NV := hN0
    have hAw := hg.2.2.2.2.2.2
    have hG : GS S3 τ3 ρ3 := hg.1
    obtain ⟨h1000, h1009, h1042, h1043, h1044, h1045, h1046, h1047, hms, hsi, hsm, hnm⟩ := id hro
    have eN := hN.2.2.2.2.2.2.2.2.2.2.2.2
    have kNV : (S3 NV).1 = 45 := by rw [hN.2.2.2.1.2]
    have nNV : (S3 NV).2.1 = 6 := by rw [hN.2.2.2.1.2]
    have eNI : NI = rf ρ3 (rf ρ3 P.1 4) 1 := by rw [eN.2.2.1, eN.1]
    have eNM : NM = rf ρ3 (rf ρ3 P.1 4) 0 := by rw [eN.2.1, eN.1]
    have eNV : NV = rf ρ3 (rf ρ3 P.1 4) 2 := by rw [eN.2.2.2, eN.1]
    refine g_aload_n hΓ rfl dX0_forget_18 ?_
    refine x_geta (r := some N) (c := 0) hE hΓ in_X0 rfl hp.1 ⟨by decide, rfl⟩ 4 (ji := 4) rfl (by decide) (by decide) rfl q250 rfl rfl hN.1.1 dX0_forget_19 ?_
    show gW Γ E (xM E S3 τ3 ρ3) (0 + 9) (0 + 215) _ _ (.ref N :: _)
    refine x_geta (r := some NM) (c := 1) hE hΓ in_X1 rfl hN.1.2 ⟨by decide, rfl⟩ 0 (ji := 0) rfl (by decide) (by decide) rfl q197 rfl rfl hN.2.1.1 dX0_forget_22 ?_
    show gW Γ E (xM E S3 τ3 ρ3) (0 + 9) (0 + 215) _ _ (.ref NM :: _)
    refine g_iload_n hΓ rfl dX0_forget_25 ?_
    have hz10 : τ3 NM 2 = σ 0 1000 := hN.2.2.2.2.2.1
    refine x_callV (As := [.int (iI k)]) (rest := []) (c := 10) hE hΓ (x_J2_remove hE hX S3 τ3 ρ3 NM 11 k hN.2.1.2 (by decide) (hx1).1 (by omega) ) hN.2.1.2 ⟨by decide, rfl⟩ rfl rfl q1250 q1251 q1252 q127 q1253 ndJ2_remove rfl (by decide) (by decide) (by omega) (by omega) rfl (Nat.le_of_ble_eq_true rfl) dX0_forget_26 rfl (fun v9 S9 τ9 ρ9 h9 => ?_)
    obtain ⟨rfl, h9, S9e⟩ := h9
    have S9e := S9e.symm; subst S9e
    rw [eNM] at h9
    have hxf := act_forget hx1 (k := k) (show 0 ≤ k ∧ k < σ 0 1000 by omega) h9
    show gW Γ E (xM E S3 τ9 ρ9) _ _ _ _ (.ref (lE ρ3 NM k) :: _)
    refine g_pop hΓ rfl dX0_forget_29 ?_
    refine g_iconst hΓ dX0_forget_30 ?_
    exact x_zret hΓ (by omega) dX0_forget_31 (by omega) (by omega) ⟨ri (by rw [if_pos (by omega)]), (by rw [if_pos (by omega)]; exact hxf), S3f⟩
  · refine g_aload_n hΓ rfl dX0_forget_8 ?_
    refine g_iconst hΓ dX0_forget_9 ?_
    refine x_callV (As := [.int (iI 3)]) (rest := []) (c := 0) hE hΓ (x_X0_refuses hE hX S D R P σ 3 hx (by first | assumption | omega) ) hp.1 ⟨by decide, rfl⟩ rfl rfl q378 q380 qs4 q123 q381 ndX0_refuses rfl (by decide) (by decide) (Nat.zero_le _) (Nat.zero_le _) rfl (Nat.le_of_ble_eq_true rfl) dX0_forget_10 rfl (fun v11 S11 τ11 ρ11 h11 => ?_)
    obtain ⟨rfl, h11, S11e, τ11f, ρ11e⟩ := h11
    have S11e := S11e.symm; subst S11e
    have ρ11e := ρ11e.symm; subst ρ11e
    show gW Γ E (xM E S τ11 R) _ _ _ _ (.int (iI 0) :: _)
    exact x_zret hΓ (by omega) dX0_forget_13 (Nat.zero_le _) (Nat.zero_le _) ⟨ri (by rw [if_neg (by omega)]), (by rw [if_neg (by omega)]; exact h11), (fun q h => rfl)⟩
set_option maxHeartbeats 4000000 in
theorem x_X0_set {l : Launch} {E : gE} {X : State → Prop} {Z : Nat → Nat} {Y : Nat → Option Nat} (hE : E.2.1 = clsX) (hX : xOK l E X Z Y) (S : xS) (D : xD) (R : xR) (P : xPk) (σ : mS) (w v : Int) (hx : Rx E Z S D R P σ) (hw : r32 w) (hv : r32 v) : xC l E X yX0_set cX0_set 3 (some .boolean) 8 9 215 [.ref (P.1), .int (iI w), .int (iI v)] S D R (fun rv S' D' R' => rv = some (.int (iI (if setC σ w v then 1 else 0))) ∧ (Rx E Z S' D' R' P (if setC σ w v then rowS (remS σ) (up (σ 0) (1042 + w) v) else (us σ 13 3 (σ 13 3 + 1)))) ∧ sle S S') := by
  refine xC.of hX.1 (by decide) [some (.ref (P.1)), some (.int (iI w)), some (.int (iI v))] (Nat.le_of_ble_eq_true rfl) rfl rfl (fun Γ hΓ => ?_)
  obtain ⟨hg, hp, hki, hro, hnw, hbh, hsa, hpd⟩ := id hx
  obtain ⟨N, NI, NM, NV, hN⟩ := (hx).now
  have hAw := hg.2.2.2.2.2.2
  have hG : GS S D R := hg.1
  obtain ⟨h1000, h1009, h1042, h1043, h1044, h1045, h1046, h1047, hms, hsi, hsm, hnm⟩ := id hro
  have eN := hN.2.2.2.2.2.2.2.2.2.2.2.2
  have kNV : (S NV).1 = 45 := by rw [hN.2.2.2.1.2]
  have nNV : (S NV).2.1 = 6 := by rw [hN.2.2.2.1.2]
  have hlo : 0 ≤ lowF w ∧ lowF w ≤ 4 := by rw [lowF]; split <;> omega
  have hhi : 16 ≤ hghF w ∧ hghF w ≤ 99 := by rw [hghF]; (repeat' split) <;> omega
  have hvw : 0 ≤ w → w ≤ 5 → D NV w = σ 0 (1042 + w) ∧ 0 ≤ σ 0 (1042 + w) ∧ σ 0 (1042 + w) ≤ 99 := fun a9 b9 => by
    rcases (show w = 0 ∨ w = 1 ∨ w = 2 ∨ w = 3 ∨ w = 4 ∨ w = 5 by omega) with h9 | h9 | h9 | h9 | h9 | h9 <;> subst h9
    · exact ⟨hN.2.2.2.2.2.2.1, by show 0 ≤ σ 0 1042 ∧ σ 0 1042 ≤ 99; omega⟩
    · exact ⟨hN.2.2.2.2.2.2.2.1, by show 0 ≤ σ 0 1043 ∧ σ 0 1043 ≤ 99; omega⟩
    · exact ⟨hN.2.2.2.2.2.2.2.2.1, by show 0 ≤ σ 0 1044 ∧ σ 0 1044 ≤ 99; omega⟩
    · exact ⟨hN.2.2.2.2.2.2.2.2.2.1, by show 0 ≤ σ 0 1045 ∧ σ 0 1045 ≤ 99; omega⟩
    · exact ⟨hN.2.2.2.2.2.2.2.2.2.2.1, by show 0 ≤ σ 0 1046 ∧ σ 0 1046 ≤ 99; omega⟩
    · exact ⟨hN.2.2.2.2.2.2.2.2.2.2.2.1, by show 0 ≤ σ 0 1047 ∧ σ 0 1047 ≤ 99; omega⟩
  refine g_iload_n hΓ rfl dX0_set_0 ?_
  refine g_i2l hΓ (by omega) dX0_set_1 ?_
  refine g_lconst (a := 0) hΓ rfl dX0_set_2 ?_
  refine g_ldc2 (n := 5) hΓ rfl q386 (by decide) dX0_set_3 ?_
  refine x_callS (As := [.long (lI w), .long (lI 0), .long (lI 5)]) (rest := []) hΓ (x_X0_isIn hE hX S D R w 0 5 (by first | assumption | omega) (by first | assumption | omega) (by first | assumption | omega)) rfl q387 q388 q123 q389 ndX0_isIn rfl (by decide) (by decide) (Nat.zero_le _) (Nat.zero_le _) rfl (Nat.le_of_ble_eq_true rfl) dX0_set_6 rfl (fun v1 S1 τ1 ρ1 h1 => ?_)
  obtain ⟨rfl, S1e, τ1e, ρ1e⟩ := h1
  have S1e := S1e.symm; subst S1e
  have τ1e := τ1e.symm; subst τ1e
  have ρ1e := ρ1e.symm; subst ρ1e
  show gW Γ E (xM E S D R) _ _ _ _ (.int (iI (if 0 ≤ w ∧ w ≤ 5 then 1 else 0)) :: _)
  refine g_ifB_eq (tgt := 45) hΓ  dX0_set_9 (by decide) (fun c2 => ?_) (fun c2 => ?_)
  · refine g_aload_n hΓ rfl dX0_set_45 ?_
    refine g_iconst hΓ dX0_set_46 ?_
    refine x_callV (As := [.int (iI 3)]) (rest := []) (c := 0) hE hΓ (x_X0_refuses hE hX S D R P σ 3 hx (by first | assumption | omega) ) hp.1 ⟨by decide, rfl⟩ rfl rfl q378 q380 qs4 q123 q381 ndX0_refuses rfl (by decide) (by decide) (Nat.zero_le _) (Nat.zero_le _) rfl (Nat.le_of_ble_eq_true rfl) dX0_set_47 rfl (fun v3 S3 τ3 ρ3 h3 => ?_)
    obtain ⟨rfl, h3, S3e, τ3f, ρ3e⟩ := h3
    have S3e := S3e.symm; subst S3e
    have ρ3e := ρ3e.symm; subst ρ3e
    show gW Γ E (xM E S τ3 R) _ _ _ _ (.int (iI 0) :: _)
    exact x_zret hΓ (by omega) dX0_set_50 (Nat.zero_le _) (Nat.zero_le _) ⟨ri (by rw [if_neg (fun h9 => by have h1 := h9.1; have h2 := h9.2.1; have h3 := h9.2.2; omega)]), (by rw [if_neg (fun h9 => by have h1 := h9.1; have h2 := h9.2.1; have h3 := h9.2.2; omega)]; exact h3), (fun q h => rfl)⟩
  · refine g_iload_n hΓ rfl dX0_set_12 ?_
    refine g_i2l hΓ (by omega) dX0_set_13 ?_
    refine g_gets hΓ rfl (xn_s_least hX) q1296 dX0_set_14 ?_
    show gW Γ E (xM E S D R) 0 0 _ _ (.ref (Z 3) :: _)
    refine g_iload_n hΓ rfl dX0_set_17 ?_
    refine x_iald hΓ hki.1.2.2.2.1.1 hki.1.2.2.2.1.2.1 ⟨by decide, rfl⟩ (by omega) (by omega) dX0_set_18 ?_
    refine g_topi ((hki.1.2.2.2.1.2.2 w (by omega) (by omega))) ?_
    refine g_i2l hΓ (by omega) dX0_set_19 ?_
    refine g_gets hΓ rfl (xn_s_greatest hX) q1297 dX0_set_20 ?_
    show gW Γ E (xM E S D R) 0 0 _ _ (.ref (Z 4) :: _)
    refine g_iload_n hΓ rfl dX0_set_23 ?_
    refine x_iald hΓ hki.1.2.2.2.2.1 hki.1.2.2.2.2.2.1 ⟨by decide, rfl⟩ (by omega) (by omega) dX0_set_24 ?_
    refine g_topi ((hki.1.2.2.2.2.2.2 w (by omega) (by omega))) ?_
    refine g_i2l hΓ (by omega) dX0_set_25 ?_
    refine x_callS (As := [.long (lI v), .long (lI (lowF w)), .long (lI (hghF w))]) (rest := []) hΓ (x_X0_isIn hE hX S D R v (lowF w) (hghF w) (by first | assumption | omega) (by first | assumption | omega) (by first | assumption | omega)) rfl q387 q388 q123 q389 ndX0_isIn rfl (by decide) (by decide) (Nat.zero_le _) (Nat.zero_le _) rfl (Nat.le_of_ble_eq_true rfl) dX0_set_26 rfl (fun v4 S4 τ4 ρ4 h4 => ?_)
    obtain ⟨rfl, S4e, τ4e, ρ4e⟩ := h4
    have S4e := S4e.symm; subst S4e
    have τ4e := τ4e.symm; subst τ4e
    have ρ4e := ρ4e.symm; subst ρ4e
    show gW Γ E (xM E S D R) _ _ _ _ (.int (iI (if (lowF w) ≤ v ∧ v ≤ (hghF w) then 1 else 0)) :: _)
    refine g_ifB_eq (tgt := 45) hΓ  dX0_set_29 (by decide) (fun c5 => ?_) (fun c5 => ?_)
    · refine g_aload_n hΓ rfl dX0_set_45 ?_
      refine g_iconst hΓ dX0_set_46 ?_
      refine x_callV (As := [.int (iI 3)]) (rest := []) (c := 0) hE hΓ (x_X0_refuses hE hX S D R P σ 3 hx (by first | assumption | omega) ) hp.1 ⟨by decide, rfl⟩ rfl rfl q378 q380 qs4 q123 q381 ndX0_refuses rfl (by decide) (by decide) (Nat.zero_le _) (Nat.zero_le _) rfl (Nat.le_of_ble_eq_true rfl) dX0_set_47 rfl (fun v6 S6 τ6 ρ6 h6 => ?_)
      obtain ⟨rfl, h6, S6e, τ6f, ρ6e⟩ := h6
      have S6e := S6e.symm; subst S6e
      have ρ6e := ρ6e.symm; subst ρ6e
      show gW Γ E (xM E S τ6 R) _ _ _ _ (.int (iI 0) :: _)
      exact x_zret hΓ (by omega) dX0_set_50 (Nat.zero_le _) (Nat.zero_le _) ⟨ri (by rw [if_neg (fun h9 => by have h1 := h9.1; have h2 := h9.2.1; have h3 := h9.2.2; omega)]), (by rw [if_neg (fun h9 => by have h1 := h9.1; have h2 := h9.2.1; have h3 := h9.2.2; omega)]; exact h6), (fun q h => rfl)⟩
    · refine g_aload_n hΓ rfl dX0_set_32 ?_
      refine x_geta (r := some N) (c := 0) hE hΓ in_X0 rfl hp.1 ⟨by decide, rfl⟩ 4 (ji := 4) rfl (by decide) (by decide) rfl q250 rfl rfl hN.1.1 dX0_set_33 ?_
      show gW Γ E (xM E S D R) 0 0 _ _ (.ref N :: _)
      refine x_geta (r := some NV) (c := 1) hE hΓ in_X1 rfl hN.1.2 ⟨by decide, rfl⟩ 2 (ji := 2) rfl (by decide) (by decide) rfl q203 rfl rfl hN.2.2.2.1.1 dX0_set_36 ?_
      show gW Γ E (xM E S D R) 0 0 _ _ (.ref NV :: _)
      refine g_iload_n hΓ rfl dX0_set_39 ?_
      refine x_iald hΓ kNV nNV ⟨by decide, rfl⟩ (by omega) (by omega) dX0_set_40 ?_
      refine g_topi ((hvw (by omega) (by omega)).1) ?_
      have hv9 := (hvw (by omega) (by omega)).2
      refine g_iload_n hΓ rfl dX0_set_41 ?_
      refine g_icmp_ne (tgt := 51) hΓ (by omega) (by omega) dX0_set_42 (by decide) (fun c7 => ?_) (fun c7 => ?_)
      · refine g_aload_n hΓ rfl dX0_set_51 ?_
        refine x_callV (As := []) (rest := []) (c := 0) hE hΓ (x_X0_keeps hE hX S D R P σ  hx  ) hp.1 ⟨by decide, rfl⟩ rfl rfl q1264 q1266 qs51 q123 q1267 ndX0_keeps rfl (by decide) (by decide) (by omega) (by omega) rfl (Nat.le_of_ble_eq_true rfl) dX0_set_52 rfl (fun v8 S8 τ8 ρ8 h8 => ?_)
        obtain ⟨rfl, h8, S8f⟩ := h8
        have kd9 : (S8 (P.1)).1 = 1 := kup hp.1 (by decide) S8f
        have kd10 : (S8 N).1 = 2 := kup hN.1.2 (by decide) S8f
        have kd11 : (S8 NI).1 = 10 := kup hN.2.2.1.2 (by decide) S8f
        have kd12 : (S8 NM).1 = 11 := kup hN.2.1.2 (by decide) S8f
        have kd13 : (S8 NV).1 = 45 := kup kNV (by decide) S8f
        have ln13 : (S8 NV).2.1 = 6 := nup kNV (by decide) nNV S8f
        have kd14 : (S8 (Z 3)).1 = 33 := kup hki.1.2.2.2.1.1 (by decide) S8f
        have ln14 : (S8 (Z 3)).2.1 = 6 := nup hki.1.2.2.2.1.1 (by decide) hki.1.2.2.2.1.2.1 S8f
        have kd15 : (S8 (Z 4)).1 = 34 := kup hki.1.2.2.2.2.1 (by decide) S8f
        have ln15 : (S8 (Z 4)).2.1 = 6 := nup hki.1.2.2.2.2.1 (by decide) hki.1.2.2.2.2.2.1 S8f
        have hx1 := h8.1
        have e3k := h8.2
        obtain ⟨hg, hp, hki, hro0, hnw, hbh, hsa, hpd⟩ := id hx1
        have hro : rowOK (σ 0) := hro0
        obtain ⟨N, NI, NM, NV, hN0⟩ := (hx1).now
        have hN : nowF S8 τ8 ρ8 P σ N NI NM NV := hN0
        have hAw := hg.2.2.2.2.2.2
        have hG : GS S8 τ8 ρ8 := hg.1
        obtain ⟨h1000, h1009, h1042, h1043, h1044, h1045, h1046, h1047, hms, hsi, hsm, hnm⟩ := id hro
        have eN := hN.2.2.2.2.2.2.2.2.2.2.2.2
        have kNV : (S8 NV).1 = 45 := by rw [hN.2.2.2.1.2]
        have nNV : (S8 NV).2.1 = 6 := by rw [hN.2.2.2.1.2]
        have eNI : NI = rf ρ8 (rf ρ8 P.1 4) 1 := by rw [eN.2.2.1, eN.1]
        have eNM : NM = rf ρ8 (rf ρ8 P.1 4) 0 := by rw [eN.2.1, eN.1]
        have eNV : NV = rf ρ8 (rf ρ8 P.1 4) 2 := by rw [eN.2.2.2, eN.1]
        refine g_aload_n hΓ rfl dX0_set_55 ?_
        refine x_geta (r := some N) (c := 0) hE hΓ in_X0 rfl hp.1 ⟨by decide, rfl⟩ 4 (ji := 4) rfl (by decide) (by decide) rfl q250 rfl rfl hN.1.1 dX0_set_56 ?_
        show gW Γ E (xM E S8 τ8 ρ8) (0 + 9) (0 + 215) _ _ (.ref N :: _)
        refine x_geta (r := some NV) (c := 1) hE hΓ in_X1 rfl hN.1.2 ⟨by decide, rfl⟩ 2 (ji := 2) rfl (by decide) (by decide) rfl q203 rfl rfl hN.2.2.2.1.1 dX0_set_59 ?_
        show gW Γ E (xM E S8 τ8 ρ8) (0 + 9) (0 + 215) _ _ (.ref NV :: _)
        refine g_iload_n hΓ rfl dX0_set_62 ?_
        refine g_iload_n hΓ rfl dX0_set_63 ?_
        refine x_iast hΓ kNV nNV ⟨by decide, rfl⟩ (hAw _ (by rw [kNV]; rfl)) (by omega) (by omega) dX0_set_64 (fun τ16 τ16e => ?_)
        have τ16r : τ16 NV w = v := by rw [τ16e]; exact us_s _ _ _ _
        have τ16f : ∀ (q9 : Nat) (j9 : Int), (q9 ≠ NV ∨ j9 ≠ w) → τ16 q9 j9 = τ8 q9 j9 := fun q9 j9 hh => by rw [τ16e]; exact us_n hh
        have hset : setC σ w v := ⟨by omega, by omega, by omega⟩
        have hxf := act_set (D' := τ16) hx1 hset (fun q9 j9 h9 => τ16f q9 j9 (by rw [eNV]; exact h9)) (by rw [← eNV]; exact τ16r)
        refine g_iconst hΓ dX0_set_65 ?_
        exact x_zret hΓ (by omega) dX0_set_66 (by omega) (by omega) ⟨ri (by rw [if_pos hset]), (by rw [if_pos hset]; exact hxf), S8f⟩
      · refine g_aload_n hΓ rfl dX0_set_45 ?_
        refine g_iconst hΓ dX0_set_46 ?_
        refine x_callV (As := [.int (iI 3)]) (rest := []) (c := 0) hE hΓ (x_X0_refuses hE hX S D R P σ 3 hx (by first | assumption | omega) ) hp.1 ⟨by decide, rfl⟩ rfl rfl q378 q380 qs4 q123 q381 ndX0_refuses rfl (by decide) (by decide) (Nat.zero_le _) (Nat.zero_le _) rfl (Nat.le_of_ble_eq_true rfl) dX0_set_47 rfl (fun v17 S17 τ17 ρ17 h17 => ?_)
        obtain ⟨rfl, h17, S17e, τ17f, ρ17e⟩ := h17
        have S17e := S17e.symm; subst S17e
        have ρ17e := ρ17e.symm; subst ρ17e
        show gW Γ E (xM E S τ17 R) _ _ _ _ (.int (iI 0) :: _)
        exact x_zret hΓ (by omega) dX0_set_50 (Nat.zero_le _) (Nat.zero_le _) ⟨ri (by rw [if_neg (fun h9 => by have h1 := h9.1; have h2 := h9.2.1; have h3 := h9.2.2; omega)]), (by rw [if_neg (fun h9 => by have h1 := h9.1; have h2 := h9.2.1; have h3 := h9.2.2; omega)]; exact h17), (fun q h => rfl)⟩
set_option maxHeartbeats 4000000 in
theorem x_X0_learn {l : Launch} {E : gE} {X : State → Prop} {Z : Nat → Nat} {Y : Nat → Option Nat} (hE : E.2.1 = clsX) (hX : xOK l E X Z Y) (S : xS) (D : xD) (R : xR) (P : xPk) (σ : mS)  (hx : Rx E Z S D R P σ) : xC l E X yX0_learn cX0_learn 1 (some .int) 8 15 360 [.ref (P.1)] S D R (fun rv S' D' R' => rv = some (.int (iI (if lrnC σ then σ 0 1000 else -1))) ∧ (Rx E Z S' D' R' P (if lrnC σ then rowS (remS σ) (leF (σ 0)) else (us σ 13 3 (σ 13 3 + 1)))) ∧ sle S S') := by
  refine xC.of hX.1 (by decide) [some (.ref (P.1))] (Nat.le_of_ble_eq_true rfl) rfl rfl (fun Γ hΓ => ?_)
  obtain ⟨hg, hp, hki, hro, hnw, hbh, hsa, hpd⟩ := id hx
  obtain ⟨N, NI, NM, NV, hN⟩ := (hx).now
  have hAw := hg.2.2.2.2.2.2
  have hG : GS S D R := hg.1
  obtain ⟨h1000, h1009, h1042, h1043, h1044, h1045, h1046, h1047, hms, hsi, hsm, hnm⟩ := id hro
  have eN := hN.2.2.2.2.2.2.2.2.2.2.2.2
  have kNV : (S NV).1 = 45 := by rw [hN.2.2.2.1.2]
  have nNV : (S NV).2.1 = 6 := by rw [hN.2.2.2.1.2]
  refine g_aload_n hΓ rfl dX0_learn_0 ?_
  refine x_geta (r := some N) (c := 0) hE hΓ in_X0 rfl hp.1 ⟨by decide, rfl⟩ 4 (ji := 4) rfl (by decide) (by decide) rfl q250 rfl rfl hN.1.1 dX0_learn_1 ?_
  show gW Γ E (xM E S D R) 0 0 _ _ (.ref N :: _)
  refine x_geta (r := some NI) (c := 1) hE hΓ in_X1 rfl hN.1.2 ⟨by decide, rfl⟩ 1 (ji := 1) rfl (by decide) (by decide) rfl q200 rfl rfl hN.2.2.1.1 dX0_learn_4 ?_
  show gW Γ E (xM E S D R) 0 0 _ _ (.ref NI :: _)
  refine x_callV (As := []) (rest := []) (c := 10) hE hΓ (x_J2_size hE hX S D R NI 10 hN.2.2.1.2 (by decide) ) hN.2.2.1.2 ⟨by decide, rfl⟩ rfl rfl q845 q662 q663 q127 q664 ndJ2_size rfl (by decide) (by decide) (Nat.zero_le _) (Nat.zero_le _) rfl (Nat.le_of_ble_eq_true rfl) dX0_learn_7 rfl (fun v1 S1 τ1 ρ1 h1 => ?_)
  obtain ⟨rfl, S1e, τ1e, ρ1e⟩ := h1
  have S1e := S1e.symm; subst S1e
  have τ1e := τ1e.symm; subst τ1e
  have ρ1e := ρ1e.symm; subst ρ1e
  refine g_topi (hN.2.2.2.2.1) ?_
  show gW Γ E (xM E S D R) _ _ _ _ (.int (iI (σ 0 1009)) :: _)
  refine g_i2l hΓ (by omega) dX0_learn_10 ?_
  refine g_lconst (a := 1) hΓ rfl dX0_learn_11 ?_
  refine g_ldc2 (n := 4) hΓ rfl q1262 (by decide) dX0_learn_12 ?_
  refine x_callS (As := [.long (lI (σ 0 1009)), .long (lI 1), .long (lI 4)]) (rest := []) hΓ (x_X0_isIn hE hX S D R (σ 0 1009) 1 4 (by first | assumption | omega) (by first | assumption | omega) (by first | assumption | omega)) rfl q387 q388 q123 q389 ndX0_isIn rfl (by decide) (by decide) (Nat.zero_le _) (Nat.zero_le _) rfl (Nat.le_of_ble_eq_true rfl) dX0_learn_15 rfl (fun v2 S2 τ2 ρ2 h2 => ?_)
  obtain ⟨rfl, S2e, τ2e, ρ2e⟩ := h2
  have S2e := S2e.symm; subst S2e
  have τ2e := τ2e.symm; subst τ2e
  have ρ2e := ρ2e.symm; subst ρ2e
  show gW Γ E (xM E S D R) _ _ _ _ (.int (iI (if 1 ≤ (σ 0 1009) ∧ (σ 0 1009) ≤ 4 then 1 else 0)) :: _)
  refine g_ifB_eq (tgt := 30) hΓ  dX0_learn_18 (by decide) (fun c3 => ?_) (fun c3 => ?_)
  · refine g_aload_n hΓ rfl dX0_learn_30 ?_
    refine g_iconst hΓ dX0_learn_31 ?_
    refine x_callV (As := [.int (iI 3)]) (rest := []) (c := 0) hE hΓ (x_X0_refused hE hX S D R P σ 3 hx (by first | assumption | omega) ) hp.1 ⟨by decide, rfl⟩ rfl rfl q366 q368 qs2 q123 q369 ndX0_refused rfl (by decide) (by decide) (Nat.zero_le _) (Nat.zero_le _) rfl (Nat.le_of_ble_eq_true rfl) dX0_learn_32 rfl (fun v4 S4 τ4 ρ4 h4 => ?_)
    obtain ⟨rfl, h4, S4e, τ4f, ρ4e⟩ := h4
    have S4e := S4e.symm; subst S4e
    have ρ4e := ρ4e.symm; subst ρ4e
    show gW Γ E (xM E S τ4 R) _ _ _ _ (.int (iI (-1)) :: _)
    exact x_iret hΓ dX0_learn_35 (Nat.zero_le _) (Nat.zero_le _) ⟨ri (by rw [if_neg (by omega)]), (by rw [if_neg (by omega)]; exact h4), (fun q h => rfl)⟩
  · refine g_aload_n hΓ rfl dX0_learn_21 ?_
    refine x_callV (As := []) (rest := []) (c := 0) hE hΓ (x_X0_models hE hX S D R P σ  hx  ) hp.1 ⟨by decide, rfl⟩ rfl rfl q841 q843 qs21 q123 q844 ndX0_models rfl (by decide) (by decide) (Nat.zero_le _) (Nat.zero_le _) rfl (Nat.le_of_ble_eq_true rfl) dX0_learn_22 rfl (fun v5 S5 τ5 ρ5 h5 => ?_)
    obtain ⟨rfl, S5e, τ5e, ρ5e⟩ := h5
    have S5e := S5e.symm; subst S5e
    have τ5e := τ5e.symm; subst τ5e
    have ρ5e := ρ5e.symm; subst ρ5e
    show gW Γ E (xM E S D R) _ _ _ _ (.int (iI (σ 0 1000)) :: _)
    refine g_bipush hΓ (by decide) dX0_learn_25 ?_
    refine g_icmp_ne (tgt := 36) hΓ (by omega) (by omega) dX0_learn_27 (by decide) (fun c6 => ?_) (fun c6 => ?_)
    · refine g_aload_n hΓ rfl dX0_learn_36 ?_
      refine x_callV (As := []) (rest := []) (c := 0) hE hΓ (x_X0_keeps hE hX S D R P σ  hx  ) hp.1 ⟨by decide, rfl⟩ rfl rfl q1264 q1266 qs51 q123 q1267 ndX0_keeps rfl (by decide) (by decide) (by omega) (by omega) rfl (Nat.le_of_ble_eq_true rfl) dX0_learn_37 rfl (fun v7 S7 τ7 ρ7 h7 => ?_)
      obtain ⟨rfl, h7, S7f⟩ := h7
      have kd8 : (S7 (P.1)).1 = 1 := kup hp.1 (by decide) S7f
      have kd9 : (S7 N).1 = 2 := kup hN.1.2 (by decide) S7f
      have kd10 : (S7 NI).1 = 10 := kup hN.2.2.1.2 (by decide) S7f
      have kd11 : (S7 NM).1 = 11 := kup hN.2.1.2 (by decide) S7f
      have kd12 : (S7 NV).1 = 45 := kup kNV (by decide) S7f
      have ln12 : (S7 NV).2.1 = 6 := nup kNV (by decide) nNV S7f
      have hx1 := h7.1
      have e3k := h7.2
      obtain ⟨hg, hp, hki, hro0, hnw, hbh, hsa, hpd⟩ := id hx1
      have hro : rowOK (σ 0) := hro0
      obtain ⟨N, NI, NM, NV, hN0⟩ := (hx1).now
      have hN : nowF S7 τ7 ρ7 P σ N NI NM NV := hN0
      have hAw := hg.2.2.2.2.2.2
      have hG : GS S7 τ7 ρ7 := hg.1
      obtain ⟨h1000, h1009, h1042, h1043, h1044, h1045, h1046, h1047, hms, hsi, hsm, hnm⟩ := id hro
      have eN := hN.2.2.2.2.2.2.2.2.2.2.2.2
      have kNV : (S7 NV).1 = 45 := by rw [hN.2.2.2.1.2]
      have nNV : (S7 NV).2.1 = 6 := by rw [hN.2.2.2.1.2]
      have eNI : NI = rf ρ7 (rf ρ7 P.1 4) 1 := by rw [eN.2.2.1, eN.1]
      have eNM : NM = rf ρ7 (rf ρ7 P.1 4) 0 := by rw [eN.2.1, eN.1]
      have eNV : NV = rf ρ7 (rf ρ7 P.1 4) 2 := by rw [eN.2.2.2, eN.1]
      refine g_aload_n hΓ rfl dX0_learn_40 ?_
      refine x_geta (r := some N) (c := 0) hE hΓ in_X0 rfl hp.1 ⟨by decide, rfl⟩ 4 (ji := 4) rfl (by decide) (by decide) rfl q250 rfl rfl hN.1.1 dX0_learn_41 ?_
      show gW Γ E (xM E S7 τ7 ρ7) (0 + 9) (0 + 215) _ _ (.ref N :: _)
      refine x_geta (r := some NM) (c := 1) hE hΓ in_X1 rfl hN.1.2 ⟨by decide, rfl⟩ 0 (ji := 0) rfl (by decide) (by decide) rfl q197 rfl rfl hN.2.1.1 dX0_learn_44 ?_
      show gW Γ E (xM E S7 τ7 ρ7) (0 + 9) (0 + 215) _ _ (.ref NM :: _)
      refine x_new (c := 7) hE hΓ (xn_new hX) 7 0 in_X7 rfl ⟨by decide, rfl⟩ tyX7 tyX7_ok rfl q871 q758 q143 fs0_7 (by omega) (by omega) dX0_learn_47 (fun q13 S13 δ13 ρ13 q13z q13w S13e δ13e ρ13e => ?_)
      have S13f : ∀ q9 : Nat, (S7 q9).1 ≠ 0 → S13 q9 = S7 q9 := fun q9 h9 => by rw [S13e]; exact uS_n (fun e9 => h9 (by rw [e9]; exact q13z))
      have S13q : S13 q13 = (7, 2, 0) := by rw [S13e]; exact uS_s _ _ _ _ _
      have δ13z : ∀ j9 : Int, δ13 q13 j9 = 0 := fun j9 => by rw [δ13e, uN_s]
      have δ13f : ∀ (q9 : Nat) (j9 : Int), q9 ≠ q13 → δ13 q9 j9 = τ7 q9 j9 := fun q9 j9 h9 => by rw [δ13e, uN_n h9]
      have ρ13z : ∀ j9 : Int, ρ13 q13 j9 = none := fun j9 => by rw [ρ13e, uN_s]
      have ρ13f : ∀ (q9 : Nat) (j9 : Int), q9 ≠ q13 → ρ13 q9 j9 = ρ7 q9 j9 := fun q9 j9 h9 => by rw [ρ13e, uN_n h9]
      have kd14 : (S13 (P.1)).1 = 1 := kup hp.1 (by decide) S13f
      have kd15 : (S13 N).1 = 2 := kup hN.1.2 (by decide) S13f
      have kd16 : (S13 NI).1 = 10 := kup hN.2.2.1.2 (by decide) S13f
      have kd17 : (S13 NM).1 = 11 := kup hN.2.1.2 (by decide) S13f
      have kd18 : (S13 NV).1 = 45 := kup kNV (by decide) S13f
      have ln18 : (S13 NV).2.1 = 6 := nup kNV (by decide) nNV S13f
      have kdq13 : (S13 q13).1 = 7 := by rw [S13q]
      have lnq13 : (S13 q13).2.1 = 2 := by rw [S13q]
      refine g_dup hΓ rfl dX0_learn_50 ?_
      refine g_aload_n hΓ rfl dX0_learn_51 ?_
      refine x_geta (r := some N) (c := 0) hE hΓ in_X0 rfl kd14 ⟨by decide, rfl⟩ 4 (ji := 4) rfl (by decide) (by decide) rfl q250 rfl rfl ((ρ13f (P.1) 4 (ne_k hp.1 q13z (by decide))).trans hN.1.1) dX0_learn_52 ?_
      show gW Γ E (xM E S13 δ13 ρ13) (0 + 9 + 1) (0 + 215 + 2) _ _ (.ref N :: _)
      refine x_geta (r := some NI) (c := 1) hE hΓ in_X1 rfl kd15 ⟨by decide, rfl⟩ 1 (ji := 1) rfl (by decide) (by decide) rfl q200 rfl rfl ((ρ13f N 1 (ne_k hN.1.2 q13z (by decide))).trans hN.2.2.1.1) dX0_learn_55 ?_
      show gW Γ E (xM E S13 δ13 ρ13) (0 + 9 + 1) (0 + 215 + 2) _ _ (.ref NI :: _)
      have hdn := del_new hg q13z S13e δ13e ρ13e
      have ei9 : δ13 NI 2 = σ 0 1009 := ((δ13f NI 2 (ne_k hN.2.2.1.2 q13z (by decide))).trans hN.2.2.2.2.1)
      have etd := now_ext hdn.2 hx1
      refine x_callI (As := [.ref NI]) (rest := [.ref q13, .ref NM]) hΓ (x_X7_init_2 hE hX S13 δ13 ρ13 q13 NI 10 0 S13q q13w hdn.1 (KI_ext hdn.2 hki) kd16 (Or.inl rfl) (by rw [ei9]; omega) ) rfl q1287 q1175 q143 q1176 ndX7_init_2 rfl rfl (by decide) (by decide) (by omega) (by omega) rfl (Nat.le_of_ble_eq_true rfl) dX0_learn_58 rfl (fun v19 S19 τ19 ρ19 h19 => ?_)
      obtain ⟨rfl, h19, S19f⟩ := h19
      have kd20 : (S19 (P.1)).1 = 1 := kup kd14 (by decide) S19f
      have kd21 : (S19 N).1 = 2 := kup kd15 (by decide) S19f
      have kd22 : (S19 NI).1 = 10 := kup kd16 (by decide) S19f
      have kd23 : (S19 NM).1 = 11 := kup kd17 (by decide) S19f
      have kd24 : (S19 NV).1 = 45 := kup kd18 (by decide) S19f
      have ln24 : (S19 NV).2.1 = 6 := nup kd18 (by decide) ln18 S19f
      have kd25 : (S19 q13).1 = 7 := kup kdq13 (by decide) S19f
      have ln25 : (S19 q13).2.1 = 2 := nup kdq13 (by decide) lnq13 S19f
      have hel9 := learn_el (t := q13) (ext_t hdn.2 h19.2.1) hx1 (fun i9 x9 y9 => by rw [h19.2.2.2.2.2 i9 x9 (by rw [eNI]; rw [etd.2.2.1]; exact y9), eNI]; exact etd.2.2.2 i9)
      have hd9 : τ19 (rf ρ19 q13 1) 2 = σ 0 1009 := h19.2.2.2.1.trans ei9
      have hn9 := h19.2.2.1
      have hx2 := Rx_ext0 (ext_t hdn.2 h19.2.1) hx1 h19.1
      have hN : nowF S19 τ19 ρ19 P σ N NI NM NV := nowF_ext (ext_t hdn.2 h19.2.1) hp.1 hN
      obtain ⟨hg, hp, hki, hro0, hnw, hbh, hsa, hpd⟩ := id hx2
      have hro : rowOK (σ 0) := hro0
      have hAw := hg.2.2.2.2.2.2
      have hG : GS S19 τ19 ρ19 := hg.1
      obtain ⟨h1000, h1009, h1042, h1043, h1044, h1045, h1046, h1047, hms, hsi, hsm, hnm⟩ := id hro
      have eN := hN.2.2.2.2.2.2.2.2.2.2.2.2
      have kNV : (S19 NV).1 = 45 := by rw [hN.2.2.2.1.2]
      have nNV : (S19 NV).2.1 = 6 := by rw [hN.2.2.2.1.2]
      have eNI : NI = rf ρ19 (rf ρ19 P.1 4) 1 := by rw [eN.2.2.1, eN.1]
      have eNM : NM = rf ρ19 (rf ρ19 P.1 4) 0 := by rw [eN.2.1, eN.1]
      have eNV : NV = rf ρ19 (rf ρ19 P.1 4) 2 := by rw [eN.2.2.2, eN.1]
      have hz27 : τ19 NM 2 = σ 0 1000 := hN.2.2.2.2.2.1
      refine x_callV (As := [.ref q13]) (rest := []) (c := 10) hE hΓ (x_J2_add hE hX S19 τ19 ρ19 NM q13 11 7 hN.2.1.2 (by decide) (hx2).1 kd25 rfl (by omega) ) hN.2.1.2 ⟨by decide, rfl⟩ rfl rfl q1138 q703 q704 q127 q705 ndJ2_add rfl (by decide) (by decide) (by omega) (by omega) rfl (Nat.le_of_ble_eq_true rfl) dX0_learn_61 rfl (fun v26 S26 τ26 ρ26 h26 => ?_)
      obtain ⟨rfl, h26, S26f⟩ := h26
      have kd28 : (S26 (P.1)).1 = 1 := kup hp.1 (by decide) S26f
      have kd29 : (S26 q13).1 = 7 := kup kd25 (by decide) S26f
      have ln29 : (S26 q13).2.1 = 2 := nup kd25 (by decide) ln25 S26f
      have kd30 : (S26 N).1 = 2 := kup hN.1.2 (by decide) S26f
      have kd31 : (S26 NI).1 = 10 := kup hN.2.2.1.2 (by decide) S26f
      have kd32 : (S26 NM).1 = 11 := kup hN.2.1.2 (by decide) S26f
      have kd33 : (S26 NV).1 = 45 := kup kNV (by decide) S26f
      have ln33 : (S26 NV).2.1 = 6 := nup kNV (by decide) nNV S26f
      rw [eNM] at h26
      have hlc : lrnC σ := ⟨by omega, by omega⟩
      have hxf := act_learn (t := q13) hx2 hlc kd25 hn9 hd9 hel9 h26
      have hx3 := hxf
      have hx3 : Rx E Z S26 τ26 ρ26 P (rowS (remS σ) (leF (σ 0))) := hxf
      show gW Γ E (xM E S26 τ26 ρ26) _ _ _ _ (.int (iI 1) :: _)
      refine g_pop hΓ rfl dX0_learn_64 ?_
      refine g_aload_n hΓ rfl dX0_learn_65 ?_
      refine x_callV (As := []) (rest := []) (c := 0) hE hΓ (x_X0_models hE hX S26 τ26 ρ26 P (rowS (remS σ) (leF (σ 0))) hx3 ) kd28 ⟨by decide, rfl⟩ rfl rfl q841 q843 qs21 q123 q844 ndX0_models rfl (by decide) (by decide) (by omega) (by omega) rfl (Nat.le_of_ble_eq_true rfl) dX0_learn_66 rfl (fun v34 S34 τ34 ρ34 h34 => ?_)
      obtain ⟨rfl, S34e, τ34e, ρ34e⟩ := h34
      have S34e := S34e.symm; subst S34e
      have τ34e := τ34e.symm; subst τ34e
      have ρ34e := ρ34e.symm; subst ρ34e
      show gW Γ E (xM E S26 τ26 ρ26) _ _ _ _ (.int (iI (rowS (remS σ) (leF (σ 0)) 0 1000)) :: _)
      have el9 : rowS (remS σ) (leF (σ 0)) 0 1000 = σ 0 1000 + 1 := rfl
      refine g_iconst hΓ dX0_learn_69 ?_
      refine g_isub hΓ dX0_learn_70 ?_
      exact x_iret hΓ dX0_learn_71 (by omega) (by omega) ⟨ri (by rw [if_pos hlc]; omega), (by rw [if_pos hlc]; exact hxf), (sle_t (sle_t (sle_t S7f S13f) S19f) S26f)⟩
    · refine g_aload_n hΓ rfl dX0_learn_30 ?_
      refine g_iconst hΓ dX0_learn_31 ?_
      refine x_callV (As := [.int (iI 3)]) (rest := []) (c := 0) hE hΓ (x_X0_refused hE hX S D R P σ 3 hx (by first | assumption | omega) ) hp.1 ⟨by decide, rfl⟩ rfl rfl q366 q368 qs2 q123 q369 ndX0_refused rfl (by decide) (by decide) (Nat.zero_le _) (Nat.zero_le _) rfl (Nat.le_of_ble_eq_true rfl) dX0_learn_32 rfl (fun v35 S35 τ35 ρ35 h35 => ?_)
      obtain ⟨rfl, h35, S35e, τ35f, ρ35e⟩ := h35
      have S35e := S35e.symm; subst S35e
      have ρ35e := ρ35e.symm; subst ρ35e
      show gW Γ E (xM E S τ35 R) _ _ _ _ (.int (iI (-1)) :: _)
      exact x_iret hΓ dX0_learn_35 (Nat.zero_le _) (Nat.zero_le _) ⟨ri (by rw [if_neg (by omega)]), (by rw [if_neg (by omega)]; exact h35), (fun q h => rfl)⟩
