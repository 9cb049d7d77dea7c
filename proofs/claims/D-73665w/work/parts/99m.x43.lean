set_option maxRecDepth 100000
set_option maxHeartbeats 4000000 in
theorem x_X0_undo {l : Launch} {E : gE} {X : State → Prop} {Z : Nat → Nat} {Y : Nat → Option Nat} (hE : E.2.1 = clsX) (hX : xOK l E X Z Y) (S : xS) (D : xD) (R : xR) (P : xPk) (σ : mS)  (hx : Rx E Z S D R P σ) : xC l E X yX0_undo cX0_undo 1 (some .boolean) 7 1 60 [.ref (P.1)] S D R (fun rv S' D' R' => rv = some (.int (iI (if ¬ σ 4 0 = 0 then 1 else 0))) ∧ (Rx E Z S' D' R' P (if ¬ σ 4 0 = 0 then undS σ else (us σ 13 4 (σ 13 4 + 1)))) ∧ sle S S') := by
  refine xC.of hX.1 (by decide) [some (.ref (P.1))] (Nat.le_of_ble_eq_true rfl) rfl rfl (fun Γ hΓ => ?_)
  obtain ⟨hg, hp, hki, hro, hnw, hbh, hsa, hpd⟩ := id hx
  obtain ⟨N, NI, NM, NV, hN⟩ := (hx).now
  have hAw := hg.2.2.2.2.2.2
  have hG : GS S D R := hg.1
  obtain ⟨h1000, h1009, h1042, h1043, h1044, h1045, h1046, h1047, hms, hsi, hsm, hnm⟩ := id hro
  have eN := hN.2.2.2.2.2.2.2.2.2.2.2.2
  have kNV : (S NV).1 = 45 := by rw [hN.2.2.2.1.2]
  have nNV : (S NV).2.1 = 6 := by rw [hN.2.2.2.1.2]
  have hb2 := hbh.2.1
  have hus := hbh.2.2.2.2
  have k5 := pL_k hp 5 rfl (n := 14) rfl
  have k6 := pL_k hp 6 rfl (n := 15) rfl
  refine g_aload_n hΓ rfl dX0_undo_0 ?_
  refine x_geta (r := some (P.2.1 5)) (c := 0) hE hΓ in_X0 rfl hp.1 ⟨by decide, rfl⟩ 5 (ji := 5) rfl (by decide) (by decide) rfl q251 rfl rfl (pL_r hp 5 rfl rfl) dX0_undo_1 ?_
  show gW Γ E (xM E S D R) 0 0 _ _ (.ref (P.2.1 5) :: _)
  have hz2 : D (P.2.1 5) 2 = σ 4 0 := hbh.1
  refine x_callV (As := []) (rest := []) (c := 10) hE hΓ (x_J2_isEmpty hE hX S D R (P.2.1 5) 14 (pL_k hp 5 rfl (n := 14) rfl) (by decide) (by omega) ) (pL_k hp 5 rfl (n := 14) rfl) ⟨by decide, rfl⟩ rfl rfl q1143 q1144 q1145 q127 q1146 ndJ2_isEmpty rfl (by decide) (by decide) (Nat.zero_le _) (Nat.zero_le _) rfl (Nat.le_of_ble_eq_true rfl) dX0_undo_4 rfl (fun v1 S1 τ1 ρ1 h1 => ?_)
  obtain ⟨rfl, S1e, τ1e, ρ1e⟩ := h1
  have S1e := S1e.symm; subst S1e
  have τ1e := τ1e.symm; subst τ1e
  have ρ1e := ρ1e.symm; subst ρ1e
  refine g_topi (show (if D (P.2.1 5) 2 = 0 then 1 else 0 : Int) = (if σ 4 0 = 0 then 1 else 0) by rw [hbh.1]) ?_
  show gW Γ E (xM E S D R) _ _ _ _ (.int (iI (if σ 4 0 = 0 then 1 else 0)) :: _)
  refine g_ifB_eq (tgt := 16) hΓ  dX0_undo_7 (by decide) (fun c3 => ?_) (fun c3 => ?_)
  · refine g_aload_n hΓ rfl dX0_undo_16 ?_
    refine x_geta (r := some (P.2.1 6)) (c := 0) hE hΓ in_X0 rfl hp.1 ⟨by decide, rfl⟩ 6 (ji := 6) rfl (by decide) (by decide) rfl q252 rfl rfl (pL_r hp 6 rfl rfl) dX0_undo_17 ?_
    show gW Γ E (xM E S D R) 0 0 _ _ (.ref (P.2.1 6) :: _)
    refine g_aload_n hΓ rfl dX0_undo_20 ?_
    refine x_geta (r := some N) (c := 0) hE hΓ in_X0 rfl hp.1 ⟨by decide, rfl⟩ 4 (ji := 4) rfl (by decide) (by decide) rfl q250 rfl rfl hN.1.1 dX0_undo_21 ?_
    show gW Γ E (xM E S D R) 0 0 _ _ (.ref N :: _)
    refine x_callV (As := [.ref N]) (rest := []) (c := 10) hE hΓ (x_J2_add hE hX S D R (P.2.1 6) N 15 2 (pL_k hp 6 rfl (n := 15) rfl) (by decide) (hx).1 hN.1.2 rfl (by omega) ) (pL_k hp 6 rfl (n := 15) rfl) ⟨by decide, rfl⟩ rfl rfl q1138 q703 q704 q127 q705 ndJ2_add rfl (by decide) (by decide) (by omega) (by omega) rfl (Nat.le_of_ble_eq_true rfl) dX0_undo_24 rfl (fun v4 S4 τ4 ρ4 h4 => ?_)
    obtain ⟨rfl, h4, S4f⟩ := h4
    have kd6 : (S4 (P.1)).1 = 1 := kup hp.1 (by decide) S4f
    have kd7 : (S4 N).1 = 2 := kup hN.1.2 (by decide) S4f
    have kd8 : (S4 NI).1 = 10 := kup hN.2.2.1.2 (by decide) S4f
    have kd9 : (S4 NM).1 = 11 := kup hN.2.1.2 (by decide) S4f
    have kd10 : (S4 NV).1 = 45 := kup kNV (by decide) S4f
    have ln10 : (S4 NV).2.1 = 6 := nup kNV (by decide) nNV S4f
    have kd11 : (S4 (P.2.1 5)).1 = 14 := kup (pL_k hp 5 rfl (n := 14) rfl) (by decide) S4f
    have kd12 : (S4 (P.2.1 6)).1 = 15 := kup (pL_k hp 6 rfl (n := 15) rfl) (by decide) S4f
    rw [eN.1] at h4
    have n5 := lT_o hg (a := P.2.1 6) (b := P.2.1 5) (by omega) (by omega) (ne_k k5 k6 (by decide))
    have l5 := ls_chg h4.2.2.1 (by omega) (hg.2.1 (P.2.1 5) (by omega) (by omega)) n5.1 n5.2
    have rp9 := cg_R h4.2.2.1 (lT_k (by omega)) hp.1 (by decide) (by decide)
    have hl9 := (hbh.2.2.1 (σ 4 0 - 1) (by omega) (by omega)).1.1
    have ke9 : (S4 (lE ρ4 (P.2.1 5) (σ 4 0 - 1))).1 = 2 := by rw [l5.2.2.2.1, S4f _ (by rw [hl9]; decide)]; exact hl9
    show gW Γ E (xM E S4 τ4 ρ4) _ _ _ _ (.int (iI 1) :: _)
    refine g_pop hΓ rfl dX0_undo_27 ?_
    refine g_aload_n hΓ rfl dX0_undo_28 ?_
    refine g_aload_n hΓ rfl dX0_undo_29 ?_
    refine x_geta (r := some (P.2.1 5)) (c := 0) hE hΓ in_X0 rfl kd6 ⟨by decide, rfl⟩ 5 (ji := 5) rfl (by decide) (by decide) rfl q251 rfl rfl ((congrFun rp9 5).trans (pL_r hp 5 rfl rfl)) dX0_undo_30 ?_
    show gW Γ E (xM E S4 τ4 ρ4) (0 + 1) (0 + 60) _ _ (.ref (P.2.1 5) :: _)
    refine g_aload_n hΓ rfl dX0_undo_33 ?_
    refine x_geta (r := some (P.2.1 5)) (c := 0) hE hΓ in_X0 rfl kd6 ⟨by decide, rfl⟩ 5 (ji := 5) rfl (by decide) (by decide) rfl q251 rfl rfl ((congrFun rp9 5).trans (pL_r hp 5 rfl rfl)) dX0_undo_34 ?_
    show gW Γ E (xM E S4 τ4 ρ4) (0 + 1) (0 + 60) _ _ (.ref (P.2.1 5) :: _)
    refine x_callV (As := []) (rest := [.ref (P.2.1 5), .ref (P.1)]) (c := 10) hE hΓ (x_J2_size hE hX S4 τ4 ρ4 (P.2.1 5) 14 kd11 (by decide) ) kd11 ⟨by decide, rfl⟩ rfl rfl q845 q662 q663 q127 q664 ndJ2_size rfl (by decide) (by decide) (by omega) (by omega) rfl (Nat.le_of_ble_eq_true rfl) dX0_undo_37 rfl (fun v13 S13 τ13 ρ13 h13 => ?_)
    obtain ⟨rfl, S13e, τ13e, ρ13e⟩ := h13
    have S13e := S13e.symm; subst S13e
    have τ13e := τ13e.symm; subst τ13e
    have ρ13e := ρ13e.symm; subst ρ13e
    refine g_topi (((congrFun l5.2.2.1 2).trans hbh.1)) ?_
    show gW Γ E (xM E S4 τ4 ρ4) _ _ _ _ (.int (iI (σ 4 0)) :: _)
    refine g_iconst hΓ dX0_undo_40 ?_
    refine g_isub hΓ dX0_undo_41 ?_
    have hz15 : τ4 (P.2.1 5) 2 = σ 4 0 := ((congrFun l5.2.2.1 2).trans hbh.1)
    refine x_callV (As := [.int (iI ((σ 4 0) - 1))]) (rest := [.ref (P.1)]) (c := 10) hE hΓ (x_J2_remove hE hX S4 τ4 ρ4 (P.2.1 5) 14 ((σ 4 0) - 1) kd11 (by decide) h4.1 (by omega) ) kd11 ⟨by decide, rfl⟩ rfl rfl q1250 q1251 q1252 q127 q1253 ndJ2_remove rfl (by decide) (by decide) (by omega) (by omega) rfl (Nat.le_of_ble_eq_true rfl) dX0_undo_42 rfl (fun v14 S14 τ14 ρ14 h14 => ?_)
    obtain ⟨rfl, h14, S14e⟩ := h14
    have S14e := S14e.symm; subst S14e
    show gW Γ E (xM E S4 τ14 ρ14) _ _ _ _ (.ref (lE ρ4 (P.2.1 5) ((σ 4 0) - 1)) :: _)
    refine x_castS (c := 1) hE hΓ rfl q156 ke9 ⟨by decide, rfl⟩ rfl dX0_undo_45 ?_
    refine x_puta (c := 0) hE hΓ in_X0 rfl kd6 ⟨by decide, rfl⟩ tyX0 tyX0_ok nmX0 (hAw _ (by rw [hp.1]; rfl)) 4 (ji := 4) rfl (by decide) (by decide) rfl q250 rfl rfl rfl rfl (some (lE ρ4 (P.2.1 5) ((σ 4 0) - 1))) rfl (by first | rfl | (rcases va_rf_or none with h9 | ⟨q9, h9⟩ <;> rw [h9] <;> rfl)) (by first | rfl | (rcases va_rf_or none with h9 | ⟨q9, h9⟩ <;> rw [h9] <;> rfl)) dX0_undo_48 (fun ρ16 ρ16e => ?_)
    have ρ16r : ρ16 (P.1) 4 = some (lE ρ4 (P.2.1 5) ((σ 4 0) - 1)) := by rw [ρ16e]; exact ur_s _ _ _ _
    have ρ16f : ∀ (q9 : Nat) (j9 : Int), (q9 ≠ (P.1) ∨ j9 ≠ 4) → ρ16 q9 j9 = ρ14 q9 j9 := fun q9 j9 hh => by rw [ρ16e]; exact ur_n hh
    refine g_iconst hΓ dX0_undo_51 ?_
    exact x_zret hΓ (by omega) dX0_undo_52 (by omega) (by omega) ⟨ri (by rw [if_pos (by omega)]), (by rw [if_pos (by omega), ρ16e]; exact act_undo hx (by omega) h4 h14), S4f⟩
  · refine g_aload_n hΓ rfl dX0_undo_10 ?_
    refine g_iconst hΓ dX0_undo_11 ?_
    refine x_callV (As := [.int (iI 4)]) (rest := []) (c := 0) hE hΓ (x_X0_refuses hE hX S D R P σ 4 hx (by first | assumption | omega) ) hp.1 ⟨by decide, rfl⟩ rfl rfl q378 q380 qs4 q123 q381 ndX0_refuses rfl (by decide) (by decide) (Nat.zero_le _) (Nat.zero_le _) rfl (Nat.le_of_ble_eq_true rfl) dX0_undo_12 rfl (fun v17 S17 τ17 ρ17 h17 => ?_)
    obtain ⟨rfl, h17, S17e, τ17f, ρ17e⟩ := h17
    have S17e := S17e.symm; subst S17e
    have ρ17e := ρ17e.symm; subst ρ17e
    show gW Γ E (xM E S τ17 R) _ _ _ _ (.int (iI 0) :: _)
    exact x_zret hΓ (by omega) dX0_undo_15 (Nat.zero_le _) (Nat.zero_le _) ⟨ri (by rw [if_neg (by omega)]), (by rw [if_neg (by omega)]; exact h17), (fun q h => rfl)⟩
set_option maxHeartbeats 4000000 in
theorem x_X0_forgetTold {l : Launch} {E : gE} {X : State → Prop} {Z : Nat → Nat} {Y : Nat → Option Nat} (hE : E.2.1 = clsX) (hX : xOK l E X Z Y) (S : xS) (D : xD) (R : xR) (P : xPk) (σ : mS)  (hx : Rx E Z S D R P σ) (hP0 : P.2.1 99 = 0) : xC l E X yX0_forgetTold cX0_forgetTold 2 (some .int) 1 0 0 [.ref (P.1)] S D R (fun rv S' D' R' => rv = some (.int (iI (σ 6 0))) ∧ (Rx E Z S D' R' P (us σ 6 0 0)) ∧ S' = S) := by
  refine xC.of hX.1 (by decide) [some (.ref (P.1)), none] (Nat.le_of_ble_eq_true rfl) rfl rfl (fun Γ hΓ => ?_)
  obtain ⟨hg, hp, hki, hro, hnw, hbh, hsa, hpd⟩ := id hx
  obtain ⟨N, NI, NM, NV, hN⟩ := (hx).now
  have hAw := hg.2.2.2.2.2.2
  have hG : GS S D R := hg.1
  obtain ⟨h1000, h1009, h1042, h1043, h1044, h1045, h1046, h1047, hms, hsi, hsm, hnm⟩ := id hro
  have eN := hN.2.2.2.2.2.2.2.2.2.2.2.2
  have kNV : (S NV).1 = 45 := by rw [hN.2.2.2.1.2]
  have nNV : (S NV).2.1 = 6 := by rw [hN.2.2.2.1.2]
  replace hsa := hsa hP0
  have hto := hsa.2.1.1
  refine g_aload_n hΓ rfl dX0_forgetTold_0 ?_
  refine x_geta (r := some (P.2.1 31)) (c := 0) hE hΓ in_X0 rfl hp.1 ⟨by decide, rfl⟩ 31 (ji := 31) rfl (by decide) (by decide) rfl q277 rfl rfl (pL_r hp 31 rfl rfl) dX0_forgetTold_1 ?_
  show gW Γ E (xM E S D R) 0 0 _ _ (.ref (P.2.1 31) :: _)
  refine x_callV (As := []) (rest := []) (c := 10) hE hΓ (x_J2_size hE hX S D R (P.2.1 31) 16 (pL_k hp 31 rfl (n := 16) rfl) (by decide) ) (pL_k hp 31 rfl (n := 16) rfl) ⟨by decide, rfl⟩ rfl rfl q845 q662 q663 q127 q664 ndJ2_size rfl (by decide) (by decide) (Nat.zero_le _) (Nat.zero_le _) rfl (Nat.le_of_ble_eq_true rfl) dX0_forgetTold_4 rfl (fun v1 S1 τ1 ρ1 h1 => ?_)
  obtain ⟨rfl, S1e, τ1e, ρ1e⟩ := h1
  have S1e := S1e.symm; subst S1e
  have τ1e := τ1e.symm; subst τ1e
  have ρ1e := ρ1e.symm; subst ρ1e
  refine g_topi (hsa.1) ?_
  show gW Γ E (xM E S D R) _ _ _ _ (.int (iI (σ 6 0)) :: _)
  refine g_istore_n hΓ dX0_forgetTold_7 rfl (Nat.le_of_ble_eq_true rfl) (lv' := [some (.ref (P.1)), some (.int (iI (σ 6 0)))]) rfl ?_
  refine g_aload_n hΓ rfl dX0_forgetTold_8 ?_
  refine x_geta (r := some (P.2.1 31)) (c := 0) hE hΓ in_X0 rfl hp.1 ⟨by decide, rfl⟩ 31 (ji := 31) rfl (by decide) (by decide) rfl q277 rfl rfl (pL_r hp 31 rfl rfl) dX0_forgetTold_9 ?_
  show gW Γ E (xM E S D R) 0 0 _ _ (.ref (P.2.1 31) :: _)
  refine x_callV (As := []) (rest := []) (c := 10) hE hΓ (x_J2_clear hE hX S D R (P.2.1 31) 16 (pL_k hp 31 rfl (n := 16) rfl) (by decide) (hx).1 ) (pL_k hp 31 rfl (n := 16) rfl) ⟨by decide, rfl⟩ rfl rfl q829 q830 q831 q127 q832 ndJ2_clear rfl (by decide) (by decide) (Nat.zero_le _) (Nat.zero_le _) rfl (Nat.le_of_ble_eq_true rfl) dX0_forgetTold_12 rfl (fun v2 S2 τ2 ρ2 h2 => ?_)
  obtain ⟨rfl, h2, S2e⟩ := h2
  have S2e := S2e.symm; subst S2e
  have hxf := act_ft hx h2
  refine g_iload_n hΓ rfl dX0_forgetTold_15 ?_
  exact x_iret hΓ dX0_forgetTold_16 (Nat.zero_le _) (Nat.zero_le _) ⟨rfl, hxf, rfl⟩
set_option maxHeartbeats 4000000 in
theorem x_X0_tell {l : Launch} {E : gE} {X : State → Prop} {Z : Nat → Nat} {Y : Nat → Option Nat} (hE : E.2.1 = clsX) (hX : xOK l E X Z Y) (S : xS) (D : xD) (R : xR) (P : xPk) (σ : mS) (m : Int) (hx : Rx E Z S D R P σ) (hm : r32 m) (hP0 : P.2.1 99 = 0) : xC l E X yX0_tell cX0_tell 2 (some .int) 8 7 140 [.ref (P.1), .int (iI m)] S D R (fun rv S' D' R' => rv = some (.int (iI (if telC σ m then σ 6 0 + 1 else -1))) ∧ (Rx E Z S' D' R' P (if telC σ m then telS σ m else (us σ 13 5 (σ 13 5 + 1)))) ∧ sle S S') := by
  refine xC.of hX.1 (by decide) [some (.ref (P.1)), some (.int (iI m))] (Nat.le_of_ble_eq_true rfl) rfl rfl (fun Γ hΓ => ?_)
  obtain ⟨hg, hp, hki, hro, hnw, hbh, hsa, hpd⟩ := id hx
  obtain ⟨N, NI, NM, NV, hN⟩ := (hx).now
  have hAw := hg.2.2.2.2.2.2
  have hG : GS S D R := hg.1
  obtain ⟨h1000, h1009, h1042, h1043, h1044, h1045, h1046, h1047, hms, hsi, hsm, hnm⟩ := id hro
  have eN := hN.2.2.2.2.2.2.2.2.2.2.2.2
  have kNV : (S NV).1 = 45 := by rw [hN.2.2.2.1.2]
  have nNV : (S NV).2.1 = 6 := by rw [hN.2.2.2.1.2]
  replace hsa := hsa hP0
  have hto := hsa.2.1.1
  have k31 := pL_k hp 31 rfl (n := 16) rfl
  refine g_aload_n hΓ rfl dX0_tell_0 ?_
  refine g_iload_n hΓ rfl dX0_tell_1 ?_
  refine x_callV (As := [.int (iI m)]) (rest := []) (c := 0) hE hΓ (x_X0_isModel hE hX S D R P σ m hx (by first | assumption | omega) ) hp.1 ⟨by decide, rfl⟩ rfl rfl q852 q854 qs22 q123 q855 ndX0_isModel rfl (by decide) (by decide) (Nat.zero_le _) (Nat.zero_le _) rfl (Nat.le_of_ble_eq_true rfl) dX0_tell_2 rfl (fun v1 S1 τ1 ρ1 h1 => ?_)
  obtain ⟨rfl, S1e, τ1e, ρ1e⟩ := h1
  have S1e := S1e.symm; subst S1e
  have τ1e := τ1e.symm; subst τ1e
  have ρ1e := ρ1e.symm; subst ρ1e
  show gW Γ E (xM E S D R) _ _ _ _ (.int (iI (if 0 ≤ m ∧ m < σ 0 1000 then 1 else 0)) :: _)
  refine g_ifB_eq (tgt := 33) hΓ  dX0_tell_5 (by decide) (fun c2 => ?_) (fun c2 => ?_)
  · refine g_aload_n hΓ rfl dX0_tell_33 ?_
    refine g_iconst hΓ dX0_tell_34 ?_
    refine x_callV (As := [.int (iI 5)]) (rest := []) (c := 0) hE hΓ (x_X0_refused hE hX S D R P σ 5 hx (by first | assumption | omega) ) hp.1 ⟨by decide, rfl⟩ rfl rfl q366 q368 qs2 q123 q369 ndX0_refused rfl (by decide) (by decide) (Nat.zero_le _) (Nat.zero_le _) rfl (Nat.le_of_ble_eq_true rfl) dX0_tell_35 rfl (fun v3 S3 τ3 ρ3 h3 => ?_)
    obtain ⟨rfl, h3, S3e, τ3f, ρ3e⟩ := h3
    have S3e := S3e.symm; subst S3e
    have ρ3e := ρ3e.symm; subst ρ3e
    show gW Γ E (xM E S τ3 R) _ _ _ _ (.int (iI (-1)) :: _)
    exact x_iret hΓ dX0_tell_38 (Nat.zero_le _) (Nat.zero_le _) ⟨ri (by rw [if_neg (by omega)]), (by rw [if_neg (by omega)]; exact h3), (fun q h => rfl)⟩
  · refine g_aload_n hΓ rfl dX0_tell_8 ?_
    refine x_geta (r := some N) (c := 0) hE hΓ in_X0 rfl hp.1 ⟨by decide, rfl⟩ 4 (ji := 4) rfl (by decide) (by decide) rfl q250 rfl rfl hN.1.1 dX0_tell_9 ?_
    show gW Γ E (xM E S D R) 0 0 _ _ (.ref N :: _)
    refine x_geta (r := some NI) (c := 1) hE hΓ in_X1 rfl hN.1.2 ⟨by decide, rfl⟩ 1 (ji := 1) rfl (by decide) (by decide) rfl q200 rfl rfl hN.2.2.1.1 dX0_tell_12 ?_
    show gW Γ E (xM E S D R) 0 0 _ _ (.ref NI :: _)
    have hz5 : D NI 2 = σ 0 1009 := hN.2.2.2.2.1
    refine x_callV (As := []) (rest := []) (c := 10) hE hΓ (x_J2_isEmpty hE hX S D R NI 10 hN.2.2.1.2 (by decide) (by omega) ) hN.2.2.1.2 ⟨by decide, rfl⟩ rfl rfl q1143 q1144 q1145 q127 q1146 ndJ2_isEmpty rfl (by decide) (by decide) (Nat.zero_le _) (Nat.zero_le _) rfl (Nat.le_of_ble_eq_true rfl) dX0_tell_15 rfl (fun v4 S4 τ4 ρ4 h4 => ?_)
    obtain ⟨rfl, S4e, τ4e, ρ4e⟩ := h4
    have S4e := S4e.symm; subst S4e
    have τ4e := τ4e.symm; subst τ4e
    have ρ4e := ρ4e.symm; subst ρ4e
    refine g_topi (show (if D NI 2 = 0 then 1 else 0 : Int) = (if σ 0 1009 = 0 then 1 else 0) by rw [hN.2.2.2.2.1]) ?_
    show gW Γ E (xM E S D R) _ _ _ _ (.int (iI (if σ 0 1009 = 0 then 1 else 0)) :: _)
    refine g_ifB_ne (tgt := 33) hΓ  dX0_tell_18 (by decide) (fun c6 => ?_) (fun c6 => ?_)
    · refine g_aload_n hΓ rfl dX0_tell_33 ?_
      refine g_iconst hΓ dX0_tell_34 ?_
      refine x_callV (As := [.int (iI 5)]) (rest := []) (c := 0) hE hΓ (x_X0_refused hE hX S D R P σ 5 hx (by first | assumption | omega) ) hp.1 ⟨by decide, rfl⟩ rfl rfl q366 q368 qs2 q123 q369 ndX0_refused rfl (by decide) (by decide) (Nat.zero_le _) (Nat.zero_le _) rfl (Nat.le_of_ble_eq_true rfl) dX0_tell_35 rfl (fun v7 S7 τ7 ρ7 h7 => ?_)
      obtain ⟨rfl, h7, S7e, τ7f, ρ7e⟩ := h7
      have S7e := S7e.symm; subst S7e
      have ρ7e := ρ7e.symm; subst ρ7e
      show gW Γ E (xM E S τ7 R) _ _ _ _ (.int (iI (-1)) :: _)
      exact x_iret hΓ dX0_tell_38 (Nat.zero_le _) (Nat.zero_le _) ⟨ri (by rw [if_neg (by omega)]), (by rw [if_neg (by omega)]; exact h7), (fun q h => rfl)⟩
    · refine g_aload_n hΓ rfl dX0_tell_21 ?_
      refine x_geta (r := some (P.2.1 31)) (c := 0) hE hΓ in_X0 rfl hp.1 ⟨by decide, rfl⟩ 31 (ji := 31) rfl (by decide) (by decide) rfl q277 rfl rfl (pL_r hp 31 rfl rfl) dX0_tell_22 ?_
      show gW Γ E (xM E S D R) 0 0 _ _ (.ref (P.2.1 31) :: _)
      refine x_callV (As := []) (rest := []) (c := 10) hE hΓ (x_J2_size hE hX S D R (P.2.1 31) 16 (pL_k hp 31 rfl (n := 16) rfl) (by decide) ) (pL_k hp 31 rfl (n := 16) rfl) ⟨by decide, rfl⟩ rfl rfl q845 q662 q663 q127 q664 ndJ2_size rfl (by decide) (by decide) (Nat.zero_le _) (Nat.zero_le _) rfl (Nat.le_of_ble_eq_true rfl) dX0_tell_25 rfl (fun v8 S8 τ8 ρ8 h8 => ?_)
      obtain ⟨rfl, S8e, τ8e, ρ8e⟩ := h8
      have S8e := S8e.symm; subst S8e
      have τ8e := τ8e.symm; subst τ8e
      have ρ8e := ρ8e.symm; subst ρ8e
      refine g_topi (hsa.1) ?_
      show gW Γ E (xM E S D R) _ _ _ _ (.int (iI (σ 6 0)) :: _)
      refine g_bipush hΓ (by decide) dX0_tell_28 ?_
      refine g_icmp_ne (tgt := 39) hΓ (by omega) (by omega) dX0_tell_30 (by decide) (fun c9 => ?_) (fun c9 => ?_)
      · refine g_aload_n hΓ rfl dX0_tell_39 ?_
        refine x_geta (r := some (P.2.1 31)) (c := 0) hE hΓ in_X0 rfl hp.1 ⟨by decide, rfl⟩ 31 (ji := 31) rfl (by decide) (by decide) rfl q277 rfl rfl (pL_r hp 31 rfl rfl) dX0_tell_40 ?_
        show gW Γ E (xM E S D R) 0 0 _ _ (.ref (P.2.1 31) :: _)
        refine x_new (c := 9) hE hΓ (xn_new hX) 99 0 in_X9 rfl ⟨by decide, rfl⟩ tyX9 tyX9_ok rfl q1167 q1168 q147 fs0_9 (by omega) (by omega) dX0_tell_43 (fun q10 S10 δ10 ρ10 q10z q10w S10e δ10e ρ10e => ?_)
        have S10f : ∀ q9 : Nat, (S q9).1 ≠ 0 → S10 q9 = S q9 := fun q9 h9 => by rw [S10e]; exact uS_n (fun e9 => h9 (by rw [e9]; exact q10z))
        have S10q : S10 q10 = (99, 2, 0) := by rw [S10e]; exact uS_s _ _ _ _ _
        have δ10z : ∀ j9 : Int, δ10 q10 j9 = 0 := fun j9 => by rw [δ10e, uN_s]
        have δ10f : ∀ (q9 : Nat) (j9 : Int), q9 ≠ q10 → δ10 q9 j9 = D q9 j9 := fun q9 j9 h9 => by rw [δ10e, uN_n h9]
        have ρ10z : ∀ j9 : Int, ρ10 q10 j9 = none := fun j9 => by rw [ρ10e, uN_s]
        have ρ10f : ∀ (q9 : Nat) (j9 : Int), q9 ≠ q10 → ρ10 q9 j9 = R q9 j9 := fun q9 j9 h9 => by rw [ρ10e, uN_n h9]
        have kd11 : (S10 (P.1)).1 = 1 := kup hp.1 (by decide) S10f
        have kd12 : (S10 N).1 = 2 := kup hN.1.2 (by decide) S10f
        have kd13 : (S10 NI).1 = 10 := kup hN.2.2.1.2 (by decide) S10f
        have kd14 : (S10 NM).1 = 11 := kup hN.2.1.2 (by decide) S10f
        have kd15 : (S10 NV).1 = 45 := kup kNV (by decide) S10f
        have ln15 : (S10 NV).2.1 = 6 := nup kNV (by decide) nNV S10f
        have kd16 : (S10 (P.2.1 31)).1 = 16 := kup (pL_k hp 31 rfl (n := 16) rfl) (by decide) S10f
        have kdq10 : (S10 q10).1 = 99 := by rw [S10q]
        have lnq10 : (S10 q10).2.1 = 2 := by rw [S10q]
        refine g_dup hΓ rfl dX0_tell_46 ?_
        refine g_iload_n hΓ rfl dX0_tell_47 ?_
        refine g_aload_n hΓ rfl dX0_tell_48 ?_
        refine x_geta (r := some N) (c := 0) hE hΓ in_X0 rfl kd11 ⟨by decide, rfl⟩ 4 (ji := 4) rfl (by decide) (by decide) rfl q250 rfl rfl ((ρ10f (P.1) 4 (ne_k hp.1 q10z (by decide))).trans hN.1.1) dX0_tell_49 ?_
        show gW Γ E (xM E S10 δ10 ρ10) (0 + 1) (0 + 2) _ _ (.ref N :: _)
        refine x_geta (r := some NI) (c := 1) hE hΓ in_X1 rfl kd12 ⟨by decide, rfl⟩ 1 (ji := 1) rfl (by decide) (by decide) rfl q200 rfl rfl ((ρ10f N 1 (ne_k hN.1.2 q10z (by decide))).trans hN.2.2.1.1) dX0_tell_52 ?_
        show gW Γ E (xM E S10 δ10 ρ10) (0 + 1) (0 + 2) _ _ (.ref NI :: _)
        have hx1 := Rx_new hx q10z q10w S10e δ10e ρ10e (by decide)
        have he1 : ext S S10 D δ10 R ρ10 := ext_new q10z S10e δ10e ρ10e
        have ei9 : δ10 NI 2 = σ 0 1009 := ((δ10f NI 2 (ne_k hN.2.2.1.2 q10z (by decide))).trans hN.2.2.2.2.1)
        refine x_callI (As := [.int (iI m), .ref NI]) (rest := [.ref q10, .ref (P.2.1 31)]) hΓ (x_X9_init hE hX S10 δ10 ρ10 q10 NI 10 0 m S10q q10w hx1.1 hx1.2.2.1 kd13 (Or.inl rfl) (by rw [ei9]; omega) ) rfl q1169 q1170 q147 q1171 ndX9_init rfl rfl (by decide) (by decide) (by omega) (by omega) rfl (Nat.le_of_ble_eq_true rfl) dX0_tell_55 rfl (fun v17 S17 τ17 ρ17 h17 => ?_)
        obtain ⟨rfl, h17⟩ := h17
        have hne9 : ∀ p9, (S p9).1 ≠ 0 → p9 ≠ q10 := fun p9 h9 e9 => h9 (by rw [e9]; exact q10z)
        have he2 : ext S S17 D τ17 R ρ17 := ⟨fun p9 h9 => ((h17.2.2.1 p9 (by rw [he1.1 p9 h9]; exact h9) (hne9 p9 h9)).1).trans (he1.1 p9 h9), fun p9 h9 => ((h17.2.2.1 p9 (by rw [he1.1 p9 h9]; exact h9) (hne9 p9 h9)).2.1).trans (he1.2.1 p9 h9), fun p9 h9 => ((h17.2.2.1 p9 (by rw [he1.1 p9 h9]; exact h9) (hne9 p9 h9)).2.2).trans (he1.2.2 p9 h9)⟩
        have hx2 := Rx_ext0 he2 hx h17.1
        have kq9 : (S17 q10).1 = 9 := by rw [h17.2.1]
        have sle2 : sle S S17 := he2.1
        have etd := now_ext he1 hx
        have hel9 : ∀ i9, 0 ≤ i9 → i9 < σ 0 1009 → lE ρ17 (rf ρ17 (rf ρ17 q10 1) 1) i9 = lE R (rf R (rf R P.1 4) 1) i9 := fun i9 x9 y9 => by
          rw [h17.2.2.2.2.2.2.2 i9 x9 (by rw [ei9]; exact y9), show NI = rf R (rf R P.1 4) 1 by rw [eN.2.2.1, eN.1]]
          exact etd.2.2.2 i9
        obtain ⟨hg, hp, hki, hro0, hnw, hbh, hsa, hpd⟩ := id hx2
        have hro : rowOK (σ 0) := hro0
        obtain ⟨N, NI, NM, NV, hN0⟩ := (hx2).now
        have hN : nowF S17 τ17 ρ17 P σ N NI NM NV := hN0
        have hAw := hg.2.2.2.2.2.2
        have hG : GS S17 τ17 ρ17 := hg.1
        obtain ⟨h1000, h1009, h1042, h1043, h1044, h1045, h1046, h1047, hms, hsi, hsm, hnm⟩ := id hro
        have eN := hN.2.2.2.2.2.2.2.2.2.2.2.2
        have kNV : (S17 NV).1 = 45 := by rw [hN.2.2.2.1.2]
        have nNV : (S17 NV).2.1 = 6 := by rw [hN.2.2.2.1.2]
        have eNI : NI = rf ρ17 (rf ρ17 P.1 4) 1 := by rw [eN.2.2.1, eN.1]
        have eNM : NM = rf ρ17 (rf ρ17 P.1 4) 0 := by rw [eN.2.1, eN.1]
        have eNV : NV = rf ρ17 (rf ρ17 P.1 4) 2 := by rw [eN.2.2.2, eN.1]
        have hsa2 := hsa hP0
        have hz19 : τ17 (P.2.1 31) 2 = σ 6 0 := hsa2.1
        refine x_callV (As := [.ref q10]) (rest := []) (c := 10) hE hΓ (x_J2_add hE hX S17 τ17 ρ17 (P.2.1 31) q10 16 9 (pL_k hp 31 rfl (n := 16) rfl) (by decide) (hx2).1 kq9 rfl (by omega) ) (pL_k hp 31 rfl (n := 16) rfl) ⟨by decide, rfl⟩ rfl rfl q1138 q703 q704 q127 q705 ndJ2_add rfl (by decide) (by decide) (by omega) (by omega) rfl (Nat.le_of_ble_eq_true rfl) dX0_tell_58 rfl (fun v18 S18 τ18 ρ18 h18 => ?_)
        obtain ⟨rfl, h18, S18f⟩ := h18
        have kd20 : (S18 (P.1)).1 = 1 := kup hp.1 (by decide) S18f
        have kd21 : (S18 N).1 = 2 := kup hN.1.2 (by decide) S18f
        have kd22 : (S18 NI).1 = 10 := kup hN.2.2.1.2 (by decide) S18f
        have kd23 : (S18 NM).1 = 11 := kup hN.2.1.2 (by decide) S18f
        have kd24 : (S18 NV).1 = 45 := kup kNV (by decide) S18f
        have ln24 : (S18 NV).2.1 = 6 := nup kNV (by decide) nNV S18f
        have kd25 : (S18 q10).1 = 9 := kup kq9 (by decide) S18f
        have kd26 : (S18 (P.2.1 31)).1 = 16 := kup (pL_k hp 31 rfl (n := 16) rfl) (by decide) S18f
        have htc : telC σ m := ⟨by omega, by omega, by omega⟩
        have hxf := act_tell (q := q10) hx htc hP0 he2 hx2 kq9 h17.2.2.2.1 (h17.2.2.2.2.2.2.1.trans ei9) hel9 h18
        show gW Γ E (xM E S18 τ18 ρ18) _ _ _ _ (.int (iI 1) :: _)
        refine g_pop hΓ rfl dX0_tell_61 ?_
        refine g_aload_n hΓ rfl dX0_tell_62 ?_
        refine x_geta (r := some (P.2.1 31)) (c := 0) hE hΓ in_X0 rfl kd20 ⟨by decide, rfl⟩ 31 (ji := 31) rfl (by decide) (by decide) rfl q277 rfl rfl (pL_r hxf.2.1 31 rfl rfl) dX0_tell_63 ?_
        show gW Γ E (xM E S18 τ18 ρ18) (0 + 1 + 4 + 1) (0 + 2 + 75 + 60) _ _ (.ref (P.2.1 31) :: _)
        refine x_callV (As := []) (rest := []) (c := 10) hE hΓ (x_J2_size hE hX S18 τ18 ρ18 (P.2.1 31) 16 kd26 (by decide) ) kd26 ⟨by decide, rfl⟩ rfl rfl q845 q662 q663 q127 q664 ndJ2_size rfl (by decide) (by decide) (by omega) (by omega) rfl (Nat.le_of_ble_eq_true rfl) dX0_tell_66 rfl (fun v27 S27 τ27 ρ27 h27 => ?_)
        obtain ⟨rfl, S27e, τ27e, ρ27e⟩ := h27
        have S27e := S27e.symm; subst S27e
        have τ27e := τ27e.symm; subst τ27e
        have ρ27e := ρ27e.symm; subst ρ27e
        refine g_topi ((h18.2.1.trans (by rw [hsa2.1]))) ?_
        show gW Γ E (xM E S18 τ18 ρ18) _ _ _ _ (.int (iI (σ 6 0 + 1)) :: _)
        exact x_iret hΓ dX0_tell_69 (by omega) (by omega) ⟨ri (by rw [if_pos htc]), (by rw [if_pos htc]; exact hxf), (sle_t sle2 S18f)⟩
      · refine g_aload_n hΓ rfl dX0_tell_33 ?_
        refine g_iconst hΓ dX0_tell_34 ?_
        refine x_callV (As := [.int (iI 5)]) (rest := []) (c := 0) hE hΓ (x_X0_refused hE hX S D R P σ 5 hx (by first | assumption | omega) ) hp.1 ⟨by decide, rfl⟩ rfl rfl q366 q368 qs2 q123 q369 ndX0_refused rfl (by decide) (by decide) (Nat.zero_le _) (Nat.zero_le _) rfl (Nat.le_of_ble_eq_true rfl) dX0_tell_35 rfl (fun v28 S28 τ28 ρ28 h28 => ?_)
        obtain ⟨rfl, h28, S28e, τ28f, ρ28e⟩ := h28
        have S28e := S28e.symm; subst S28e
        have ρ28e := ρ28e.symm; subst ρ28e
        show gW Γ E (xM E S τ28 R) _ _ _ _ (.int (iI (-1)) :: _)
        exact x_iret hΓ dX0_tell_38 (Nat.zero_le _) (Nat.zero_le _) ⟨ri (by rw [if_neg (by omega)]), (by rw [if_neg (by omega)]; exact h28), (fun q h => rfl)⟩
