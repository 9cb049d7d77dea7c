set_option maxRecDepth 100000
set_option maxHeartbeats 4000000 in
theorem x_X0_has {l : Launch} {E : gE} {X : State → Prop} {Z : Nat → Nat} {Y : Nat → Option Nat} (hE : E.2.1 = clsX) (hX : xOK l E X Z Y) (S : xS) (D : xD) (R : xR) (P : xPk) (σ : mS) (w : Int) (hx : Rx E Z S D R P σ) (hw : r32 w) (hP0 : P.2.1 99 = 0) : xC l E X yX0_has cX0_has 2 (some .int) 2 0 0 [.ref (P.1), .int (iI w)] S D R (fun rv S' D' R' => rv = some (.int (iI (if 2 ≤ w ∧ w ≤ 7 then σ 0 (1040 + w) else if w = 0 then σ 0 1000 else if w = 1 then σ 0 1009 else if w = 8 then σ 6 0 else if w = 9 then σ 4 0 else if w = 10 then σ 5 0 else -1))) ∧ S' = S ∧ D' = D ∧ R' = R) := by
  refine xC.of hX.1 (by decide) [some (.ref (P.1)), some (.int (iI w))] (Nat.le_of_ble_eq_true rfl) rfl rfl (fun Γ hΓ => ?_)
  obtain ⟨hg, hp, hki, hro, hnw, hbh, hsa, hpd⟩ := id hx
  obtain ⟨N, NI, NM, NV, hN⟩ := (hx).now
  have hAw := hg.2.2.2.2.2.2
  have hG : GS S D R := hg.1
  obtain ⟨h1000, h1009, h1042, h1043, h1044, h1045, h1046, h1047, hms, hsi, hsm, hnm⟩ := id hro
  have eN := hN.2.2.2.2.2.2.2.2.2.2.2.2
  have kNV : (S NV).1 = 45 := by rw [hN.2.2.2.1.2]
  have nNV : (S NV).2.1 = 6 := by rw [hN.2.2.2.1.2]
  replace hsa := hsa hP0
  refine g_iload_n hΓ rfl dX0_has_0 ?_
  rcases (show (w < 0 ∨ 10 < w) ∨ w = 0 ∨ w = 1 ∨ w = 2 ∨ w = 3 ∨ w = 4 ∨ w = 5 ∨ w = 6 ∨ w = 7 ∨ w = 8 ∨ w = 9 ∨ w = 10 by omega) with c1 | c1 | c1 | c1 | c1 | c1 | c1 | c1 | c1 | c1 | c1 | c1
  · refine g_tswOut (tgt := 98) hΓ (by omega) dX0_has_1 c1 (by decide) ?_
    refine g_iload_n hΓ rfl dX0_has_98 ?_
    refine g_i2l hΓ (by omega) dX0_has_99 ?_
    refine g_ldc2 (n := 2) hΓ rfl q846 (by decide) dX0_has_100 ?_
    refine g_ldc2 (n := 7) hΓ rfl q847 (by decide) dX0_has_103 ?_
    refine x_callS (As := [.long (lI w), .long (lI 2), .long (lI 7)]) (rest := []) hΓ (x_X0_isIn hE hX S D R w 2 7 (by first | assumption | omega) (by first | assumption | omega) (by first | assumption | omega)) rfl q387 q388 q123 q389 ndX0_isIn rfl (by decide) (by decide) (Nat.zero_le _) (Nat.zero_le _) rfl (Nat.le_of_ble_eq_true rfl) dX0_has_106 rfl (fun v2 S2 τ2 ρ2 h2 => ?_)
    obtain ⟨rfl, S2e, τ2e, ρ2e⟩ := h2
    have S2e := S2e.symm; subst S2e
    have τ2e := τ2e.symm; subst τ2e
    have ρ2e := ρ2e.symm; subst ρ2e
    show gW Γ E (xM E S D R) _ _ _ _ (.int (iI (if 2 ≤ w ∧ w ≤ 7 then 1 else 0)) :: _)
    refine g_ifB_eq (tgt := 126) hΓ  dX0_has_109 (by decide) (fun c3 => ?_) (fun c3 => ?_)
    · refine g_iconst hΓ dX0_has_126 ?_
      exact x_iret hΓ dX0_has_127 (Nat.zero_le _) (Nat.zero_le _) ⟨ri (by first | (rw [if_pos (by omega)]; done) | (rw [if_neg (by omega)]; (repeat' split) <;> first | rfl | omega)), rfl, rfl, rfl⟩
    · refine g_aload_n hΓ rfl dX0_has_112 ?_
      refine x_geta (r := some N) (c := 0) hE hΓ in_X0 rfl hp.1 ⟨by decide, rfl⟩ 4 (ji := 4) rfl (by decide) (by decide) rfl q250 rfl rfl hN.1.1 dX0_has_113 ?_
      show gW Γ E (xM E S D R) 0 0 _ _ (.ref N :: _)
      refine x_geta (r := some NV) (c := 1) hE hΓ in_X1 rfl hN.1.2 ⟨by decide, rfl⟩ 2 (ji := 2) rfl (by decide) (by decide) rfl q203 rfl rfl hN.2.2.2.1.1 dX0_has_116 ?_
      show gW Γ E (xM E S D R) 0 0 _ _ (.ref NV :: _)
      refine g_iload_n hΓ rfl dX0_has_119 ?_
      refine g_iconst hΓ dX0_has_120 ?_
      refine g_isub hΓ dX0_has_121 ?_
      refine x_iald hΓ kNV nNV ⟨by decide, rfl⟩ (by omega) (by omega) dX0_has_122 ?_
      refine g_topi ((show D NV (w - 2) = σ 0 (1040 + w) by rcases (show w = 2 ∨ w = 3 ∨ w = 4 ∨ w = 5 ∨ w = 6 ∨ w = 7 by omega) with h9 | h9 | h9 | h9 | h9 | h9 <;> rw [h9] <;> first | exact hN.2.2.2.2.2.2.1 | exact hN.2.2.2.2.2.2.2.1 | exact hN.2.2.2.2.2.2.2.2.1 | exact hN.2.2.2.2.2.2.2.2.2.1 | exact hN.2.2.2.2.2.2.2.2.2.2.1 | exact hN.2.2.2.2.2.2.2.2.2.2.2.1)) ?_
      refine g_goto (tgt := 127) hΓ dX0_has_123 (by decide) ?_
      exact x_iret hΓ dX0_has_127 (Nat.zero_le _) (Nat.zero_le _) ⟨ri (by first | (rw [if_pos (by omega)]; done) | (rw [if_neg (by omega)]; (repeat' split) <;> first | rfl | omega)), rfl, rfl, rfl⟩
  · refine g_tswIn (tgt := 60) hΓ (by omega) 0 dX0_has_1 (by rw [c1]; decide) (by decide) rfl (by decide) ?_
    refine g_aload_n hΓ rfl dX0_has_60 ?_
    refine x_callV (As := []) (rest := []) (c := 0) hE hΓ (x_X0_models hE hX S D R P σ  hx  ) hp.1 ⟨by decide, rfl⟩ rfl rfl q841 q843 qs21 q123 q844 ndX0_models rfl (by decide) (by decide) (Nat.zero_le _) (Nat.zero_le _) rfl (Nat.le_of_ble_eq_true rfl) dX0_has_61 rfl (fun v4 S4 τ4 ρ4 h4 => ?_)
    obtain ⟨rfl, S4e, τ4e, ρ4e⟩ := h4
    have S4e := S4e.symm; subst S4e
    have τ4e := τ4e.symm; subst τ4e
    have ρ4e := ρ4e.symm; subst ρ4e
    show gW Γ E (xM E S D R) _ _ _ _ (.int (iI (σ 0 1000)) :: _)
    exact x_iret hΓ dX0_has_64 (Nat.zero_le _) (Nat.zero_le _) ⟨ri (by first | (rw [if_pos (by omega)]; done) | (rw [if_neg (by omega)]; (repeat' split) <;> first | rfl | omega)), rfl, rfl, rfl⟩
  · refine g_tswIn (tgt := 65) hΓ (by omega) 1 dX0_has_1 (by rw [c1]; decide) (by decide) rfl (by decide) ?_
    refine g_aload_n hΓ rfl dX0_has_65 ?_
    refine x_geta (r := some N) (c := 0) hE hΓ in_X0 rfl hp.1 ⟨by decide, rfl⟩ 4 (ji := 4) rfl (by decide) (by decide) rfl q250 rfl rfl hN.1.1 dX0_has_66 ?_
    show gW Γ E (xM E S D R) 0 0 _ _ (.ref N :: _)
    refine x_geta (r := some NI) (c := 1) hE hΓ in_X1 rfl hN.1.2 ⟨by decide, rfl⟩ 1 (ji := 1) rfl (by decide) (by decide) rfl q200 rfl rfl hN.2.2.1.1 dX0_has_69 ?_
    show gW Γ E (xM E S D R) 0 0 _ _ (.ref NI :: _)
    refine x_callV (As := []) (rest := []) (c := 10) hE hΓ (x_J2_size hE hX S D R NI 10 hN.2.2.1.2 (by decide) ) hN.2.2.1.2 ⟨by decide, rfl⟩ rfl rfl q845 q662 q663 q127 q664 ndJ2_size rfl (by decide) (by decide) (Nat.zero_le _) (Nat.zero_le _) rfl (Nat.le_of_ble_eq_true rfl) dX0_has_72 rfl (fun v5 S5 τ5 ρ5 h5 => ?_)
    obtain ⟨rfl, S5e, τ5e, ρ5e⟩ := h5
    have S5e := S5e.symm; subst S5e
    have τ5e := τ5e.symm; subst τ5e
    have ρ5e := ρ5e.symm; subst ρ5e
    refine g_topi (hN.2.2.2.2.1) ?_
    show gW Γ E (xM E S D R) _ _ _ _ (.int (iI (σ 0 1009)) :: _)
    exact x_iret hΓ dX0_has_75 (Nat.zero_le _) (Nat.zero_le _) ⟨ri (by first | (rw [if_pos (by omega)]; done) | (rw [if_neg (by omega)]; (repeat' split) <;> first | rfl | omega)), rfl, rfl, rfl⟩
  · refine g_tswIn (tgt := 98) hΓ (by omega) 2 dX0_has_1 (by rw [c1]; decide) (by decide) rfl (by decide) ?_
    refine g_iload_n hΓ rfl dX0_has_98 ?_
    refine g_i2l hΓ (by omega) dX0_has_99 ?_
    refine g_ldc2 (n := 2) hΓ rfl q846 (by decide) dX0_has_100 ?_
    refine g_ldc2 (n := 7) hΓ rfl q847 (by decide) dX0_has_103 ?_
    refine x_callS (As := [.long (lI w), .long (lI 2), .long (lI 7)]) (rest := []) hΓ (x_X0_isIn hE hX S D R w 2 7 (by first | assumption | omega) (by first | assumption | omega) (by first | assumption | omega)) rfl q387 q388 q123 q389 ndX0_isIn rfl (by decide) (by decide) (Nat.zero_le _) (Nat.zero_le _) rfl (Nat.le_of_ble_eq_true rfl) dX0_has_106 rfl (fun v6 S6 τ6 ρ6 h6 => ?_)
    obtain ⟨rfl, S6e, τ6e, ρ6e⟩ := h6
    have S6e := S6e.symm; subst S6e
    have τ6e := τ6e.symm; subst τ6e
    have ρ6e := ρ6e.symm; subst ρ6e
    show gW Γ E (xM E S D R) _ _ _ _ (.int (iI (if 2 ≤ w ∧ w ≤ 7 then 1 else 0)) :: _)
    refine g_ifB_eq (tgt := 126) hΓ  dX0_has_109 (by decide) (fun c7 => ?_) (fun c7 => ?_)
    · refine g_iconst hΓ dX0_has_126 ?_
      exact x_iret hΓ dX0_has_127 (Nat.zero_le _) (Nat.zero_le _) ⟨ri (by first | (rw [if_pos (by omega)]; done) | (rw [if_neg (by omega)]; (repeat' split) <;> first | rfl | omega)), rfl, rfl, rfl⟩
    · refine g_aload_n hΓ rfl dX0_has_112 ?_
      refine x_geta (r := some N) (c := 0) hE hΓ in_X0 rfl hp.1 ⟨by decide, rfl⟩ 4 (ji := 4) rfl (by decide) (by decide) rfl q250 rfl rfl hN.1.1 dX0_has_113 ?_
      show gW Γ E (xM E S D R) 0 0 _ _ (.ref N :: _)
      refine x_geta (r := some NV) (c := 1) hE hΓ in_X1 rfl hN.1.2 ⟨by decide, rfl⟩ 2 (ji := 2) rfl (by decide) (by decide) rfl q203 rfl rfl hN.2.2.2.1.1 dX0_has_116 ?_
      show gW Γ E (xM E S D R) 0 0 _ _ (.ref NV :: _)
      refine g_iload_n hΓ rfl dX0_has_119 ?_
      refine g_iconst hΓ dX0_has_120 ?_
      refine g_isub hΓ dX0_has_121 ?_
      refine x_iald hΓ kNV nNV ⟨by decide, rfl⟩ (by omega) (by omega) dX0_has_122 ?_
      refine g_topi ((show D NV (w - 2) = σ 0 (1040 + w) by rcases (show w = 2 ∨ w = 3 ∨ w = 4 ∨ w = 5 ∨ w = 6 ∨ w = 7 by omega) with h9 | h9 | h9 | h9 | h9 | h9 <;> rw [h9] <;> first | exact hN.2.2.2.2.2.2.1 | exact hN.2.2.2.2.2.2.2.1 | exact hN.2.2.2.2.2.2.2.2.1 | exact hN.2.2.2.2.2.2.2.2.2.1 | exact hN.2.2.2.2.2.2.2.2.2.2.1 | exact hN.2.2.2.2.2.2.2.2.2.2.2.1)) ?_
      refine g_goto (tgt := 127) hΓ dX0_has_123 (by decide) ?_
      exact x_iret hΓ dX0_has_127 (Nat.zero_le _) (Nat.zero_le _) ⟨ri (by first | (rw [if_pos (by omega)]; done) | (rw [if_neg (by omega)]; (repeat' split) <;> first | rfl | omega)), rfl, rfl, rfl⟩
  · refine g_tswIn (tgt := 98) hΓ (by omega) 3 dX0_has_1 (by rw [c1]; decide) (by decide) rfl (by decide) ?_
    refine g_iload_n hΓ rfl dX0_has_98 ?_
    refine g_i2l hΓ (by omega) dX0_has_99 ?_
    refine g_ldc2 (n := 2) hΓ rfl q846 (by decide) dX0_has_100 ?_
    refine g_ldc2 (n := 7) hΓ rfl q847 (by decide) dX0_has_103 ?_
    refine x_callS (As := [.long (lI w), .long (lI 2), .long (lI 7)]) (rest := []) hΓ (x_X0_isIn hE hX S D R w 2 7 (by first | assumption | omega) (by first | assumption | omega) (by first | assumption | omega)) rfl q387 q388 q123 q389 ndX0_isIn rfl (by decide) (by decide) (Nat.zero_le _) (Nat.zero_le _) rfl (Nat.le_of_ble_eq_true rfl) dX0_has_106 rfl (fun v8 S8 τ8 ρ8 h8 => ?_)
    obtain ⟨rfl, S8e, τ8e, ρ8e⟩ := h8
    have S8e := S8e.symm; subst S8e
    have τ8e := τ8e.symm; subst τ8e
    have ρ8e := ρ8e.symm; subst ρ8e
    show gW Γ E (xM E S D R) _ _ _ _ (.int (iI (if 2 ≤ w ∧ w ≤ 7 then 1 else 0)) :: _)
    refine g_ifB_eq (tgt := 126) hΓ  dX0_has_109 (by decide) (fun c9 => ?_) (fun c9 => ?_)
    · refine g_iconst hΓ dX0_has_126 ?_
      exact x_iret hΓ dX0_has_127 (Nat.zero_le _) (Nat.zero_le _) ⟨ri (by first | (rw [if_pos (by omega)]; done) | (rw [if_neg (by omega)]; (repeat' split) <;> first | rfl | omega)), rfl, rfl, rfl⟩
    · refine g_aload_n hΓ rfl dX0_has_112 ?_
      refine x_geta (r := some N) (c := 0) hE hΓ in_X0 rfl hp.1 ⟨by decide, rfl⟩ 4 (ji := 4) rfl (by decide) (by decide) rfl q250 rfl rfl hN.1.1 dX0_has_113 ?_
      show gW Γ E (xM E S D R) 0 0 _ _ (.ref N :: _)
      refine x_geta (r := some NV) (c := 1) hE hΓ in_X1 rfl hN.1.2 ⟨by decide, rfl⟩ 2 (ji := 2) rfl (by decide) (by decide) rfl q203 rfl rfl hN.2.2.2.1.1 dX0_has_116 ?_
      show gW Γ E (xM E S D R) 0 0 _ _ (.ref NV :: _)
      refine g_iload_n hΓ rfl dX0_has_119 ?_
      refine g_iconst hΓ dX0_has_120 ?_
      refine g_isub hΓ dX0_has_121 ?_
      refine x_iald hΓ kNV nNV ⟨by decide, rfl⟩ (by omega) (by omega) dX0_has_122 ?_
      refine g_topi ((show D NV (w - 2) = σ 0 (1040 + w) by rcases (show w = 2 ∨ w = 3 ∨ w = 4 ∨ w = 5 ∨ w = 6 ∨ w = 7 by omega) with h9 | h9 | h9 | h9 | h9 | h9 <;> rw [h9] <;> first | exact hN.2.2.2.2.2.2.1 | exact hN.2.2.2.2.2.2.2.1 | exact hN.2.2.2.2.2.2.2.2.1 | exact hN.2.2.2.2.2.2.2.2.2.1 | exact hN.2.2.2.2.2.2.2.2.2.2.1 | exact hN.2.2.2.2.2.2.2.2.2.2.2.1)) ?_
      refine g_goto (tgt := 127) hΓ dX0_has_123 (by decide) ?_
      exact x_iret hΓ dX0_has_127 (Nat.zero_le _) (Nat.zero_le _) ⟨ri (by first | (rw [if_pos (by omega)]; done) | (rw [if_neg (by omega)]; (repeat' split) <;> first | rfl | omega)), rfl, rfl, rfl⟩
  · refine g_tswIn (tgt := 98) hΓ (by omega) 4 dX0_has_1 (by rw [c1]; decide) (by decide) rfl (by decide) ?_
    refine g_iload_n hΓ rfl dX0_has_98 ?_
    refine g_i2l hΓ (by omega) dX0_has_99 ?_
    refine g_ldc2 (n := 2) hΓ rfl q846 (by decide) dX0_has_100 ?_
    refine g_ldc2 (n := 7) hΓ rfl q847 (by decide) dX0_has_103 ?_
    refine x_callS (As := [.long (lI w), .long (lI 2), .long (lI 7)]) (rest := []) hΓ (x_X0_isIn hE hX S D R w 2 7 (by first | assumption | omega) (by first | assumption | omega) (by first | assumption | omega)) rfl q387 q388 q123 q389 ndX0_isIn rfl (by decide) (by decide) (Nat.zero_le _) (Nat.zero_le _) rfl (Nat.le_of_ble_eq_true rfl) dX0_has_106 rfl (fun v10 S10 τ10 ρ10 h10 => ?_)
    obtain ⟨rfl, S10e, τ10e, ρ10e⟩ := h10
    have S10e := S10e.symm; subst S10e
    have τ10e := τ10e.symm; subst τ10e
    have ρ10e := ρ10e.symm; subst ρ10e
    show gW Γ E (xM E S D R) _ _ _ _ (.int (iI (if 2 ≤ w ∧ w ≤ 7 then 1 else 0)) :: _)
    refine g_ifB_eq (tgt := 126) hΓ  dX0_has_109 (by decide) (fun c11 => ?_) (fun c11 => ?_)
    · refine g_iconst hΓ dX0_has_126 ?_
      exact x_iret hΓ dX0_has_127 (Nat.zero_le _) (Nat.zero_le _) ⟨ri (by first | (rw [if_pos (by omega)]; done) | (rw [if_neg (by omega)]; (repeat' split) <;> first | rfl | omega)), rfl, rfl, rfl⟩
    · refine g_aload_n hΓ rfl dX0_has_112 ?_
      refine x_geta (r := some N) (c := 0) hE hΓ in_X0 rfl hp.1 ⟨by decide, rfl⟩ 4 (ji := 4) rfl (by decide) (by decide) rfl q250 rfl rfl hN.1.1 dX0_has_113 ?_
      show gW Γ E (xM E S D R) 0 0 _ _ (.ref N :: _)
      refine x_geta (r := some NV) (c := 1) hE hΓ in_X1 rfl hN.1.2 ⟨by decide, rfl⟩ 2 (ji := 2) rfl (by decide) (by decide) rfl q203 rfl rfl hN.2.2.2.1.1 dX0_has_116 ?_
      show gW Γ E (xM E S D R) 0 0 _ _ (.ref NV :: _)
      refine g_iload_n hΓ rfl dX0_has_119 ?_
      refine g_iconst hΓ dX0_has_120 ?_
      refine g_isub hΓ dX0_has_121 ?_
      refine x_iald hΓ kNV nNV ⟨by decide, rfl⟩ (by omega) (by omega) dX0_has_122 ?_
      refine g_topi ((show D NV (w - 2) = σ 0 (1040 + w) by rcases (show w = 2 ∨ w = 3 ∨ w = 4 ∨ w = 5 ∨ w = 6 ∨ w = 7 by omega) with h9 | h9 | h9 | h9 | h9 | h9 <;> rw [h9] <;> first | exact hN.2.2.2.2.2.2.1 | exact hN.2.2.2.2.2.2.2.1 | exact hN.2.2.2.2.2.2.2.2.1 | exact hN.2.2.2.2.2.2.2.2.2.1 | exact hN.2.2.2.2.2.2.2.2.2.2.1 | exact hN.2.2.2.2.2.2.2.2.2.2.2.1)) ?_
      refine g_goto (tgt := 127) hΓ dX0_has_123 (by decide) ?_
      exact x_iret hΓ dX0_has_127 (Nat.zero_le _) (Nat.zero_le _) ⟨ri (by first | (rw [if_pos (by omega)]; done) | (rw [if_neg (by omega)]; (repeat' split) <;> first | rfl | omega)), rfl, rfl, rfl⟩
  · refine g_tswIn (tgt := 98) hΓ (by omega) 5 dX0_has_1 (by rw [c1]; decide) (by decide) rfl (by decide) ?_
    refine g_iload_n hΓ rfl dX0_has_98 ?_
    refine g_i2l hΓ (by omega) dX0_has_99 ?_
    refine g_ldc2 (n := 2) hΓ rfl q846 (by decide) dX0_has_100 ?_
    refine g_ldc2 (n := 7) hΓ rfl q847 (by decide) dX0_has_103 ?_
    refine x_callS (As := [.long (lI w), .long (lI 2), .long (lI 7)]) (rest := []) hΓ (x_X0_isIn hE hX S D R w 2 7 (by first | assumption | omega) (by first | assumption | omega) (by first | assumption | omega)) rfl q387 q388 q123 q389 ndX0_isIn rfl (by decide) (by decide) (Nat.zero_le _) (Nat.zero_le _) rfl (Nat.le_of_ble_eq_true rfl) dX0_has_106 rfl (fun v12 S12 τ12 ρ12 h12 => ?_)
    obtain ⟨rfl, S12e, τ12e, ρ12e⟩ := h12
    have S12e := S12e.symm; subst S12e
    have τ12e := τ12e.symm; subst τ12e
    have ρ12e := ρ12e.symm; subst ρ12e
    show gW Γ E (xM E S D R) _ _ _ _ (.int (iI (if 2 ≤ w ∧ w ≤ 7 then 1 else 0)) :: _)
    refine g_ifB_eq (tgt := 126) hΓ  dX0_has_109 (by decide) (fun c13 => ?_) (fun c13 => ?_)
    · refine g_iconst hΓ dX0_has_126 ?_
      exact x_iret hΓ dX0_has_127 (Nat.zero_le _) (Nat.zero_le _) ⟨ri (by first | (rw [if_pos (by omega)]; done) | (rw [if_neg (by omega)]; (repeat' split) <;> first | rfl | omega)), rfl, rfl, rfl⟩
    · refine g_aload_n hΓ rfl dX0_has_112 ?_
      refine x_geta (r := some N) (c := 0) hE hΓ in_X0 rfl hp.1 ⟨by decide, rfl⟩ 4 (ji := 4) rfl (by decide) (by decide) rfl q250 rfl rfl hN.1.1 dX0_has_113 ?_
      show gW Γ E (xM E S D R) 0 0 _ _ (.ref N :: _)
      refine x_geta (r := some NV) (c := 1) hE hΓ in_X1 rfl hN.1.2 ⟨by decide, rfl⟩ 2 (ji := 2) rfl (by decide) (by decide) rfl q203 rfl rfl hN.2.2.2.1.1 dX0_has_116 ?_
      show gW Γ E (xM E S D R) 0 0 _ _ (.ref NV :: _)
      refine g_iload_n hΓ rfl dX0_has_119 ?_
      refine g_iconst hΓ dX0_has_120 ?_
      refine g_isub hΓ dX0_has_121 ?_
      refine x_iald hΓ kNV nNV ⟨by decide, rfl⟩ (by omega) (by omega) dX0_has_122 ?_
      refine g_topi ((show D NV (w - 2) = σ 0 (1040 + w) by rcases (show w = 2 ∨ w = 3 ∨ w = 4 ∨ w = 5 ∨ w = 6 ∨ w = 7 by omega) with h9 | h9 | h9 | h9 | h9 | h9 <;> rw [h9] <;> first | exact hN.2.2.2.2.2.2.1 | exact hN.2.2.2.2.2.2.2.1 | exact hN.2.2.2.2.2.2.2.2.1 | exact hN.2.2.2.2.2.2.2.2.2.1 | exact hN.2.2.2.2.2.2.2.2.2.2.1 | exact hN.2.2.2.2.2.2.2.2.2.2.2.1)) ?_
      refine g_goto (tgt := 127) hΓ dX0_has_123 (by decide) ?_
      exact x_iret hΓ dX0_has_127 (Nat.zero_le _) (Nat.zero_le _) ⟨ri (by first | (rw [if_pos (by omega)]; done) | (rw [if_neg (by omega)]; (repeat' split) <;> first | rfl | omega)), rfl, rfl, rfl⟩
  · refine g_tswIn (tgt := 98) hΓ (by omega) 6 dX0_has_1 (by rw [c1]; decide) (by decide) rfl (by decide) ?_
    refine g_iload_n hΓ rfl dX0_has_98 ?_
    refine g_i2l hΓ (by omega) dX0_has_99 ?_
    refine g_ldc2 (n := 2) hΓ rfl q846 (by decide) dX0_has_100 ?_
    refine g_ldc2 (n := 7) hΓ rfl q847 (by decide) dX0_has_103 ?_
    refine x_callS (As := [.long (lI w), .long (lI 2), .long (lI 7)]) (rest := []) hΓ (x_X0_isIn hE hX S D R w 2 7 (by first | assumption | omega) (by first | assumption | omega) (by first | assumption | omega)) rfl q387 q388 q123 q389 ndX0_isIn rfl (by decide) (by decide) (Nat.zero_le _) (Nat.zero_le _) rfl (Nat.le_of_ble_eq_true rfl) dX0_has_106 rfl (fun v14 S14 τ14 ρ14 h14 => ?_)
    obtain ⟨rfl, S14e, τ14e, ρ14e⟩ := h14
    have S14e := S14e.symm; subst S14e
    have τ14e := τ14e.symm; subst τ14e
    have ρ14e := ρ14e.symm; subst ρ14e
    show gW Γ E (xM E S D R) _ _ _ _ (.int (iI (if 2 ≤ w ∧ w ≤ 7 then 1 else 0)) :: _)
    refine g_ifB_eq (tgt := 126) hΓ  dX0_has_109 (by decide) (fun c15 => ?_) (fun c15 => ?_)
    · refine g_iconst hΓ dX0_has_126 ?_
      exact x_iret hΓ dX0_has_127 (Nat.zero_le _) (Nat.zero_le _) ⟨ri (by first | (rw [if_pos (by omega)]; done) | (rw [if_neg (by omega)]; (repeat' split) <;> first | rfl | omega)), rfl, rfl, rfl⟩
    · refine g_aload_n hΓ rfl dX0_has_112 ?_
      refine x_geta (r := some N) (c := 0) hE hΓ in_X0 rfl hp.1 ⟨by decide, rfl⟩ 4 (ji := 4) rfl (by decide) (by decide) rfl q250 rfl rfl hN.1.1 dX0_has_113 ?_
      show gW Γ E (xM E S D R) 0 0 _ _ (.ref N :: _)
      refine x_geta (r := some NV) (c := 1) hE hΓ in_X1 rfl hN.1.2 ⟨by decide, rfl⟩ 2 (ji := 2) rfl (by decide) (by decide) rfl q203 rfl rfl hN.2.2.2.1.1 dX0_has_116 ?_
      show gW Γ E (xM E S D R) 0 0 _ _ (.ref NV :: _)
      refine g_iload_n hΓ rfl dX0_has_119 ?_
      refine g_iconst hΓ dX0_has_120 ?_
      refine g_isub hΓ dX0_has_121 ?_
      refine x_iald hΓ kNV nNV ⟨by decide, rfl⟩ (by omega) (by omega) dX0_has_122 ?_
      refine g_topi ((show D NV (w - 2) = σ 0 (1040 + w) by rcases (show w = 2 ∨ w = 3 ∨ w = 4 ∨ w = 5 ∨ w = 6 ∨ w = 7 by omega) with h9 | h9 | h9 | h9 | h9 | h9 <;> rw [h9] <;> first | exact hN.2.2.2.2.2.2.1 | exact hN.2.2.2.2.2.2.2.1 | exact hN.2.2.2.2.2.2.2.2.1 | exact hN.2.2.2.2.2.2.2.2.2.1 | exact hN.2.2.2.2.2.2.2.2.2.2.1 | exact hN.2.2.2.2.2.2.2.2.2.2.2.1)) ?_
      refine g_goto (tgt := 127) hΓ dX0_has_123 (by decide) ?_
      exact x_iret hΓ dX0_has_127 (Nat.zero_le _) (Nat.zero_le _) ⟨ri (by first | (rw [if_pos (by omega)]; done) | (rw [if_neg (by omega)]; (repeat' split) <;> first | rfl | omega)), rfl, rfl, rfl⟩
  · refine g_tswIn (tgt := 98) hΓ (by omega) 7 dX0_has_1 (by rw [c1]; decide) (by decide) rfl (by decide) ?_
    refine g_iload_n hΓ rfl dX0_has_98 ?_
    refine g_i2l hΓ (by omega) dX0_has_99 ?_
    refine g_ldc2 (n := 2) hΓ rfl q846 (by decide) dX0_has_100 ?_
    refine g_ldc2 (n := 7) hΓ rfl q847 (by decide) dX0_has_103 ?_
    refine x_callS (As := [.long (lI w), .long (lI 2), .long (lI 7)]) (rest := []) hΓ (x_X0_isIn hE hX S D R w 2 7 (by first | assumption | omega) (by first | assumption | omega) (by first | assumption | omega)) rfl q387 q388 q123 q389 ndX0_isIn rfl (by decide) (by decide) (Nat.zero_le _) (Nat.zero_le _) rfl (Nat.le_of_ble_eq_true rfl) dX0_has_106 rfl (fun v16 S16 τ16 ρ16 h16 => ?_)
    obtain ⟨rfl, S16e, τ16e, ρ16e⟩ := h16
    have S16e := S16e.symm; subst S16e
    have τ16e := τ16e.symm; subst τ16e
    have ρ16e := ρ16e.symm; subst ρ16e
    show gW Γ E (xM E S D R) _ _ _ _ (.int (iI (if 2 ≤ w ∧ w ≤ 7 then 1 else 0)) :: _)
    refine g_ifB_eq (tgt := 126) hΓ  dX0_has_109 (by decide) (fun c17 => ?_) (fun c17 => ?_)
    · refine g_iconst hΓ dX0_has_126 ?_
      exact x_iret hΓ dX0_has_127 (Nat.zero_le _) (Nat.zero_le _) ⟨ri (by first | (rw [if_pos (by omega)]; done) | (rw [if_neg (by omega)]; (repeat' split) <;> first | rfl | omega)), rfl, rfl, rfl⟩
    · refine g_aload_n hΓ rfl dX0_has_112 ?_
      refine x_geta (r := some N) (c := 0) hE hΓ in_X0 rfl hp.1 ⟨by decide, rfl⟩ 4 (ji := 4) rfl (by decide) (by decide) rfl q250 rfl rfl hN.1.1 dX0_has_113 ?_
      show gW Γ E (xM E S D R) 0 0 _ _ (.ref N :: _)
      refine x_geta (r := some NV) (c := 1) hE hΓ in_X1 rfl hN.1.2 ⟨by decide, rfl⟩ 2 (ji := 2) rfl (by decide) (by decide) rfl q203 rfl rfl hN.2.2.2.1.1 dX0_has_116 ?_
      show gW Γ E (xM E S D R) 0 0 _ _ (.ref NV :: _)
      refine g_iload_n hΓ rfl dX0_has_119 ?_
      refine g_iconst hΓ dX0_has_120 ?_
      refine g_isub hΓ dX0_has_121 ?_
      refine x_iald hΓ kNV nNV ⟨by decide, rfl⟩ (by omega) (by omega) dX0_has_122 ?_
      refine g_topi ((show D NV (w - 2) = σ 0 (1040 + w) by rcases (show w = 2 ∨ w = 3 ∨ w = 4 ∨ w = 5 ∨ w = 6 ∨ w = 7 by omega) with h9 | h9 | h9 | h9 | h9 | h9 <;> rw [h9] <;> first | exact hN.2.2.2.2.2.2.1 | exact hN.2.2.2.2.2.2.2.1 | exact hN.2.2.2.2.2.2.2.2.1 | exact hN.2.2.2.2.2.2.2.2.2.1 | exact hN.2.2.2.2.2.2.2.2.2.2.1 | exact hN.2.2.2.2.2.2.2.2.2.2.2.1)) ?_
      refine g_goto (tgt := 127) hΓ dX0_has_123 (by decide) ?_
      exact x_iret hΓ dX0_has_127 (Nat.zero_le _) (Nat.zero_le _) ⟨ri (by first | (rw [if_pos (by omega)]; done) | (rw [if_neg (by omega)]; (repeat' split) <;> first | rfl | omega)), rfl, rfl, rfl⟩
  · refine g_tswIn (tgt := 76) hΓ (by omega) 8 dX0_has_1 (by rw [c1]; decide) (by decide) rfl (by decide) ?_
    refine g_aload_n hΓ rfl dX0_has_76 ?_
    refine x_geta (r := some (P.2.1 31)) (c := 0) hE hΓ in_X0 rfl hp.1 ⟨by decide, rfl⟩ 31 (ji := 31) rfl (by decide) (by decide) rfl q277 rfl rfl (pL_r hp 31 rfl rfl) dX0_has_77 ?_
    show gW Γ E (xM E S D R) 0 0 _ _ (.ref (P.2.1 31) :: _)
    refine x_callV (As := []) (rest := []) (c := 10) hE hΓ (x_J2_size hE hX S D R (P.2.1 31) 16 (pL_k hp 31 rfl (n := 16) rfl) (by decide) ) (pL_k hp 31 rfl (n := 16) rfl) ⟨by decide, rfl⟩ rfl rfl q845 q662 q663 q127 q664 ndJ2_size rfl (by decide) (by decide) (Nat.zero_le _) (Nat.zero_le _) rfl (Nat.le_of_ble_eq_true rfl) dX0_has_80 rfl (fun v18 S18 τ18 ρ18 h18 => ?_)
    obtain ⟨rfl, S18e, τ18e, ρ18e⟩ := h18
    have S18e := S18e.symm; subst S18e
    have τ18e := τ18e.symm; subst τ18e
    have ρ18e := ρ18e.symm; subst ρ18e
    refine g_topi (hsa.1) ?_
    show gW Γ E (xM E S D R) _ _ _ _ (.int (iI (σ 6 0)) :: _)
    exact x_iret hΓ dX0_has_83 (Nat.zero_le _) (Nat.zero_le _) ⟨ri (by first | (rw [if_pos (by omega)]; done) | (rw [if_neg (by omega)]; (repeat' split) <;> first | rfl | omega)), rfl, rfl, rfl⟩
  · refine g_tswIn (tgt := 84) hΓ (by omega) 9 dX0_has_1 (by rw [c1]; decide) (by decide) rfl (by decide) ?_
    refine g_aload_n hΓ rfl dX0_has_84 ?_
    refine x_geta (r := some (P.2.1 5)) (c := 0) hE hΓ in_X0 rfl hp.1 ⟨by decide, rfl⟩ 5 (ji := 5) rfl (by decide) (by decide) rfl q251 rfl rfl (pL_r hp 5 rfl rfl) dX0_has_85 ?_
    show gW Γ E (xM E S D R) 0 0 _ _ (.ref (P.2.1 5) :: _)
    refine x_callV (As := []) (rest := []) (c := 10) hE hΓ (x_J2_size hE hX S D R (P.2.1 5) 14 (pL_k hp 5 rfl (n := 14) rfl) (by decide) ) (pL_k hp 5 rfl (n := 14) rfl) ⟨by decide, rfl⟩ rfl rfl q845 q662 q663 q127 q664 ndJ2_size rfl (by decide) (by decide) (Nat.zero_le _) (Nat.zero_le _) rfl (Nat.le_of_ble_eq_true rfl) dX0_has_88 rfl (fun v19 S19 τ19 ρ19 h19 => ?_)
    obtain ⟨rfl, S19e, τ19e, ρ19e⟩ := h19
    have S19e := S19e.symm; subst S19e
    have τ19e := τ19e.symm; subst τ19e
    have ρ19e := ρ19e.symm; subst ρ19e
    refine g_topi (hbh.1) ?_
    show gW Γ E (xM E S D R) _ _ _ _ (.int (iI (σ 4 0)) :: _)
    exact x_iret hΓ dX0_has_91 (Nat.zero_le _) (Nat.zero_le _) ⟨ri (by first | (rw [if_pos (by omega)]; done) | (rw [if_neg (by omega)]; (repeat' split) <;> first | rfl | omega)), rfl, rfl, rfl⟩
  · refine g_tswIn (tgt := 92) hΓ (by omega) 10 dX0_has_1 (by rw [c1]; decide) (by decide) rfl (by decide) ?_
    refine g_aload_n hΓ rfl dX0_has_92 ?_
    refine x_getl (c := 0) hE hΓ in_X0 rfl hp.1 ⟨by decide, rfl⟩ 35 (ji := 35) rfl (by decide) (by decide) rfl q281 rfl rfl dX0_has_93 ?_
    refine g_topl (hpd.2.2.2.2.1.1) ?_
    refine g_l2i hΓ dX0_has_96 ?_
    exact x_iret hΓ dX0_has_97 (Nat.zero_le _) (Nat.zero_le _) ⟨ri (by first | (rw [if_pos (by omega)]; done) | (rw [if_neg (by omega)]; (repeat' split) <;> first | rfl | omega)), rfl, rfl, rfl⟩
set_option maxHeartbeats 4000000 in
theorem x_X0_cell {l : Launch} {E : gE} {X : State → Prop} {Z : Nat → Nat} {Y : Nat → Option Nat} (hE : E.2.1 = clsX) (hX : xOK l E X Z Y) (S : xS) (D : xD) (R : xR) (P : xPk) (σ : mS) (m k u : Int) (hx : Rx E Z S D R P σ) (hm : r32 m) (hk : r32 k) (hu : r32 u) : xC l E X yX0_cell cX0_cell 5 (some .int) 6 0 0 [.ref (P.1), .int (iI m), .int (iI k), .int (iI u)] S D R (fun rv S' D' R' => rv = some (.int (iI (sp_cell σ m k u))) ∧ (Rx E Z S D' R P σ) ∧ S' = S ∧ fr S D D' [8003, 42, 43, 44, 46, 47] ∧ R' = R) := by
  refine xC.of hX.1 (by decide) [some (.ref (P.1)), some (.int (iI m)), some (.int (iI k)), some (.int (iI u)), none] (Nat.le_of_ble_eq_true rfl) rfl rfl (fun Γ hΓ => ?_)
  obtain ⟨hg, hp, hki, hro, hnw, hbh, hsa, hpd⟩ := id hx
  obtain ⟨N, NI, NM, NV, hN⟩ := (hx).now
  have hAw := hg.2.2.2.2.2.2
  have hG : GS S D R := hg.1
  obtain ⟨h1000, h1009, h1042, h1043, h1044, h1045, h1046, h1047, hms, hsi, hsm, hnm⟩ := id hro
  have eN := hN.2.2.2.2.2.2.2.2.2.2.2.2
  have kNV : (S NV).1 = 45 := by rw [hN.2.2.2.1.2]
  have nNV : (S NV).2.1 = 6 := by rw [hN.2.2.2.1.2]
  refine g_aload_n hΓ rfl dX0_cell_0 ?_
  refine g_iload_n hΓ rfl dX0_cell_1 ?_
  refine g_iload_n hΓ rfl dX0_cell_2 ?_
  refine x_callV (As := [.int (iI m), .int (iI k)]) (rest := []) (c := 0) hE hΓ (x_X0_strokeOf hE hX S D R P σ m k hx (by first | assumption | omega) (by first | assumption | omega) ) hp.1 ⟨by decide, rfl⟩ rfl rfl q911 q913 qs25 q123 q914 ndX0_strokeOf rfl (by decide) (by decide) (Nat.zero_le _) (Nat.zero_le _) rfl (Nat.le_of_ble_eq_true rfl) dX0_cell_3 rfl (fun v1 S1 τ1 ρ1 h1 => ?_)
  obtain ⟨rfl, h1, S1e, τ1f, ρ1e⟩ := h1
  have S1e := S1e.symm; subst S1e
  have ρ1e := ρ1e.symm; subst ρ1e
  show gW Γ E (xM E S τ1 R) _ _ _ _ (va_rf (if stO σ m k = -1 then none else some (lE R (lsA R (rf R P.1 4) m) k)) :: _)
  by_cases cs2 : stO σ m k = -1
  · rw [if_pos cs2]
    show gW Γ E (xM E S τ1 R) _ _ _ _ (.null :: _)
    refine g_astoreN hΓ dX0_cell_6 rfl (Nat.le_of_ble_eq_true rfl) (lv' := [some (.ref (P.1)), some (.int (iI m)), some (.int (iI k)), some (.int (iI u)), some (.null)]) rfl ?_
    refine g_aloadN hΓ rfl dX0_cell_8 ?_
    refine g_ifnullN (tgt := 44) hΓ dX0_cell_10 (by decide) ?_
    refine g_iconst hΓ dX0_cell_44 ?_
    exact x_iret hΓ dX0_cell_45 (Nat.zero_le _) (Nat.zero_le _) ⟨ri (by rw [sp_cell]; first | (rw [if_pos ⟨by assumption, by omega, by omega⟩]; done) | (rw [if_neg (fun h9 => h9.1 (by assumption))]; done) | (rw [if_neg (by omega)])), h1.1, rfl, (fun q9 j9 hk9 => by exact (τ1f q9 j9 (fun e9 => hk9 ((show ∀ x ∈ [8003, 42, 43, 44], x ∈ [8003, 42, 43, 44, 46, 47] by decide) _ e9)))), rfl⟩
  · rw [if_neg cs2]
    obtain ⟨s2, es2⟩ : ∃ z : Nat, z = lE R (lsA R (rf R P.1 4) m) k := ⟨_, rfl⟩
    rw [← es2]
    show gW Γ E (xM E S τ1 R) _ _ _ _ (.ref s2 :: _)
    rcases stO_ok hro m k with h9 | ⟨hm2, hk02, hk12, hse2, hs02, hs402, hso2⟩
    · exact absurd h9 cs2
    have hsr2 := (h1.1).letter hm2
    have hsd2 := hsr2.1.2 k hk02 hk12
    rw [← hse2, ← es2] at hsd2
    have hca2 := h1.2 cs2
    rw [← es2] at hca2
    obtain ⟨hsf3, hsk3, hsp3, hsl3⟩ := id (((h1.1).1.1 s2 hsd2.1).1)
    have kd4 : (S (rf R s2 4)).1 = 42 := by rw [hsf3.2.2.2.2.2.2.2.1]
    have ln4 : (S (rf R s2 4)).2.1 = 34 := by rw [hsf3.2.2.2.2.2.2.2.1]
    have kd5 : (S (rf R s2 5)).1 = 43 := by rw [hsf3.2.2.2.2.2.2.2.2.2.1]
    have ln5 : (S (rf R s2 5)).2.1 = 16 := by rw [hsf3.2.2.2.2.2.2.2.2.2.1]
    have kd6 : (S (rf R s2 6)).1 = 44 := by rw [hsf3.2.2.2.2.2.2.2.2.2.2.2]
    have ln6 : (S (rf R s2 6)).2.1 = 16 := by rw [hsf3.2.2.2.2.2.2.2.2.2.2.2]
    have hsn3 := hsf3.2.2.1
    have hsm3 := hsf3.2.2.2.2.2.1
    have hs13 := hsk3.1
    have hs23 := hsk3.2.1
    have hsc2 := sk_cds (e := σ 0 1042) ((h1.1).1.1 s2 hsd2.1).1 hsd2
    have hsn2 := hsc2.1
    have hcc2 := hsc2.2.2 hca2
    refine g_astore hΓ dX0_cell_6 rfl (Nat.le_of_ble_eq_true rfl) (lv' := [some (.ref (P.1)), some (.int (iI m)), some (.int (iI k)), some (.int (iI u)), some (.ref s2)]) rfl ?_
    refine g_aload hΓ rfl dX0_cell_8 ?_
    refine g_ifnull hΓ dX0_cell_10 ?_
    refine g_iload_n hΓ rfl dX0_cell_13 ?_
    refine g_i2l hΓ (by omega) dX0_cell_14 ?_
    refine g_lconst (a := 0) hΓ rfl dX0_cell_15 ?_
    refine g_lconst (a := 1) hΓ rfl dX0_cell_16 ?_
    refine x_callS (As := [.long (lI u), .long (lI 0), .long (lI 1)]) (rest := []) hΓ (x_X0_isIn hE hX S τ1 R u 0 1 (by first | assumption | omega) (by first | assumption | omega) (by first | assumption | omega)) rfl q387 q388 q123 q389 ndX0_isIn rfl (by decide) (by decide) (Nat.zero_le _) (Nat.zero_le _) rfl (Nat.le_of_ble_eq_true rfl) dX0_cell_17 rfl (fun v7 S7 τ7 ρ7 h7 => ?_)
    obtain ⟨rfl, S7e, τ7e, ρ7e⟩ := h7
    have S7e := S7e.symm; subst S7e
    have τ7e := τ7e.symm; subst τ7e
    have ρ7e := ρ7e.symm; subst ρ7e
    show gW Γ E (xM E S τ1 R) _ _ _ _ (.int (iI (if 0 ≤ u ∧ u ≤ 1 then 1 else 0)) :: _)
    refine g_ifB_eq (tgt := 44) hΓ  dX0_cell_20 (by decide) (fun c8 => ?_) (fun c8 => ?_)
    · refine g_iconst hΓ dX0_cell_44 ?_
      exact x_iret hΓ dX0_cell_45 (Nat.zero_le _) (Nat.zero_le _) ⟨ri (by rw [sp_cell]; first | (rw [if_pos ⟨by assumption, by omega, by omega⟩]; done) | (rw [if_neg (fun h9 => h9.1 (by assumption))]; done) | (rw [if_neg (by omega)])), h1.1, rfl, (fun q9 j9 hk9 => by exact (τ1f q9 j9 (fun e9 => hk9 ((show ∀ x ∈ [8003, 42, 43, 44], x ∈ [8003, 42, 43, 44, 46, 47] by decide) _ e9)))), rfl⟩
    · refine g_aload_n hΓ rfl dX0_cell_23 ?_
      refine x_geta (r := some (P.2.1 20)) (c := 0) hE hΓ in_X0 rfl hp.1 ⟨by decide, rfl⟩ 20 (ji := 20) rfl (by decide) (by decide) rfl q266 rfl rfl (pL_r hp 20 rfl rfl) dX0_cell_24 ?_
      show gW Γ E (xM E S τ1 R) 0 0 _ _ (.ref (P.2.1 20) :: _)
      refine g_aload_n hΓ rfl dX0_cell_27 ?_
      refine g_iload_n hΓ rfl dX0_cell_28 ?_
      refine x_callV (As := [.int (iI m)]) (rest := [.ref (P.2.1 20)]) (c := 0) hE hΓ (x_X0_strokesOf hE hX S τ1 R P σ m h1.1 (by first | assumption | omega) (by first | assumption | omega) ) hp.1 ⟨by decide, rfl⟩ rfl rfl q903 q905 qs24 q123 q906 ndX0_strokesOf rfl (by decide) (by decide) (Nat.zero_le _) (Nat.zero_le _) rfl (Nat.le_of_ble_eq_true rfl) dX0_cell_29 rfl (fun v9 S9 τ9 ρ9 h9 => ?_)
      obtain ⟨rfl, S9e, τ9e, ρ9e⟩ := h9
      have S9e := S9e.symm; subst S9e
      have τ9e := τ9e.symm; subst τ9e
      have ρ9e := ρ9e.symm; subst ρ9e
      show gW Γ E (xM E S τ1 R) _ _ _ _ (.ref (lsA R (rf R P.1 4) m) :: _)
      have hlt10 := (h1.1).letter (m := m) hm2
      obtain ⟨kl10, hkl10, hk310⟩ : ∃ k : Nat, (S (lsA R (rf R P.1 4) m)).1 = k ∧ (k = 10 ∨ k = 12 ∨ k = 13) := ⟨_, rfl, by have := hlt10.2.1; omega⟩
      have hkr10 : 10 ≤ kl10 ∧ kl10 ≤ 17 := by omega
      refine x_callV (As := [.ref (lsA R (rf R P.1 4) m)]) (rest := []) (c := 2) hE hΓ (x_X2_around_46 hE hX S τ1 R (P.2.1 20) (P.2.2 20 0) (P.2.2 20 1) (lsA R (rf R P.1 4) m) kl10 σ (fsS m) (mnS σ m) (pL_k hp 20 rfl (n := 3) rfl) ⟨(pB_r hp 20 (by decide) 0 (by decide)), (pB_s hp 20 (by decide) 0 (by decide) (k := 46) rfl).1, (pB_s hp 20 (by decide) 0 (by decide) (k := 46) rfl).2⟩ ⟨(pB_r hp 20 (by decide) 1 (by decide)), (pB_s hp 20 (by decide) 1 (by decide) (k := 47) rfl).1, (pB_s hp 20 (by decide) 1 (by decide) (k := 47) rfl).2⟩ hkl10 hk310 hlt10.2.2.1 hlt10.1 hlt10.2.2.2 (h1.1).1.1 hAw ) (pL_k hp 20 rfl (n := 3) rfl) ⟨by decide, rfl⟩ rfl rfl q953 q954 q955 q130 q956 ndX2_around rfl (by decide) (by decide) (Nat.zero_le _) (Nat.zero_le _) rfl (Nat.le_of_ble_eq_true rfl) dX0_cell_32 rfl (fun v11 S11 τ11 ρ11 h11 => ?_)
      obtain ⟨rfl, h11, S11e, τ11f, ρ11e⟩ := h11
      have S11e := S11e.symm; subst S11e
      have ρ11e := ρ11e.symm; subst ρ11e
      have hfD12 : fr S τ1 τ11 [46, 47] := (fun q9 j9 hk9 => by exact (τ11f q9 j9 (fun e9 => hk9 ((show ∀ x ∈ [46, 47], x ∈ [46, 47] by decide) _ e9))))
      have hxs12 : Rx E Z S τ11 R P σ := Rx_scr h1.1 (fr_w hfD12 (by decide)) fr_rfl (GS_fr (h1.1).1.1 hfD12 fr_rfl (m' := []) (by decide) (by decide))
      have hss13 := skR_scr (h1.1).1.1 (fr_w hfD12 (by decide)) fr_rfl hsd2
      have hcb13 := cel_box (i := u) (la := P.2.2 20 0) (ma := P.2.2 20 1) (hxs12).1.1 hss13 hlt10.2.2.2 (by omega) (by omega) (by omega) (h11 u (by omega))
      show gW Γ E (xM E S τ11 R) _ _ _ _ (.ref (P.2.1 20) :: _)
      refine g_aload hΓ rfl dX0_cell_35 ?_
      refine g_iload_n hΓ rfl dX0_cell_37 ?_
      refine x_callV (As := [.ref s2, .int (iI u)]) (rest := []) (c := 2) hE hΓ (x_X2_cell_46 hE hX S τ11 R (P.2.1 20) (P.2.2 20 0) (P.2.2 20 1) s2 u (pL_k hp 20 rfl (n := 3) rfl) ⟨(pB_r hp 20 (by decide) 0 (by decide)), (pB_s hp 20 (by decide) 0 (by decide) (k := 46) rfl).1, (pB_s hp 20 (by decide) 0 (by decide) (k := 46) rfl).2⟩ ⟨(pB_r hp 20 (by decide) 1 (by decide)), (pB_s hp 20 (by decide) 1 (by decide) (k := 47) rfl).1, (pB_s hp 20 (by decide) 1 (by decide) (k := 47) rfl).2⟩ hsd2.1 ((hxs12).1.1 s2 hsd2.1).1 (by first | decide | omega) hcb13.1 ) (pL_k hp 20 rfl (n := 3) rfl) ⟨by decide, rfl⟩ rfl rfl q972 q973 q974 q130 q975 ndX2_cell rfl (by decide) (by decide) (Nat.zero_le _) (Nat.zero_le _) rfl (Nat.le_of_ble_eq_true rfl) dX0_cell_38 rfl (fun v14 S14 τ14 ρ14 h14 => ?_)
      obtain ⟨rfl, S14e, τ14e, ρ14e⟩ := h14
      have S14e := S14e.symm; subst S14e
      have τ14e := τ14e.symm; subst τ14e
      have ρ14e := ρ14e.symm; subst ρ14e
      show gW Γ E (xM E S τ11 R) _ _ _ _ (.int (iI (3 * (enF 0 (strN S R s2) (τ11 (rf R s2 0)) u + enF 1 (strN S R s2) (τ11 (rf R s2 0)) u - 2 * τ11 (P.2.2 20 0) u) / (2 * (τ11 (P.2.2 20 1) u - τ11 (P.2.2 20 0) u) + 1))) :: _)
      refine g_topi (show (3 * (enF 0 (strN S R s2) (τ11 (rf R s2 0)) u + enF 1 (strN S R s2) (τ11 (rf R s2 0)) u - 2 * τ11 (P.2.2 20 0) u) / (2 * (τ11 (P.2.2 20 1) u - τ11 (P.2.2 20 0) u) + 1) : Int) = celS σ (stO σ m k) (fsS m) (mnS σ m) u from hcb13.2) ?_
      refine g_goto (tgt := 45) hΓ dX0_cell_41 (by decide) ?_
      exact x_iret hΓ dX0_cell_45 (Nat.zero_le _) (Nat.zero_le _) ⟨ri (by rw [sp_cell]; first | (rw [if_pos ⟨by assumption, by omega, by omega⟩]; done) | (rw [if_neg (fun h9 => h9.1 (by assumption))]; done) | (rw [if_neg (by omega)])), hxs12, rfl, (fun q9 j9 hk9 => by exact ((τ11f q9 j9 (fun e9 => hk9 ((show ∀ x ∈ [46, 47], x ∈ [8003, 42, 43, 44, 46, 47] by decide) _ e9))).trans (τ1f q9 j9 (fun e9 => hk9 ((show ∀ x ∈ [8003, 42, 43, 44], x ∈ [8003, 42, 43, 44, 46, 47] by decide) _ e9))))), rfl⟩
