set_option maxRecDepth 100000
set_option maxHeartbeats 4000000 in
theorem x_X0_stroke {l : Launch} {E : gE} {X : State → Prop} {Z : Nat → Nat} {Y : Nat → Option Nat} (hE : E.2.1 = clsX) (hX : xOK l E X Z Y) (S : xS) (D : xD) (R : xR) (P : xPk) (σ : mS)  (hx : Rx E Z S D R P σ) : xC l E X yX0_stroke cX0_stroke 4 (some .int) 8 17 400 [.ref (P.1)] S D R (fun rv S' D' R' => rv = some (.int (iI (if strC σ then σ 0 1009 else -1))) ∧ (Rx E Z S' D' R' P (if strC σ then rowS (remS (us σ 12 0 0)) (skF (σ 0) (σ 12 0) (σ 11)) else us (us σ 12 0 0) 13 2 (σ 13 2 + 1))) ∧ sle S S') := by
  refine xC.of hX.1 (by decide) [some (.ref (P.1)), none, none, none] (Nat.le_of_ble_eq_true rfl) rfl rfl (fun Γ hΓ => ?_)
  obtain ⟨hg, hp, hki, hro, hnw, hbh, hsa, hpd⟩ := id hx
  obtain ⟨N, NI, NM, NV, hN⟩ := (hx).now
  have hAw := hg.2.2.2.2.2.2
  have hG : GS S D R := hg.1
  obtain ⟨h1000, h1009, h1042, h1043, h1044, h1045, h1046, h1047, hms, hsi, hsm, hnm⟩ := id hro
  have eN := hN.2.2.2.2.2.2.2.2.2.2.2.2
  have kNV : (S NV).1 = 45 := by rw [hN.2.2.2.1.2]
  have nNV : (S NV).2.1 = 6 := by rw [hN.2.2.2.1.2]
  have htp := hpd.1.2
  have htd := hpd.2.1
  refine g_aload_n hΓ rfl dX0_stroke_0 ?_
  refine x_geti (c := 0) hE hΓ in_X0 rfl hp.1 ⟨by decide, rfl⟩ 1 (ji := 1) rfl (by decide) (by decide) rfl q246 rfl rfl dX0_stroke_1 ?_
  refine g_topi (hpd.1.1) ?_
  obtain ⟨x1, ex1⟩ : ∃ z9 : Int, z9 = σ 12 0 := ⟨_, rfl⟩
  refine g_topi ex1.symm ?_
  refine g_istore_n hΓ dX0_stroke_4 rfl (Nat.le_of_ble_eq_true rfl) (lv' := [some (.ref (P.1)), some (.int (iI x1)), none, none]) rfl ?_
  refine g_aload_n hΓ rfl dX0_stroke_5 ?_
  refine g_iconst hΓ dX0_stroke_6 ?_
  refine x_puti (c := 0) hE hΓ in_X0 rfl hp.1 ⟨by decide, rfl⟩ tyX0 tyX0_ok nmX0 (hAw _ (by rw [hp.1]; rfl)) 1 (ji := 1) rfl (by decide) (by decide) rfl q246 rfl rfl rfl rfl rfl rfl dX0_stroke_7 (fun τ2 τ2e => ?_)
  have τ2r : τ2 (P.1) 1 = 0 := by rw [τ2e]; exact us_s _ _ _ _
  have τ2f : ∀ (q9 : Nat) (j9 : Int), (q9 ≠ (P.1) ∨ j9 ≠ 1) → τ2 q9 j9 = D q9 j9 := fun q9 j9 hh => by rw [τ2e]; exact us_n hh
  have hf9 : fr S D τ2 [1001] := (fun q9 j9 hk9 => by exact (τ2f q9 j9 (by by_cases e9 : q9 = (P.1); exact Or.inr (fun e8 => hk9 (by rw [e9, e8, hp.1]; decide)); exact Or.inl e9)))
  have hx0 : Rx E Z S τ2 R P (us σ 12 0 0) := (Rx_pen hx hf9 (by decide) (us_f (by decide)) (us_f (by decide)) (us_n (Or.inl (by decide))) (us_n (Or.inl (by decide))) (us_f (by decide)) (us_f (by decide)) (us_f (by decide)) (us_f (by decide)) ⟨⟨by rw [us_s]; exact τ2r, by rw [us_s]; decide⟩, by rw [show τ2 (P.2.1 0) = D (P.2.1 0) from fr_row hf9 (pA_k hp 0 rfl (n := 50) rfl) (by decide) (by decide)]; exact hpd.2.1, by rw [show τ2 (P.2.1 2) = D (P.2.1 2) from fr_row hf9 (pA_k hp 2 rfl (n := 52) rfl) (by decide) (by decide)]; exact hpd.2.2.1, by rw [show τ2 P.1 7 = D P.1 7 from fr_at hf9 hp.1 (by decide), show τ2 P.1 8 = D P.1 8 from fr_at hf9 hp.1 (by decide)]; exact hpd.2.2.2.1, by rw [show τ2 P.1 35 = D P.1 35 from fr_at hf9 hp.1 (by decide)]; exact hpd.2.2.2.2.1, by rw [show τ2 P.1 37 = D P.1 37 from fr_at hf9 hp.1 (by decide)]; exact hpd.2.2.2.2.2.1, by rw [show τ2 (P.2.1 36) = D (P.2.1 36) from fr_row hf9 (pA_k hp 36 rfl (n := 86) rfl) (by decide) (by decide)]; exact hpd.2.2.2.2.2.2⟩)
  obtain ⟨hg, hp, hki, hro0, hnw, hbh, hsa, hpd⟩ := id hx0
  have hro : rowOK (σ 0) := hro0
  obtain ⟨N, NI, NM, NV, hN0⟩ := (hx0).now
  have hN : nowF S τ2 R P σ N NI NM NV := hN0
  have hAw := hg.2.2.2.2.2.2
  have hG : GS S τ2 R := hg.1
  obtain ⟨h1000, h1009, h1042, h1043, h1044, h1045, h1046, h1047, hms, hsi, hsm, hnm⟩ := id hro
  have eN := hN.2.2.2.2.2.2.2.2.2.2.2.2
  have kNV : (S NV).1 = 45 := by rw [hN.2.2.2.1.2]
  have nNV : (S NV).2.1 = 6 := by rw [hN.2.2.2.1.2]
  have eNI : NI = rf R (rf R P.1 4) 1 := by rw [eN.2.2.1, eN.1]
  have eNM : NM = rf R (rf R P.1 4) 0 := by rw [eN.2.1, eN.1]
  have eNV : NV = rf R (rf R P.1 4) 2 := by rw [eN.2.2.2, eN.1]
  have fin : ∀ (t : xD) (b : Int) (k : Int), (Rx E Z S t R P (us σ 12 0 0)) → (b = 0 ∨ b = 1) → (b = 1 → strC σ ∧ ∀ j, 0 ≤ j → j < σ 12 0 → t (P.2.1 3) j = σ 11 j) → (b = 0 → ¬ strC σ) → gW Γ E (xM E S t R) 0 0 101 [some (.ref (P.1)), some (.int (iI x1)), some (.int (iI b)), some (.int (iI k))] [] := by
    intro t b k hx1 hb h1 h0
    obtain ⟨hg, hp, hki, hro0, hnw, hbh, hsa, hpd⟩ := id hx1
    have hro : rowOK (σ 0) := hro0
    obtain ⟨N, NI, NM, NV, hN0⟩ := (hx1).now
    have hN : nowF S t R P σ N NI NM NV := hN0
    have hAw := hg.2.2.2.2.2.2
    have hG : GS S t R := hg.1
    obtain ⟨h1000, h1009, h1042, h1043, h1044, h1045, h1046, h1047, hms, hsi, hsm, hnm⟩ := id hro
    have eN := hN.2.2.2.2.2.2.2.2.2.2.2.2
    have kNV : (S NV).1 = 45 := by rw [hN.2.2.2.1.2]
    have nNV : (S NV).2.1 = 6 := by rw [hN.2.2.2.1.2]
    have eNI : NI = rf R (rf R P.1 4) 1 := by rw [eN.2.2.1, eN.1]
    have eNM : NM = rf R (rf R P.1 4) 0 := by rw [eN.2.1, eN.1]
    have eNV : NV = rf R (rf R P.1 4) 2 := by rw [eN.2.2.2, eN.1]
    refine g_iload_n hΓ rfl dX0_stroke_101 ?_
    refine g_if_ne (tgt := 111) hΓ (by omega) dX0_stroke_102 (by decide) (fun c3 => ?_) (fun c3 => ?_)
    · refine g_aload_n hΓ rfl dX0_stroke_111 ?_
      refine x_callV (As := []) (rest := []) (c := 0) hE hΓ (x_X0_keeps hE hX S t R P (us σ 12 0 0)  hx1  ) hp.1 ⟨by decide, rfl⟩ rfl rfl q1264 q1266 qs51 q123 q1267 ndX0_keeps rfl (by decide) (by decide) (by omega) (by omega) rfl (Nat.le_of_ble_eq_true rfl) dX0_stroke_112 rfl (fun v4 S4 τ4 ρ4 h4 => ?_)
      obtain ⟨rfl, h4, S4f⟩ := h4
      have kd5 : (S4 (P.1)).1 = 1 := kup hp.1 (by decide) S4f
      have kd6 : (S4 N).1 = 2 := kup hN.1.2 (by decide) S4f
      have kd7 : (S4 NI).1 = 10 := kup hN.2.2.1.2 (by decide) S4f
      have kd8 : (S4 NM).1 = 11 := kup hN.2.1.2 (by decide) S4f
      have kd9 : (S4 NV).1 = 45 := kup kNV (by decide) S4f
      have ln9 : (S4 NV).2.1 = 6 := nup kNV (by decide) nNV S4f
      have hx1 := h4.1
      have e3k := h4.2
      obtain ⟨hg, hp, hki, hro0, hnw, hbh, hsa, hpd⟩ := id hx1
      have hro : rowOK (σ 0) := hro0
      obtain ⟨N, NI, NM, NV, hN0⟩ := (hx1).now
      have hN : nowF S4 τ4 ρ4 P σ N NI NM NV := hN0
      have hAw := hg.2.2.2.2.2.2
      have hG : GS S4 τ4 ρ4 := hg.1
      obtain ⟨h1000, h1009, h1042, h1043, h1044, h1045, h1046, h1047, hms, hsi, hsm, hnm⟩ := id hro
      have eN := hN.2.2.2.2.2.2.2.2.2.2.2.2
      have kNV : (S4 NV).1 = 45 := by rw [hN.2.2.2.1.2]
      have nNV : (S4 NV).2.1 = 6 := by rw [hN.2.2.2.1.2]
      have eNI : NI = rf ρ4 (rf ρ4 P.1 4) 1 := by rw [eN.2.2.1, eN.1]
      have eNM : NM = rf ρ4 (rf ρ4 P.1 4) 0 := by rw [eN.2.1, eN.1]
      have eNV : NV = rf ρ4 (rf ρ4 P.1 4) 2 := by rw [eN.2.2.2, eN.1]
      refine g_aload_n hΓ rfl dX0_stroke_115 ?_
      refine x_geta (r := some N) (c := 0) hE hΓ in_X0 rfl hp.1 ⟨by decide, rfl⟩ 4 (ji := 4) rfl (by decide) (by decide) rfl q250 rfl rfl hN.1.1 dX0_stroke_116 ?_
      show gW Γ E (xM E S4 τ4 ρ4) (0 + 9) (0 + 215) _ _ (.ref N :: _)
      refine x_geta (r := some NI) (c := 1) hE hΓ in_X1 rfl hN.1.2 ⟨by decide, rfl⟩ 1 (ji := 1) rfl (by decide) (by decide) rfl q200 rfl rfl hN.2.2.1.1 dX0_stroke_119 ?_
      show gW Γ E (xM E S4 τ4 ρ4) (0 + 9) (0 + 215) _ _ (.ref NI :: _)
      refine x_new (c := 8) hE hΓ (xn_new hX) 8 0 in_X8 rfl ⟨by decide, rfl⟩ tyX8 tyX8_ok rfl q915 q786 q144 fs0_8 (by omega) (by omega) dX0_stroke_122 (fun q10 S10 δ10 ρ10 q10z q10w S10e δ10e ρ10e => ?_)
      have S10f : ∀ q9 : Nat, (S4 q9).1 ≠ 0 → S10 q9 = S4 q9 := fun q9 h9 => by rw [S10e]; exact uS_n (fun e9 => h9 (by rw [e9]; exact q10z))
      have S10q : S10 q10 = (8, 7, 0) := by rw [S10e]; exact uS_s _ _ _ _ _
      have δ10z : ∀ j9 : Int, δ10 q10 j9 = 0 := fun j9 => by rw [δ10e, uN_s]
      have δ10f : ∀ (q9 : Nat) (j9 : Int), q9 ≠ q10 → δ10 q9 j9 = τ4 q9 j9 := fun q9 j9 h9 => by rw [δ10e, uN_n h9]
      have ρ10z : ∀ j9 : Int, ρ10 q10 j9 = none := fun j9 => by rw [ρ10e, uN_s]
      have ρ10f : ∀ (q9 : Nat) (j9 : Int), q9 ≠ q10 → ρ10 q9 j9 = ρ4 q9 j9 := fun q9 j9 h9 => by rw [ρ10e, uN_n h9]
      have kd11 : (S10 (P.1)).1 = 1 := kup hp.1 (by decide) S10f
      have kd12 : (S10 N).1 = 2 := kup hN.1.2 (by decide) S10f
      have kd13 : (S10 NI).1 = 10 := kup hN.2.2.1.2 (by decide) S10f
      have kd14 : (S10 NM).1 = 11 := kup hN.2.1.2 (by decide) S10f
      have kd15 : (S10 NV).1 = 45 := kup kNV (by decide) S10f
      have ln15 : (S10 NV).2.1 = 6 := nup kNV (by decide) nNV S10f
      have kdq10 : (S10 q10).1 = 8 := by rw [S10q]
      have lnq10 : (S10 q10).2.1 = 7 := by rw [S10q]
      refine g_dup hΓ rfl dX0_stroke_125 ?_
      refine g_aload_n hΓ rfl dX0_stroke_126 ?_
      refine x_geta (r := some (P.2.1 3)) (c := 0) hE hΓ in_X0 rfl kd11 ⟨by decide, rfl⟩ 3 (ji := 3) rfl (by decide) (by decide) rfl q248 rfl rfl ((ρ10f (P.1) 3 (ne_k hp.1 q10z (by decide))).trans (pA_r hp 3 rfl rfl)) dX0_stroke_127 ?_
      show gW Γ E (xM E S10 δ10 ρ10) (0 + 9 + 1) (0 + 215 + 7) _ _ (.ref (P.2.1 3) :: _)
      refine g_iload_n hΓ rfl dX0_stroke_130 ?_
      have hdn := del_new hg q10z S10e δ10e ρ10e
      have er9 : ∀ j9, 0 ≤ j9 → j9 < σ 12 0 → δ10 (P.2.1 3) j9 = σ 11 j9 := fun j9 x9 y9 => (δ10f _ _ (ne_k (pA_k hp 3 rfl (n := 53) rfl) q10z (by decide))).trans ((congrFun e3k j9).trans ((h1 (by omega)).2 j9 x9 y9))
      have h9s := (h1 (by omega)).1
      refine x_callI (As := [.ref (P.2.1 3), .int (iI x1)]) (rest := [.ref q10, .ref NI]) hΓ (x_X8_init hE hX S10 δ10 ρ10 q10 (P.2.1 3) 0 x1 S10q q10w hdn.1 (kup (pA_k hp 3 rfl (n := 53) rfl) (by decide) S10f) (nup (pA_k hp 3 rfl (n := 53) rfl) (by decide) (pA_n hp 3 rfl (n := 24) rfl) S10f) (hAw _ (by rw [pA_k hp 3 rfl (n := 53) rfl]; rfl)) (by have h8 := h9s.2; omega) (fun j9 x9 y9 => by rw [er9 j9 x9 (by omega)]; exact ⟨(htd j9 x9 (by omega)).2.1, smlF_at h9s.2.2.2 x9 (by omega)⟩) δ10z ) rfl q1274 q788 q144 q789 ndX8_init rfl rfl (by decide) (by decide) (by omega) (by omega) rfl (Nat.le_of_ble_eq_true rfl) dX0_stroke_131 rfl (fun v16 S16 τ16 ρ16 h16 => ?_)
      obtain ⟨rfl, h16, S16f⟩ := h16
      have kd17 : (S16 (P.1)).1 = 1 := kup kd11 (by decide) S16f
      have kd18 : (S16 N).1 = 2 := kup kd12 (by decide) S16f
      have kd19 : (S16 NI).1 = 10 := kup kd13 (by decide) S16f
      have kd20 : (S16 NM).1 = 11 := kup kd14 (by decide) S16f
      have kd21 : (S16 NV).1 = 45 := kup kd15 (by decide) S16f
      have ln21 : (S16 NV).2.1 = 6 := nup kd15 (by decide) ln15 S16f
      have kd22 : (S16 q10).1 = 8 := kup kdq10 (by decide) S16f
      have ln22 : (S16 q10).2.1 = 7 := nup kdq10 (by decide) lnq10 S16f
      have hsk9 : skR S16 τ16 ρ16 q10 (σ 12 0 / 2) (σ 11) := skR_to h16.2.2 (by omega) (fun j9 x9 y9 => (er9 j9 x9 (by omega)).symm)
      have hx2 := Rx_ext0 (ext_t hdn.2 h16.2.1) hx1 h16.1
      have hN : nowF S16 τ16 ρ16 P σ N NI NM NV := nowF_ext (ext_t hdn.2 h16.2.1) hp.1 hN
      obtain ⟨hg, hp, hki, hro0, hnw, hbh, hsa, hpd⟩ := id hx2
      have hro : rowOK (σ 0) := hro0
      have hAw := hg.2.2.2.2.2.2
      have hG : GS S16 τ16 ρ16 := hg.1
      obtain ⟨h1000, h1009, h1042, h1043, h1044, h1045, h1046, h1047, hms, hsi, hsm, hnm⟩ := id hro
      have eN := hN.2.2.2.2.2.2.2.2.2.2.2.2
      have kNV : (S16 NV).1 = 45 := by rw [hN.2.2.2.1.2]
      have nNV : (S16 NV).2.1 = 6 := by rw [hN.2.2.2.1.2]
      have eNI : NI = rf ρ16 (rf ρ16 P.1 4) 1 := by rw [eN.2.2.1, eN.1]
      have eNM : NM = rf ρ16 (rf ρ16 P.1 4) 0 := by rw [eN.2.1, eN.1]
      have eNV : NV = rf ρ16 (rf ρ16 P.1 4) 2 := by rw [eN.2.2.2, eN.1]
      have hz24 : τ16 NI 2 = σ 0 1009 := hN.2.2.2.2.1
      refine x_callV (As := [.ref q10]) (rest := []) (c := 10) hE hΓ (x_J2_add hE hX S16 τ16 ρ16 NI q10 10 8 hN.2.2.1.2 (by decide) (hx2).1 kd22 rfl (by omega) ) hN.2.2.1.2 ⟨by decide, rfl⟩ rfl rfl q1138 q703 q704 q127 q705 ndJ2_add rfl (by decide) (by decide) (by omega) (by omega) rfl (Nat.le_of_ble_eq_true rfl) dX0_stroke_134 rfl (fun v23 S23 τ23 ρ23 h23 => ?_)
      obtain ⟨rfl, h23, S23f⟩ := h23
      have kd25 : (S23 (P.1)).1 = 1 := kup hp.1 (by decide) S23f
      have kd26 : (S23 q10).1 = 8 := kup kd22 (by decide) S23f
      have ln26 : (S23 q10).2.1 = 7 := nup kd22 (by decide) ln22 S23f
      have kd27 : (S23 N).1 = 2 := kup hN.1.2 (by decide) S23f
      have kd28 : (S23 NI).1 = 10 := kup hN.2.2.1.2 (by decide) S23f
      have kd29 : (S23 NM).1 = 11 := kup hN.2.1.2 (by decide) S23f
      have kd30 : (S23 NV).1 = 45 := kup kNV (by decide) S23f
      have ln30 : (S23 NV).2.1 = 6 := nup kNV (by decide) nNV S23f
      rw [eNI] at h23
      have h8s := h9s.2
      have hxf : Rx E Z S23 τ23 ρ23 P (rowS (remS (us σ 12 0 0)) (skF (σ 0) (σ 12 0) (σ 11))) := act_sk hx2 (show σ 0 1009 < 8 from h9s.1) (n := σ 12 0) (f := σ 11) (by omega) hsk9 h23
      obtain ⟨hg, hp, hki, hro9, hnw, hbh, hsa, hpd⟩ := id hxf
      obtain ⟨N, NI, NM, NV, hN⟩ := hxf.now
      show gW Γ E (xM E S23 τ23 ρ23) _ _ _ _ (.int (iI 1) :: _)
      refine g_pop hΓ rfl dX0_stroke_137 ?_
      refine g_aload_n hΓ rfl dX0_stroke_138 ?_
      refine x_geta (r := some N) (c := 0) hE hΓ in_X0 rfl hp.1 ⟨by decide, rfl⟩ 4 (ji := 4) rfl (by decide) (by decide) rfl q250 rfl rfl hN.1.1 dX0_stroke_139 ?_
      show gW Γ E (xM E S23 τ23 ρ23) (0 + 9 + 1 + 5 + 1) (0 + 215 + 7 + 101 + 60) _ _ (.ref N :: _)
      refine x_geta (r := some NI) (c := 1) hE hΓ in_X1 rfl hN.1.2 ⟨by decide, rfl⟩ 1 (ji := 1) rfl (by decide) (by decide) rfl q200 rfl rfl hN.2.2.1.1 dX0_stroke_142 ?_
      show gW Γ E (xM E S23 τ23 ρ23) (0 + 9 + 1 + 5 + 1) (0 + 215 + 7 + 101 + 60) _ _ (.ref NI :: _)
      refine x_callV (As := []) (rest := []) (c := 10) hE hΓ (x_J2_size hE hX S23 τ23 ρ23 NI 10 hN.2.2.1.2 (by decide) ) hN.2.2.1.2 ⟨by decide, rfl⟩ rfl rfl q845 q662 q663 q127 q664 ndJ2_size rfl (by decide) (by decide) (by omega) (by omega) rfl (Nat.le_of_ble_eq_true rfl) dX0_stroke_145 rfl (fun v31 S31 τ31 ρ31 h31 => ?_)
      obtain ⟨rfl, S31e, τ31e, ρ31e⟩ := h31
      have S31e := S31e.symm; subst S31e
      have τ31e := τ31e.symm; subst τ31e
      have ρ31e := ρ31e.symm; subst ρ31e
      refine g_topi ((show _ = σ 0 1009 + 1 from hN.2.2.2.2.1)) ?_
      show gW Γ E (xM E S23 τ23 ρ23) _ _ _ _ (.int (iI (σ 0 1009 + 1)) :: _)
      refine g_iconst hΓ dX0_stroke_148 ?_
      refine g_isub hΓ dX0_stroke_149 ?_
      exact x_iret hΓ dX0_stroke_150 (by omega) (by omega) ⟨ri (by rw [if_pos h9s]; omega), (by rw [if_pos h9s]; exact hxf), (sle_t (sle_t (sle_t S4f S10f) S16f) S23f)⟩
    · refine g_aload_n hΓ rfl dX0_stroke_105 ?_
      refine g_iconst hΓ dX0_stroke_106 ?_
      refine x_callV (As := [.int (iI 2)]) (rest := []) (c := 0) hE hΓ (x_X0_refused hE hX S t R P (us σ 12 0 0) 2 hx1 (by first | assumption | omega) ) hp.1 ⟨by decide, rfl⟩ rfl rfl q366 q368 qs2 q123 q369 ndX0_refused rfl (by decide) (by decide) (Nat.zero_le _) (Nat.zero_le _) rfl (Nat.le_of_ble_eq_true rfl) dX0_stroke_107 rfl (fun v32 S32 τ32 ρ32 h32 => ?_)
      obtain ⟨rfl, h32, S32e, τ32f, ρ32e⟩ := h32
      have S32e := S32e.symm; subst S32e
      have ρ32e := ρ32e.symm; subst ρ32e
      show gW Γ E (xM E S τ32 R) _ _ _ _ (.int (iI (-1)) :: _)
      exact x_iret hΓ dX0_stroke_110 (Nat.zero_le _) (Nat.zero_le _) ⟨ri (by rw [if_neg (h0 (by omega))]), (by rw [if_neg (h0 (by omega))]; exact h32), (fun q h => rfl)⟩
  have loop : ∀ (fu : Nat) (t : xD) (b : Int) (k : Int), (x1 - k).toNat < fu → (Rx E Z S t R P (us σ 12 0 0)) → (0 ≤ k ∧ k ≤ x1) → (b = 0 ∨ b = 1) → (b = 1 → (σ 0 1009 < 8 ∧ σ 12 0 % 2 = 0 ∧ (4 ≤ σ 12 0 ∧ σ 12 0 ≤ 24)) ∧ smlF (σ 11) k.toNat = true ∧ ∀ j, 0 ≤ j → j < k → t (P.2.1 3) j = σ 11 j) → (b = 0 → ¬ strC σ) → gW Γ E (xM E S t R) 0 0 53 [some (.ref (P.1)), some (.int (iI x1)), some (.int (iI b)), some (.int (iI k))] [] := by
    intro fu
    induction fu with
    | zero => intro t b k hn; exact absurd hn (Nat.not_lt_zero _)
    | succ fu ih_loop =>
      intro t b k hn hx1 hk hb h1 h0
      obtain ⟨hg, hp, hki, hro0, hnw, hbh, hsa, hpd⟩ := id hx1
      have hro : rowOK (σ 0) := hro0
      obtain ⟨N, NI, NM, NV, hN0⟩ := (hx1).now
      have hN : nowF S t R P σ N NI NM NV := hN0
      have hAw := hg.2.2.2.2.2.2
      have hG : GS S t R := hg.1
      obtain ⟨h1000, h1009, h1042, h1043, h1044, h1045, h1046, h1047, hms, hsi, hsm, hnm⟩ := id hro
      have eN := hN.2.2.2.2.2.2.2.2.2.2.2.2
      have kNV : (S NV).1 = 45 := by rw [hN.2.2.2.1.2]
      have nNV : (S NV).2.1 = 6 := by rw [hN.2.2.2.1.2]
      have eNI : NI = rf R (rf R P.1 4) 1 := by rw [eN.2.2.1, eN.1]
      have eNM : NM = rf R (rf R P.1 4) 0 := by rw [eN.2.1, eN.1]
      have eNV : NV = rf R (rf R P.1 4) 2 := by rw [eN.2.2.2, eN.1]
      refine g_iload_n hΓ rfl dX0_stroke_53 ?_
      refine g_iload_n hΓ rfl dX0_stroke_54 ?_
      refine g_icmp_ge (tgt := 101) hΓ (by omega) (by omega) dX0_stroke_55 (by decide) (fun c33 => ?_) (fun c33 => ?_)
      · first | exact fin t b k hx1 hb (fun h9 => absurd h9 (by omega)) h0 | exact fin t b k hx1 hb (fun h9 => ⟨⟨(h1 h9).1.1, (h1 h9).1.2.1, (h1 h9).1.2.2, by have h8 := (h1 h9).2.1; rw [show k.toNat = (σ 12 0).toNat by omega] at h8; exact h8⟩, fun j9 x9 y9 => (h1 h9).2.2 j9 x9 (by omega)⟩) h0
      · refine g_iload_n hΓ rfl dX0_stroke_58 ?_
        refine g_if_eq (tgt := 101) hΓ (by omega) dX0_stroke_59 (by decide) (fun c34 => ?_) (fun c34 => ?_)
        · first | exact fin t b k hx1 hb (fun h9 => absurd h9 (by omega)) h0 | exact fin t b k hx1 hb (fun h9 => ⟨⟨(h1 h9).1.1, (h1 h9).1.2.1, (h1 h9).1.2.2, by have h8 := (h1 h9).2.1; rw [show k.toNat = (σ 12 0).toNat by omega] at h8; exact h8⟩, fun j9 x9 y9 => (h1 h9).2.2 j9 x9 (by omega)⟩) h0
        · refine g_aload_n hΓ rfl dX0_stroke_62 ?_
          refine x_geta (r := some (P.2.1 0)) (c := 0) hE hΓ in_X0 rfl hp.1 ⟨by decide, rfl⟩ 0 (ji := 0) rfl (by decide) (by decide) rfl q244 rfl rfl (pA_r hp 0 rfl rfl) dX0_stroke_63 ?_
          show gW Γ E (xM E S t R) 0 0 _ _ (.ref (P.2.1 0) :: _)
          refine g_iload_n hΓ rfl dX0_stroke_66 ?_
          refine x_cald hΓ (pA_k hp 0 rfl (n := 50) rfl) (pA_n hp 0 rfl (n := 1600) rfl) ⟨by decide, rfl⟩ (by omega) (by omega) dX0_stroke_67 ?_
          refine g_topi ((show t (P.2.1 0) k = σ 11 k from (hpd.2.1 k (by omega) (by omega)).1)) ?_
          have hk9 := (htd k (by omega) (by omega)).2
          have h24 := fun h9 => (h1 h9).1.2.2.2
          refine g_bipush hΓ (by decide) dX0_stroke_68 ?_
          refine g_icmp_gt (tgt := 77) hΓ (by omega) (by omega) dX0_stroke_70 (by decide) (fun c35 => ?_) (fun c35 => ?_)
          · refine g_iconst hΓ dX0_stroke_77 ?_
            refine g_istore_n hΓ dX0_stroke_78 rfl (Nat.le_of_ble_eq_true rfl) (lv' := [some (.ref (P.1)), some (.int (iI x1)), some (.int (iI 0)), some (.int (iI k))]) rfl ?_
            refine g_iload_n hΓ rfl dX0_stroke_79 ?_
            refine g_if_eq (tgt := 95) hΓ (by omega) dX0_stroke_80 (by decide) (fun c36 => ?_) (fun c36 => ?_)
            · obtain ⟨x37, ex37⟩ : ∃ z9 : Int, z9 = k + 1 := ⟨_, rfl⟩
              refine g_iinc hΓ dX0_stroke_95 rfl rfl (lv' := [some (.ref (P.1)), some (.int (iI x1)), some (.int (iI 0)), some (.int (iI x37))]) (by rw [ex37]; rfl) ?_
              refine g_goto (tgt := 53) hΓ dX0_stroke_98 (by decide) ?_
              exact ih_loop t 0 x37 (by omega) hx1 (by omega) (by omega) (fun h9 => absurd h9 (by decide)) (fun _ h9 => by have h8 := smlF_at h9.2.2.2 (k := k) (by omega) (by omega); omega)
            · exact absurd c36 (by decide)
          · refine g_iconst hΓ dX0_stroke_73 ?_
            refine g_goto (tgt := 78) hΓ dX0_stroke_74 (by decide) ?_
            refine g_istore_n hΓ dX0_stroke_78 rfl (Nat.le_of_ble_eq_true rfl) (lv' := [some (.ref (P.1)), some (.int (iI x1)), some (.int (iI 1)), some (.int (iI k))]) rfl ?_
            refine g_iload_n hΓ rfl dX0_stroke_79 ?_
            refine g_if_eq (tgt := 95) hΓ (by omega) dX0_stroke_80 (by decide) (fun c38 => ?_) (fun c38 => ?_)
            · exact absurd c38 (by decide)
            · have h24 := (h1 (by omega)).1.2.2.2
              refine g_aload_n hΓ rfl dX0_stroke_83 ?_
              refine x_geta (r := some (P.2.1 3)) (c := 0) hE hΓ in_X0 rfl hp.1 ⟨by decide, rfl⟩ 3 (ji := 3) rfl (by decide) (by decide) rfl q248 rfl rfl (pA_r hp 3 rfl rfl) dX0_stroke_84 ?_
              show gW Γ E (xM E S t R) 0 0 _ _ (.ref (P.2.1 3) :: _)
              refine g_iload_n hΓ rfl dX0_stroke_87 ?_
              refine g_aload_n hΓ rfl dX0_stroke_88 ?_
              refine x_geta (r := some (P.2.1 0)) (c := 0) hE hΓ in_X0 rfl hp.1 ⟨by decide, rfl⟩ 0 (ji := 0) rfl (by decide) (by decide) rfl q244 rfl rfl (pA_r hp 0 rfl rfl) dX0_stroke_89 ?_
              show gW Γ E (xM E S t R) 0 0 _ _ (.ref (P.2.1 0) :: _)
              refine g_iload_n hΓ rfl dX0_stroke_92 ?_
              refine x_cald hΓ (pA_k hp 0 rfl (n := 50) rfl) (pA_n hp 0 rfl (n := 1600) rfl) ⟨by decide, rfl⟩ (by omega) (by omega) dX0_stroke_93 ?_
              refine g_topi ((show t (P.2.1 0) k = σ 11 k from (hpd.2.1 k (by omega) (by omega)).1)) ?_
              refine x_iast hΓ (pA_k hp 3 rfl (n := 53) rfl) (pA_n hp 3 rfl (n := 24) rfl) ⟨by decide, rfl⟩ (hAw _ (by rw [(pA_k hp 3 rfl (n := 53) rfl)]; rfl)) (by omega) (by omega) dX0_stroke_94 (fun τ39 τ39e => ?_)
              have τ39r : τ39 (P.2.1 3) k = σ 11 k := by rw [τ39e]; exact us_s _ _ _ _
              have τ39f : ∀ (q9 : Nat) (j9 : Int), (q9 ≠ (P.2.1 3) ∨ j9 ≠ k) → τ39 q9 j9 = t q9 j9 := fun q9 j9 hh => by rw [τ39e]; exact us_n hh
              obtain ⟨x40, ex40⟩ : ∃ z9 : Int, z9 = k + 1 := ⟨_, rfl⟩
              refine g_iinc hΓ dX0_stroke_95 rfl rfl (lv' := [some (.ref (P.1)), some (.int (iI x1)), some (.int (iI 1)), some (.int (iI x40))]) (by rw [ex40]; rfl) ?_
              refine g_goto (tgt := 53) hΓ dX0_stroke_98 (by decide) ?_
              have hfr : fr S t τ39 [53] := (fun q9 j9 hk9 => by exact (τ39f q9 j9 (Or.inl (fun e9 => hk9 (by rw [e9, (pA_k hp 3 rfl (n := 53) rfl), mdN _ (by decide)]; decide)))))
              have hx5 : Rx E Z S τ39 R P (us σ 12 0 0) := Rx_scr hx1 (fr_w hfr (by decide)) fr_rfl (by have h8 := Rx_tmp hx1 hfr (by decide) (by decide); exact h8.1.1)
              exact ih_loop τ39 1 x40 (by omega) hx5 (by omega) (by omega) (fun _ => ⟨(h1 (by omega)).1, by rw [show x40.toNat = k.toNat + 1 by omega, smlF, Bool.and_eq_true, show ((k.toNat : Nat) : Int) = k by omega]; exact ⟨(h1 (by omega)).2.1, decide_eq_true (by omega)⟩, fun j9 x9 y9 => by
                by_cases c9 : j9 = k
                · rw [c9]; exact τ39r
                · exact (τ39f _ _ (Or.inr c9)).trans ((h1 (by omega)).2.2 j9 x9 (by omega))⟩) (fun h9 => absurd h9 (by decide))
  refine g_aload_n hΓ rfl dX0_stroke_10 ?_
  refine x_geta (r := some N) (c := 0) hE hΓ in_X0 rfl hp.1 ⟨by decide, rfl⟩ 4 (ji := 4) rfl (by decide) (by decide) rfl q250 rfl rfl hN.1.1 dX0_stroke_11 ?_
  show gW Γ E (xM E S τ2 R) 0 0 _ _ (.ref N :: _)
  refine x_geta (r := some NI) (c := 1) hE hΓ in_X1 rfl hN.1.2 ⟨by decide, rfl⟩ 1 (ji := 1) rfl (by decide) (by decide) rfl q200 rfl rfl hN.2.2.1.1 dX0_stroke_14 ?_
  show gW Γ E (xM E S τ2 R) 0 0 _ _ (.ref NI :: _)
  refine x_callV (As := []) (rest := []) (c := 10) hE hΓ (x_J2_size hE hX S τ2 R NI 10 hN.2.2.1.2 (by decide) ) hN.2.2.1.2 ⟨by decide, rfl⟩ rfl rfl q845 q662 q663 q127 q664 ndJ2_size rfl (by decide) (by decide) (Nat.zero_le _) (Nat.zero_le _) rfl (Nat.le_of_ble_eq_true rfl) dX0_stroke_17 rfl (fun v41 S41 τ41 ρ41 h41 => ?_)
  obtain ⟨rfl, S41e, τ41e, ρ41e⟩ := h41
  have S41e := S41e.symm; subst S41e
  have τ41e := τ41e.symm; subst τ41e
  have ρ41e := ρ41e.symm; subst ρ41e
  refine g_topi (hN.2.2.2.2.1) ?_
  show gW Γ E (xM E S τ2 R) _ _ _ _ (.int (iI (σ 0 1009)) :: _)
  refine g_bipush hΓ (by decide) dX0_stroke_20 ?_
  refine g_icmp_ge (tgt := 49) hΓ (by omega) (by omega) dX0_stroke_22 (by decide) (fun c42 => ?_) (fun c42 => ?_)
  · refine g_iconst hΓ dX0_stroke_49 ?_
    refine g_istore_n hΓ dX0_stroke_50 rfl (Nat.le_of_ble_eq_true rfl) (lv' := [some (.ref (P.1)), some (.int (iI x1)), some (.int (iI 0)), none]) rfl ?_
    refine g_iconst hΓ dX0_stroke_51 ?_
    refine g_istore_n hΓ dX0_stroke_52 rfl (Nat.le_of_ble_eq_true rfl) (lv' := [some (.ref (P.1)), some (.int (iI x1)), some (.int (iI 0)), some (.int (iI 0))]) rfl ?_
    exact loop 1601 τ2 0 0 (by omega) hx0 (by omega) (by omega) (fun h9 => absurd h9 (by decide)) (fun _ h9 => by have h1 := h9.1; have h2 := h9.2.1; have h3 := h9.2.2.1; omega)
  · refine g_iload_n hΓ rfl dX0_stroke_25 ?_
    refine g_i2l hΓ (by omega) dX0_stroke_26 ?_
    refine g_ldc2 (n := 4) hΓ rfl q1262 (by decide) dX0_stroke_27 ?_
    refine g_ldc2 (n := 24) hΓ rfl q1263 (by decide) dX0_stroke_30 ?_
    refine x_callS (As := [.long (lI x1), .long (lI 4), .long (lI 24)]) (rest := []) hΓ (x_X0_isIn hE hX S τ2 R x1 4 24 (by first | assumption | omega) (by first | assumption | omega) (by first | assumption | omega)) rfl q387 q388 q123 q389 ndX0_isIn rfl (by decide) (by decide) (Nat.zero_le _) (Nat.zero_le _) rfl (Nat.le_of_ble_eq_true rfl) dX0_stroke_33 rfl (fun v43 S43 τ43 ρ43 h43 => ?_)
    obtain ⟨rfl, S43e, τ43e, ρ43e⟩ := h43
    have S43e := S43e.symm; subst S43e
    have τ43e := τ43e.symm; subst τ43e
    have ρ43e := ρ43e.symm; subst ρ43e
    show gW Γ E (xM E S τ2 R) _ _ _ _ (.int (iI (if 4 ≤ x1 ∧ x1 ≤ 24 then 1 else 0)) :: _)
    refine g_ifB_eq (tgt := 49) hΓ  dX0_stroke_36 (by decide) (fun c44 => ?_) (fun c44 => ?_)
    · refine g_iconst hΓ dX0_stroke_49 ?_
      refine g_istore_n hΓ dX0_stroke_50 rfl (Nat.le_of_ble_eq_true rfl) (lv' := [some (.ref (P.1)), some (.int (iI x1)), some (.int (iI 0)), none]) rfl ?_
      refine g_iconst hΓ dX0_stroke_51 ?_
      refine g_istore_n hΓ dX0_stroke_52 rfl (Nat.le_of_ble_eq_true rfl) (lv' := [some (.ref (P.1)), some (.int (iI x1)), some (.int (iI 0)), some (.int (iI 0))]) rfl ?_
      exact loop 1601 τ2 0 0 (by omega) hx0 (by omega) (by omega) (fun h9 => absurd h9 (by decide)) (fun _ h9 => by have h1 := h9.1; have h2 := h9.2.1; have h3 := h9.2.2.1; omega)
    · refine g_iload_n hΓ rfl dX0_stroke_39 ?_
      refine g_iconst hΓ dX0_stroke_40 ?_
      refine g_iremN hΓ (by omega) (by omega) (by omega) dX0_stroke_41 ?_
      refine g_if_ne (tgt := 49) hΓ (by omega) dX0_stroke_42 (by decide) (fun c45 => ?_) (fun c45 => ?_)
      · refine g_iconst hΓ dX0_stroke_49 ?_
        refine g_istore_n hΓ dX0_stroke_50 rfl (Nat.le_of_ble_eq_true rfl) (lv' := [some (.ref (P.1)), some (.int (iI x1)), some (.int (iI 0)), none]) rfl ?_
        refine g_iconst hΓ dX0_stroke_51 ?_
        refine g_istore_n hΓ dX0_stroke_52 rfl (Nat.le_of_ble_eq_true rfl) (lv' := [some (.ref (P.1)), some (.int (iI x1)), some (.int (iI 0)), some (.int (iI 0))]) rfl ?_
        exact loop 1601 τ2 0 0 (by omega) hx0 (by omega) (by omega) (fun h9 => absurd h9 (by decide)) (fun _ h9 => by have h1 := h9.1; have h2 := h9.2.1; have h3 := h9.2.2.1; omega)
      · refine g_iconst hΓ dX0_stroke_45 ?_
        refine g_goto (tgt := 50) hΓ dX0_stroke_46 (by decide) ?_
        refine g_istore_n hΓ dX0_stroke_50 rfl (Nat.le_of_ble_eq_true rfl) (lv' := [some (.ref (P.1)), some (.int (iI x1)), some (.int (iI 1)), none]) rfl ?_
        refine g_iconst hΓ dX0_stroke_51 ?_
        refine g_istore_n hΓ dX0_stroke_52 rfl (Nat.le_of_ble_eq_true rfl) (lv' := [some (.ref (P.1)), some (.int (iI x1)), some (.int (iI 1)), some (.int (iI 0))]) rfl ?_
        exact loop 1601 τ2 1 0 (by omega) hx0 (by omega) (by omega) (fun _ => ⟨⟨by omega, by omega, by omega⟩, rfl, fun j9 x9 y9 => absurd x9 (by omega)⟩) (fun h9 => absurd h9 (by decide))
