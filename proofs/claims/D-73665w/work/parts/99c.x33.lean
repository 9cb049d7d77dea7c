set_option maxRecDepth 100000
set_option maxHeartbeats 4000000 in
theorem x_X0_pairedOf {l : Launch} {E : gE} {X : State → Prop} {Z : Nat → Nat} {Y : Nat → Option Nat} (hE : E.2.1 = clsX) (hX : xOK l E X Z Y) (hL : xLam l E X (Z 20) (Z 21)) (S : xS) (D : xD) (R : xR) (P : xPk) (σ : mS) (a b : Nat) (sa sb : Int) (hx : Rx E Z S D R P σ) (ha : skR S D R a (np σ sa) (nu σ sa)) (hb : skR S D R b (np σ sb) (nu σ sb)) : xC l E X yX0_pairedOf cX0_pairedOf 3 (some .int) 7 1 2 [.ref (P.1), .ref a, .ref b] S D R (fun rv S' D' R' => rv = some (.int (iI (min (els σ sa sb 0 (σ 0 1043)) (els σ sa sb 1 (σ 0 1043) + σ 0 1045)))) ∧ (Rx E Z S' D' R' P σ) ∧ sle S S' ∧ fr S D D' [0, 8003, 42, 43, 44, 112, 120] ∧ fr S R R' [0, 1009, 1010]) := by
  refine xC.of hX.1 (by decide) [some (.ref (P.1)), some (.ref a), some (.ref b)] (Nat.le_of_ble_eq_true rfl) rfl rfl (fun Γ hΓ => ?_)
  obtain ⟨hg, hp, hki, hro, hnw, hbh, hsa, hpd⟩ := id hx
  obtain ⟨N, NI, NM, NV, hN⟩ := (hx).now
  have hAw := hg.2.2.2.2.2.2
  have hG : GS S D R := hg.1
  obtain ⟨h1000, h1009, h1042, h1043, h1044, h1045, h1046, h1047, hms, hsi, hsm, hnm⟩ := id hro
  have eN := hN.2.2.2.2.2.2.2.2.2.2.2.2
  have kNV : (S NV).1 = 45 := by rw [hN.2.2.2.1.2]
  have nNV : (S NV).2.1 = 6 := by rw [hN.2.2.2.1.2]
  have he0 := els_64 h1042 sa sb 0 h1043.1
  have he1 := els_64 h1042 sa sb 1 h1043.1
  refine g_iconst hΓ dX0_pairedOf_0 ?_
  refine x_newi hΓ (xn_new hX) 120 0 ⟨by decide, rfl⟩ q189 (by omega) (by omega) (by omega) dX0_pairedOf_1 (fun q1 S1 δ1 ρ1 q1z q1w S1e δ1e ρ1e => ?_)
  have S1f : ∀ q9 : Nat, (S q9).1 ≠ 0 → S1 q9 = S q9 := fun q9 h9 => by rw [S1e]; exact uS_n (fun e9 => h9 (by rw [e9]; exact q1z))
  have S1q : S1 q1 = (120, 2, 0) := by rw [S1e]; exact uS_s _ _ _ _ _
  have δ1z : ∀ j9 : Int, δ1 q1 j9 = 0 := fun j9 => by rw [δ1e, uN_s]
  have δ1f : ∀ (q9 : Nat) (j9 : Int), q9 ≠ q1 → δ1 q9 j9 = D q9 j9 := fun q9 j9 h9 => by rw [δ1e, uN_n h9]
  have ρ1z : ∀ j9 : Int, ρ1 q1 j9 = none := fun j9 => by rw [ρ1e, uN_s]
  have ρ1f : ∀ (q9 : Nat) (j9 : Int), q9 ≠ q1 → ρ1 q9 j9 = R q9 j9 := fun q9 j9 h9 => by rw [ρ1e, uN_n h9]
  have kd2 : (S1 (P.1)).1 = 1 := kup hp.1 (by decide) S1f
  have kd3 : (S1 N).1 = 2 := kup hN.1.2 (by decide) S1f
  have kd4 : (S1 NI).1 = 10 := kup hN.2.2.1.2 (by decide) S1f
  have kd5 : (S1 NM).1 = 11 := kup hN.2.1.2 (by decide) S1f
  have kd6 : (S1 NV).1 = 45 := kup kNV (by decide) S1f
  have ln6 : (S1 NV).2.1 = 6 := nup kNV (by decide) nNV S1f
  have kd7 : (S1 a).1 = 8 := kup ha.1 (by decide) S1f
  have kd8 : (S1 b).1 = 8 := kup hb.1 (by decide) S1f
  have kdq1 : (S1 q1).1 = 120 := by rw [S1q]
  have lnq1 : (S1 q1).2.1 = 2 := by rw [S1q]
  have hext : ext S S1 D δ1 R ρ1 := ext_new q1z S1e δ1e ρ1e
  have hx2 : Rx E Z S1 δ1 ρ1 P σ := Rx_new hx q1z q1w S1e δ1e ρ1e (by decide)
  have ha2 := skR_ext hext hG ha
  have hb2 := skR_ext hext hG hb
  obtain ⟨hg, hp, hki, hro, hnw, hbh, hsa, hpd⟩ := id hx2
  obtain ⟨N, NI, NM, NV, hN⟩ := (hx2).now
  have hAw := hg.2.2.2.2.2.2
  have hG : GS S1 δ1 ρ1 := hg.1
  obtain ⟨h1000, h1009, h1042, h1043, h1044, h1045, h1046, h1047, hms, hsi, hsm, hnm⟩ := id hro
  have eN := hN.2.2.2.2.2.2.2.2.2.2.2.2
  have kNV : (S1 NV).1 = 45 := by rw [hN.2.2.2.1.2]
  have nNV : (S1 NV).2.1 = 6 := by rw [hN.2.2.2.1.2]
  refine g_dup hΓ rfl dX0_pairedOf_3 ?_
  refine g_iconst hΓ dX0_pairedOf_4 ?_
  refine g_aload_n hΓ rfl dX0_pairedOf_5 ?_
  refine g_aload_n hΓ rfl dX0_pairedOf_6 ?_
  refine g_aload_n hΓ rfl dX0_pairedOf_7 ?_
  refine g_iconst hΓ dX0_pairedOf_8 ?_
  refine g_aload_n hΓ rfl dX0_pairedOf_9 ?_
  refine x_geta (r := some N) (c := 0) hE hΓ in_X0 rfl hp.1 ⟨by decide, rfl⟩ 4 (ji := 4) rfl (by decide) (by decide) rfl q250 rfl rfl hN.1.1 dX0_pairedOf_10 ?_
  show gW Γ E (xM E S1 δ1 ρ1) (0 + 1) (0 + 2) _ _ (.ref N :: _)
  refine x_geta (r := some NV) (c := 1) hE hΓ in_X1 rfl hN.1.2 ⟨by decide, rfl⟩ 2 (ji := 2) rfl (by decide) (by decide) rfl q203 rfl rfl hN.2.2.2.1.1 dX0_pairedOf_13 ?_
  show gW Γ E (xM E S1 δ1 ρ1) (0 + 1) (0 + 2) _ _ (.ref NV :: _)
  refine g_iconst hΓ dX0_pairedOf_16 ?_
  refine x_iald hΓ kNV nNV ⟨by decide, rfl⟩ (by omega) (by omega) dX0_pairedOf_17 ?_
  refine g_topi (hN.2.2.2.2.2.2.2.1) ?_
  refine x_callV (As := [.ref a, .ref b, .int (iI 0), .int (iI (σ 0 1043))]) (rest := [.int (iI 0), .ref q1, .ref q1]) (c := 0) hE hΓ (x_X0_elasticOf hE hX hL S1 δ1 ρ1 P σ a b 0 (σ 0 1043) sa sb hx2 ha2 hb2 (by omega) (by omega) ) hp.1 ⟨by decide, rfl⟩ rfl rfl q994 q996 qs29 q123 q997 ndX0_elasticOf rfl (by decide) (by decide) (by omega) (by omega) rfl (Nat.le_of_ble_eq_true rfl) dX0_pairedOf_18 rfl (fun v9 S9 τ9 ρ9 h9 => ?_)
  obtain ⟨rfl, h9, S9e, τ9f, ρ9f⟩ := h9
  have S9e := S9e.symm; subst S9e
  show gW Γ E (xM E S1 τ9 ρ9) _ _ _ _ (.int (iI (els σ sa sb 0 (σ 0 1043))) :: _)
  refine x_iast hΓ kdq1 lnq1 ⟨by decide, rfl⟩ q1w (by omega) (by omega) dX0_pairedOf_21 (fun τ10 τ10e => ?_)
  have τ10r : τ10 q1 0 = els σ sa sb 0 (σ 0 1043) := by rw [τ10e]; exact us_s _ _ _ _
  have τ10f : ∀ (q9 : Nat) (j9 : Int), (q9 ≠ q1 ∨ j9 ≠ 0) → τ10 q9 j9 = τ9 q9 j9 := fun q9 j9 hh => by rw [τ10e]; exact us_n hh
  have hf3 : fr S1 τ9 τ10 [120] := (fun q9 j9 hk9 => by exact (τ10f q9 j9 (Or.inl (fun e9 => hk9 (by rw [e9, kdq1, mdN _ (by decide)]; decide)))))
  have hx3 : Rx E Z S1 τ10 ρ9 P σ := Rx_tmp h9.1 hf3 (by decide) (by decide)
  have ha3 := skR_nd hf3 (by decide) (h9.1).1.1 (skR_scr hx2.1.1 (fr_w τ9f (by decide)) (fr_w ρ9f (by decide)) ha2)
  have hb3 := skR_nd hf3 (by decide) (h9.1).1.1 (skR_scr hx2.1.1 (fr_w τ9f (by decide)) (fr_w ρ9f (by decide)) hb2)
  refine g_dup hΓ rfl dX0_pairedOf_22 ?_
  refine g_iconst hΓ dX0_pairedOf_23 ?_
  refine g_aload_n hΓ rfl dX0_pairedOf_24 ?_
  refine g_aload_n hΓ rfl dX0_pairedOf_25 ?_
  refine g_aload_n hΓ rfl dX0_pairedOf_26 ?_
  refine g_iconst hΓ dX0_pairedOf_27 ?_
  refine g_aload_n hΓ rfl dX0_pairedOf_28 ?_
  refine x_geta (r := some N) (c := 0) hE hΓ in_X0 rfl hp.1 ⟨by decide, rfl⟩ 4 (ji := 4) rfl (by decide) (by decide) rfl q250 rfl rfl ((ρ9f (P.1) 4 (by rw [hp.1]; decide)).trans hN.1.1) dX0_pairedOf_29 ?_
  show gW Γ E (xM E S1 τ10 ρ9) (0 + 1 + 0) (0 + 2 + 0) _ _ (.ref N :: _)
  refine x_geta (r := some NV) (c := 1) hE hΓ in_X1 rfl hN.1.2 ⟨by decide, rfl⟩ 2 (ji := 2) rfl (by decide) (by decide) rfl q203 rfl rfl ((ρ9f N 2 (by rw [hN.1.2]; decide)).trans hN.2.2.2.1.1) dX0_pairedOf_32 ?_
  show gW Γ E (xM E S1 τ10 ρ9) (0 + 1 + 0) (0 + 2 + 0) _ _ (.ref NV :: _)
  refine g_iconst hΓ dX0_pairedOf_35 ?_
  refine x_iald hΓ kNV nNV ⟨by decide, rfl⟩ (by omega) (by omega) dX0_pairedOf_36 ?_
  refine g_topi ((((τ10f NV 1 (Or.inl (ne_k kNV kdq1 (by decide)))).trans (τ9f NV 1 (by rw [kNV, mdN _ (by decide)]; decide))).trans hN.2.2.2.2.2.2.2.1)) ?_
  refine x_callV (As := [.ref a, .ref b, .int (iI 1), .int (iI (σ 0 1043))]) (rest := [.int (iI 1), .ref q1, .ref q1]) (c := 0) hE hΓ (x_X0_elasticOf hE hX hL S1 τ10 ρ9 P σ a b 1 (σ 0 1043) sa sb hx3 ha3 hb3 (by omega) (by omega) ) hp.1 ⟨by decide, rfl⟩ rfl rfl q994 q996 qs29 q123 q997 ndX0_elasticOf rfl (by decide) (by decide) (by omega) (by omega) rfl (Nat.le_of_ble_eq_true rfl) dX0_pairedOf_37 rfl (fun v11 S11 τ11 ρ11 h11 => ?_)
  obtain ⟨rfl, h11, S11e, τ11f, ρ11f⟩ := h11
  have S11e := S11e.symm; subst S11e
  show gW Γ E (xM E S1 τ11 ρ11) _ _ _ _ (.int (iI (els σ sa sb 1 (σ 0 1043))) :: _)
  refine g_aload_n hΓ rfl dX0_pairedOf_40 ?_
  refine x_geta (r := some N) (c := 0) hE hΓ in_X0 rfl hp.1 ⟨by decide, rfl⟩ 4 (ji := 4) rfl (by decide) (by decide) rfl q250 rfl rfl (((ρ11f (P.1) 4 (by rw [hp.1]; decide)).trans (ρ9f (P.1) 4 (by rw [hp.1]; decide))).trans hN.1.1) dX0_pairedOf_41 ?_
  show gW Γ E (xM E S1 τ11 ρ11) (0 + 1 + 0 + 0) (0 + 2 + 0 + 0) _ _ (.ref N :: _)
  refine x_geta (r := some NV) (c := 1) hE hΓ in_X1 rfl hN.1.2 ⟨by decide, rfl⟩ 2 (ji := 2) rfl (by decide) (by decide) rfl q203 rfl rfl (((ρ11f N 2 (by rw [hN.1.2]; decide)).trans (ρ9f N 2 (by rw [hN.1.2]; decide))).trans hN.2.2.2.1.1) dX0_pairedOf_44 ?_
  show gW Γ E (xM E S1 τ11 ρ11) (0 + 1 + 0 + 0) (0 + 2 + 0 + 0) _ _ (.ref NV :: _)
  refine g_iconst hΓ dX0_pairedOf_47 ?_
  refine x_iald hΓ kNV nNV ⟨by decide, rfl⟩ (by omega) (by omega) dX0_pairedOf_48 ?_
  refine g_topi (((((τ11f NV 3 (by rw [kNV, mdN _ (by decide)]; decide)).trans (τ10f NV 3 (Or.inl (ne_k kNV kdq1 (by decide))))).trans (τ9f NV 3 (by rw [kNV, mdN _ (by decide)]; decide))).trans hN.2.2.2.2.2.2.2.2.2.1)) ?_
  refine g_iadd hΓ dX0_pairedOf_49 ?_
  refine x_iast hΓ kdq1 lnq1 ⟨by decide, rfl⟩ q1w (by omega) (by omega) dX0_pairedOf_50 (fun τ12 τ12e => ?_)
  have τ12r : τ12 q1 1 = (els σ sa sb 1 (σ 0 1043)) + (σ 0 1045) := by rw [τ12e]; exact us_s _ _ _ _
  have τ12f : ∀ (q9 : Nat) (j9 : Int), (q9 ≠ q1 ∨ j9 ≠ 1) → τ12 q9 j9 = τ11 q9 j9 := fun q9 j9 hh => by rw [τ12e]; exact us_n hh
  have hf4 : fr S1 τ11 τ12 [120] := (fun q9 j9 hk9 => by exact (τ12f q9 j9 (Or.inl (fun e9 => hk9 (by rw [e9, kdq1, mdN _ (by decide)]; decide)))))
  have hx4 : Rx E Z S1 τ12 ρ11 P σ := Rx_tmp h11.1 hf4 (by decide) (by decide)
  have eq0 : τ12 q1 0 = els σ sa sb 0 (σ 0 1043) := (((τ12f q1 0 (Or.inr (by decide))).trans (τ11f q1 0 (by rw [kdq1, mdN _ (by decide)]; decide))).trans τ10r)
  have eq1 : τ12 q1 1 = (els σ sa sb 1 (σ 0 1043)) + (σ 0 1045) := τ12r
  refine x_callS (As := [.ref q1]) (rest := []) hΓ (x_X0_least hE hX S1 τ12 ρ11 q1 kdq1 lnq1 (by rw [eq0, eq1]; exact ⟨by omega, by omega⟩) ) rfl q1028 q1029 q123 q1030 ndX0_least rfl (by decide) (by decide) (by omega) (by omega) rfl (Nat.le_of_ble_eq_true rfl) dX0_pairedOf_51 rfl (fun v13 S13 τ13 ρ13 h13 => ?_)
  obtain ⟨rfl, S13e, τ13e, ρ13e⟩ := h13
  have S13e := S13e.symm; subst S13e
  have τ13e := τ13e.symm; subst τ13e
  have ρ13e := ρ13e.symm; subst ρ13e
  show gW Γ E (xM E S1 τ12 ρ11) _ _ _ _ (.int (iI (min (τ12 q1 0) (τ12 q1 1))) :: _)
  exact x_iret hΓ dX0_pairedOf_54 (by omega) (by omega) ⟨ri (by rw [eq0, eq1]), hx4, S1f, (fun q9 j9 hk9 => by have h09 : (S q9).1 ≠ 0 := fun e9 => hk9 (by rw [e9]; exact (by decide : (0 : Nat) ∈ [0, 8003, 42, 43, 44, 112, 120])); exact (((((τ12f q9 j9 (Or.inl (fun e9 => hk9 (by rw [e9, q1z]; exact (by decide : (0 : Nat) ∈ [0, 8003, 42, 43, 44, 112, 120]))))).trans (τ11f q9 j9 (fun e9 => hk9 ((show ∀ x ∈ [8003, 42, 43, 44, 112], x ∈ [0, 8003, 42, 43, 44, 112, 120] by decide) _ (by rw [S1f q9 h09] at e9; exact e9))))).trans (τ10f q9 j9 (Or.inl (fun e9 => hk9 (by rw [e9, q1z]; exact (by decide : (0 : Nat) ∈ [0, 8003, 42, 43, 44, 112, 120])))))).trans (τ9f q9 j9 (fun e9 => hk9 ((show ∀ x ∈ [8003, 42, 43, 44, 112], x ∈ [0, 8003, 42, 43, 44, 112, 120] by decide) _ (by rw [S1f q9 h09] at e9; exact e9))))).trans (δ1f q9 j9 (fun e9 => h09 (by rw [e9]; exact q1z))))), (fun q9 j9 hk9 => by have h09 : (S q9).1 ≠ 0 := fun e9 => hk9 (by rw [e9]; exact (by decide : (0 : Nat) ∈ [0, 1009, 1010])); exact (((ρ11f q9 j9 (fun e9 => hk9 ((show ∀ x ∈ [1009, 1010], x ∈ [0, 1009, 1010] by decide) _ (by rw [S1f q9 h09] at e9; exact e9)))).trans (ρ9f q9 j9 (fun e9 => hk9 ((show ∀ x ∈ [1009, 1010], x ∈ [0, 1009, 1010] by decide) _ (by rw [S1f q9 h09] at e9; exact e9))))).trans (ρ1f q9 j9 (fun e9 => h09 (by rw [e9]; exact q1z)))))⟩
