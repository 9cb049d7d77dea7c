set_option maxRecDepth 100000
set_option maxHeartbeats 4000000 in
theorem x_X0_elasticOf {l : Launch} {E : gE} {X : State → Prop} {Z : Nat → Nat} {Y : Nat → Option Nat} (hE : E.2.1 = clsX) (hX : xOK l E X Z Y) (hL : xLam l E X (Z 20) (Z 21)) (S : xS) (D : xD) (R : xR) (P : xPk) (σ : mS) (a b : Nat) (k w sa sb : Int) (hx : Rx E Z S D R P σ) (ha : skR S D R a (np σ sa) (nu σ sa)) (hb : skR S D R b (np σ sb) (nu σ sb)) (hk : k = 0 ∨ k = 1) (hw : 0 ≤ w ∧ w ≤ 16) : xC l E X yX0_elasticOf cX0_elasticOf 6 (some .int) 6 0 0 [.ref (P.1), .ref a, .ref b, .int (iI k), .int (iI w)] S D R (fun rv S' D' R' => rv = some (.int (iI (els σ sa sb k w))) ∧ (Rx E Z S D' R' P σ ∧ (∀ i j, 0 ≤ i → i < σ 0 1042 → 0 ≤ j → j < σ 0 1042 → D' (P.2.2 12 i) j = fa (elT (csd σ sa sb k) (σ 0 1042) w i j)) ∧ ∃ ra rb kb : Nat, (R' P.1 9 = some ra ∧ (S ra).1 = 43 ∧ (S ra).2.1 = 16) ∧ (R' P.1 10 = some rb ∧ (S rb).1 = kb ∧ (S rb).2.1 = 16) ∧ (43 ≤ kb ∧ kb ≤ 44) ∧ ∀ i, 0 ≤ i → i < σ 0 1042 → D' ra i = cdb σ sa i 0 ∧ D' rb i = cdb σ sb i k) ∧ S' = S ∧ fr S D D' [8003, 42, 43, 44, 112] ∧ fr S R R' [1009, 1010]) := by
  refine xC.of hX.1 (by decide) [some (.ref (P.1)), some (.ref a), some (.ref b), some (.int (iI k)), some (.int (iI w)), none] (Nat.le_of_ble_eq_true rfl) rfl rfl (fun Γ hΓ => ?_)
  obtain ⟨hg, hp, hki, hro, hnw, hbh, hsa, hpd⟩ := id hx
  obtain ⟨N, NI, NM, NV, hN⟩ := (hx).now
  have hAw := hg.2.2.2.2.2.2
  have hG : GS S D R := hg.1
  obtain ⟨h1000, h1009, h1042, h1043, h1044, h1045, h1046, h1047, hms, hsi, hsm, hnm⟩ := id hro
  have eN := hN.2.2.2.2.2.2.2.2.2.2.2.2
  have kNV : (S NV).1 = 45 := by rw [hN.2.2.2.1.2]
  have nNV : (S NV).2.1 = 6 := by rw [hN.2.2.2.1.2]
  refine g_aload_n hΓ rfl dX0_elasticOf_0 ?_
  refine x_geta (r := some N) (c := 0) hE hΓ in_X0 rfl hp.1 ⟨by decide, rfl⟩ 4 (ji := 4) rfl (by decide) (by decide) rfl q250 rfl rfl hN.1.1 dX0_elasticOf_1 ?_
  show gW Γ E (xM E S D R) 0 0 _ _ (.ref N :: _)
  refine x_geta (r := some NV) (c := 1) hE hΓ in_X1 rfl hN.1.2 ⟨by decide, rfl⟩ 2 (ji := 2) rfl (by decide) (by decide) rfl q203 rfl rfl hN.2.2.2.1.1 dX0_elasticOf_4 ?_
  show gW Γ E (xM E S D R) 0 0 _ _ (.ref NV :: _)
  refine g_iconst hΓ dX0_elasticOf_7 ?_
  refine x_iald hΓ kNV nNV ⟨by decide, rfl⟩ (by omega) (by omega) dX0_elasticOf_8 ?_
  refine g_topi (hN.2.2.2.2.2.2.1) ?_
  refine g_istore hΓ dX0_elasticOf_9 rfl (Nat.le_of_ble_eq_true rfl) (lv' := [some (.ref (P.1)), some (.ref a), some (.ref b), some (.int (iI k)), some (.int (iI w)), some (.int (iI (σ 0 1042)))]) rfl ?_
  refine g_aload_n hΓ rfl dX0_elasticOf_11 ?_
  refine g_aload_n hΓ rfl dX0_elasticOf_12 ?_
  refine g_iload hΓ rfl dX0_elasticOf_13 ?_
  refine x_callV (As := [.int (iI (σ 0 1042))]) (rest := [.ref (P.1)]) (c := 8) hE hΓ (x_X8_laid hE hX S D R a (σ 0 1042) ha.1 hG (by omega) hAw ) ha.1 ⟨by decide, rfl⟩ rfl rfl q916 q917 q918 q144 q919 ndX8_laid rfl (by decide) (by decide) (Nat.zero_le _) (Nat.zero_le _) rfl (Nat.le_of_ble_eq_true rfl) dX0_elasticOf_15 rfl (fun v1 S1 τ1 ρ1 h1 => ?_)
  obtain ⟨rfl, h1, S1e, τ1f, ρ1e⟩ := h1
  have S1e := S1e.symm; subst S1e
  have ρ1e := ρ1e.symm; subst ρ1e
  show gW Γ E (xM E S τ1 R) _ _ _ _ (.ref a :: _)
  obtain ⟨hsf2, hsk2, hsp2, hsl2⟩ := id ((h1.1 a ha.1).1)
  have kd3 : (S (rf R a 4)).1 = 42 := by rw [hsf2.2.2.2.2.2.2.2.1]
  have ln3 : (S (rf R a 4)).2.1 = 34 := by rw [hsf2.2.2.2.2.2.2.2.1]
  have kd4 : (S (rf R a 5)).1 = 43 := by rw [hsf2.2.2.2.2.2.2.2.2.2.1]
  have ln4 : (S (rf R a 5)).2.1 = 16 := by rw [hsf2.2.2.2.2.2.2.2.2.2.1]
  have kd5 : (S (rf R a 6)).1 = 44 := by rw [hsf2.2.2.2.2.2.2.2.2.2.2.2]
  have ln5 : (S (rf R a 6)).2.1 = 16 := by rw [hsf2.2.2.2.2.2.2.2.2.2.2.2]
  have hsn2 := hsf2.2.2.1
  have hsm2 := hsf2.2.2.2.2.2.1
  have hs12 := hsk2.1
  have hs22 := hsk2.2.1
  refine x_getaN (r := some (rf R a 5)) (c := 8) hE hΓ in_X8 rfl ha.1 ⟨by decide, rfl⟩ 5 (ji := 5) rfl (by decide) (by decide) rfl (xn_811 hX) rfl rfl hsf2.2.2.2.2.2.2.2.2.1 dX0_elasticOf_18 ?_
  show gW Γ E (xM E S τ1 R) 0 0 _ _ (.ref (rf R a 5) :: _)
  refine x_puta (c := 0) hE hΓ in_X0 rfl hp.1 ⟨by decide, rfl⟩ tyX0 tyX0_ok nmX0 (hAw _ (by rw [hp.1]; rfl)) 9 (ji := 9) rfl (by decide) (by decide) rfl q255 rfl rfl rfl rfl (some (rf R a 5)) rfl (by first | rfl | (rcases va_rf_or none with h9 | ⟨q9, h9⟩ <;> rw [h9] <;> rfl)) (by first | rfl | (rcases va_rf_or none with h9 | ⟨q9, h9⟩ <;> rw [h9] <;> rfl)) dX0_elasticOf_21 (fun ρ6 ρ6e => ?_)
  have ρ6r : ρ6 (P.1) 9 = some (rf R a 5) := by rw [ρ6e]; exact ur_s _ _ _ _
  have ρ6f : ∀ (q9 : Nat) (j9 : Int), (q9 ≠ (P.1) ∨ j9 ≠ 9) → ρ6 q9 j9 = R q9 j9 := fun q9 j9 hh => by rw [ρ6e]; exact ur_n hh
  have hfr9 : fr S R ρ6 [1009, 1010] := (fun q9 j9 hk9 => by exact (ρ6f q9 j9 (by by_cases e9 : q9 = (P.1); exact Or.inr (fun e8 => hk9 (by rw [e9, e8, hp.1]; decide)); exact Or.inl e9)))
  have hG9 : GS S τ1 ρ6 := GS_fr h1.1 (m := []) fr_rfl hfr9 (by decide) (by decide)
  refine g_aload_n hΓ rfl dX0_elasticOf_24 ?_
  refine g_iload_n hΓ rfl dX0_elasticOf_25 ?_
  refine g_if_eq (tgt := 41) hΓ (by omega) dX0_elasticOf_26 (by decide) (fun c7 => ?_) (fun c7 => ?_)
  · refine g_aload_n hΓ rfl dX0_elasticOf_41 ?_
    refine g_iload hΓ rfl dX0_elasticOf_42 ?_
    refine x_callV (As := [.int (iI (σ 0 1042))]) (rest := [.ref (P.1)]) (c := 8) hE hΓ (x_X8_laid hE hX S τ1 ρ6 b (σ 0 1042) hb.1 hG9 (by omega) hAw ) hb.1 ⟨by decide, rfl⟩ rfl rfl q916 q917 q918 q144 q919 ndX8_laid rfl (by decide) (by decide) (Nat.zero_le _) (Nat.zero_le _) rfl (Nat.le_of_ble_eq_true rfl) dX0_elasticOf_44 rfl (fun v8 S8 τ8 ρ8 h8 => ?_)
    obtain ⟨rfl, h8, S8e, τ8f, ρ8e⟩ := h8
    have S8e := S8e.symm; subst S8e
    have ρ8e := ρ8e.symm; subst ρ8e
    show gW Γ E (xM E S τ8 ρ6) _ _ _ _ (.ref b :: _)
    obtain ⟨hsf9, hsk9, hsp9, hsl9⟩ := id ((h8.1 b hb.1).1)
    have kd10 : (S (rf ρ6 b 4)).1 = 42 := by rw [hsf9.2.2.2.2.2.2.2.1]
    have ln10 : (S (rf ρ6 b 4)).2.1 = 34 := by rw [hsf9.2.2.2.2.2.2.2.1]
    have kd11 : (S (rf ρ6 b 5)).1 = 43 := by rw [hsf9.2.2.2.2.2.2.2.2.2.1]
    have ln11 : (S (rf ρ6 b 5)).2.1 = 16 := by rw [hsf9.2.2.2.2.2.2.2.2.2.1]
    have kd12 : (S (rf ρ6 b 6)).1 = 44 := by rw [hsf9.2.2.2.2.2.2.2.2.2.2.2]
    have ln12 : (S (rf ρ6 b 6)).2.1 = 16 := by rw [hsf9.2.2.2.2.2.2.2.2.2.2.2]
    have hsn9 := hsf9.2.2.1
    have hsm9 := hsf9.2.2.2.2.2.1
    have hs19 := hsk9.1
    have hs29 := hsk9.2.1
    refine x_getaN (r := some (rf ρ6 b 5)) (c := 8) hE hΓ in_X8 rfl hb.1 ⟨by decide, rfl⟩ 5 (ji := 5) rfl (by decide) (by decide) rfl (xn_811 hX) rfl rfl hsf9.2.2.2.2.2.2.2.2.1 dX0_elasticOf_47 ?_
    show gW Γ E (xM E S τ8 ρ6) 0 0 _ _ (.ref (rf ρ6 b 5) :: _)
    refine x_puta (c := 0) hE hΓ in_X0 rfl hp.1 ⟨by decide, rfl⟩ tyX0 tyX0_ok nmX0 (hAw _ (by rw [hp.1]; rfl)) 10 (ji := 10) rfl (by decide) (by decide) rfl q256 rfl rfl rfl rfl (some (rf ρ6 b 5)) rfl (by first | rfl | (rcases va_rf_or none with h9 | ⟨q9, h9⟩ <;> rw [h9] <;> rfl)) (by first | rfl | (rcases va_rf_or none with h9 | ⟨q9, h9⟩ <;> rw [h9] <;> rfl)) dX0_elasticOf_50 (fun ρ13 ρ13e => ?_)
    have ρ13r : ρ13 (P.1) 10 = some (rf ρ6 b 5) := by rw [ρ13e]; exact ur_s _ _ _ _
    have ρ13f : ∀ (q9 : Nat) (j9 : Int), (q9 ≠ (P.1) ∨ j9 ≠ 10) → ρ13 q9 j9 = ρ6 q9 j9 := fun q9 j9 hh => by rw [ρ13e]; exact ur_n hh
    have hfr8 : fr S R ρ13 [1009, 1010] := (fun q9 j9 hk9 => by exact ((ρ13f q9 j9 (by by_cases e9 : q9 = (P.1); exact Or.inr (fun e8 => hk9 (by rw [e9, e8, hp.1]; decide)); exact Or.inl e9)).trans (ρ6f q9 j9 (by by_cases e9 : q9 = (P.1); exact Or.inr (fun e8 => hk9 (by rw [e9, e8, hp.1]; decide)); exact Or.inl e9))))
    have hfrD : fr S D τ8 [8003, 42, 43, 44] := (fun q9 j9 hk9 => by exact ((τ8f q9 j9 (fun e9 => hk9 ((show ∀ x ∈ [8003, 42, 43, 44], x ∈ [8003, 42, 43, 44] by decide) _ e9))).trans (τ1f q9 j9 (fun e9 => hk9 ((show ∀ x ∈ [8003, 42, 43, 44], x ∈ [8003, 42, 43, 44] by decide) _ e9)))))
    have hfr7 : fr S ρ6 ρ13 [1010] := fun q9 j9 h9 => ρ13f q9 j9 (by by_cases e9 : q9 = P.1; exact Or.inr (fun e8 => h9 (by rw [e9, e8, hp.1]; decide)); exact Or.inl e9)
    have hG8 : GS S τ8 ρ13 := GS_fr h8.1 (m := []) fr_rfl hfr7 (by decide) (by decide)
    have hx8 : Rx E Z S τ8 ρ13 P σ := Rx_scr hx (fr_w hfrD (by decide)) hfr8 hG8
    have hp8 := hx8.2.1
    have ra8 : rf ρ13 a 5 = rf R a 5 := rf_at hfr8 ha.1 (by decide)
    have rb8 : rf ρ13 b 5 = rf ρ6 b 5 := rf_at hfr7 hb.1 (by decide)
    have ha3 : τ8 a 3 = σ 0 1042 := by
      by_cases e9 : a = b
      · rw [e9]; exact h8.2.1
      · exact (h8.2.2.2 a ha.1 e9).trans h1.2.1
    have hca8 : caOK τ8 ρ13 a (strN S ρ13 a) (σ 0 1042) := by
      rcases (hG8 a ha.1).2 with h9 | h9
      · exact absurd h9 (by omega)
      · rw [ha3] at h9; exact h9
    have hb3 := h8.2.1
    have hcb8 : caOK τ8 ρ13 b (strN S ρ13 b) (σ 0 1042) := by
      rcases (hG8 b hb.1).2 with h9 | h9
      · exact absurd h9 (by omega)
      · rw [hb3] at h9; exact h9
    have hda := (sk_cds (hG8 a ha.1).1 (skR_scr hG (fr_w hfrD (by decide)) hfr8 ha)).2.2 hca8
    have hdb := (sk_cds (hG8 b hb.1).1 (skR_scr hG (fr_w hfrD (by decide)) hfr8 hb)).2.2 hcb8
    have hra : ∀ i, 0 ≤ i → i < σ 0 1042 → τ8 (rf R a 5) i = cdb σ sa i 0 := fun i x y => by rw [← ra8, hda.2.1 i x y, cdb, if_pos rfl]; rfl
    have hrb : ∀ i, 0 ≤ i → i < σ 0 1042 → τ8 (rf ρ6 b 5) i = cdb σ sb i k := fun i x y => by rw [← rb8, hdb.2.1 i x y, cdb, if_pos (by omega)]; rfl
    refine g_aload_n hΓ rfl dX0_elasticOf_53 ?_
    refine g_aload_n hΓ rfl dX0_elasticOf_54 ?_
    refine x_geta (r := some (Z 20)) (c := 0) hE hΓ in_X0 rfl hp.1 ⟨by decide, rfl⟩ 11 (ji := 11) rfl (by decide) (by decide) rfl q257 rfl rfl (((ρ13f (P.1) 11 (Or.inr (by decide))).trans (ρ6f (P.1) 11 (Or.inr (by decide)))).trans hp.2.2.2.2.2.1) dX0_elasticOf_55 ?_
    show gW Γ E (xM E S τ8 ρ13) 0 0 _ _ (.ref (Z 20) :: _)
    refine g_iload hΓ rfl dX0_elasticOf_58 ?_
    refine g_iload hΓ rfl dX0_elasticOf_60 ?_
    refine x_callV (As := [.ref (Z 20), .int (iI (σ 0 1042)), .int (iI w)]) (rest := []) (c := 0) hE hΓ (x_X0_elasticBy hE hX hL S τ8 ρ13 P (rf R a 5) (rf ρ6 b 5) 43 (σ 0 1042) w hp8 ⟨((ρ13f (P.1) 9 (Or.inr (by decide))).trans ρ6r), kd4, ln4⟩ ⟨ρ13r, kd11, ln11⟩ (by decide) h1042 hw (fun q x y => ⟨by rw [hra q x y]; exact cdb_r _ _ _ _, by rw [hrb q x y]; exact cdb_r _ _ _ _⟩) (csd σ sa sb k) (fun i j x y z u => by rw [hra i x y, hrb j z u]; rfl) (csd_r σ sa sb k) hAw ) hp.1 ⟨by decide, rfl⟩ rfl rfl q998 q1000 qs30 q123 q1001 ndX0_elasticBy rfl (by decide) (by decide) (Nat.zero_le _) (Nat.zero_le _) rfl (Nat.le_of_ble_eq_true rfl) dX0_elasticOf_62 rfl (fun v14 S14 τ14 ρ14 h14 => ?_)
    obtain ⟨rfl, h14, S14e, τ14f, ρ14e⟩ := h14
    have S14e := S14e.symm; subst S14e
    have ρ14e := ρ14e.symm; subst ρ14e
    show gW Γ E (xM E S τ14 ρ13) _ _ _ _ (.int (iI (fa (elT (csd σ sa sb k) (σ 0 1042) w 0 0))) :: _)
    have ea9 : τ14 (rf R a 5) = τ8 (rf R a 5) := fr_row τ14f kd4 (by decide) (by decide)
    have eb9 : τ14 (rf ρ6 b 5) = τ8 (rf ρ6 b 5) := fr_row τ14f kd11 (by decide) (by decide)
    exact x_iret hΓ dX0_elasticOf_65 (Nat.zero_le _) (Nat.zero_le _) ⟨ri (els_fa h1042 hw.1), ⟨Rx_scr hx8 (fr_w τ14f (by decide)) fr_rfl (GS_fr hG8 τ14f fr_rfl (by decide) (m' := []) (by decide)), h14, (rf R a 5), (rf ρ6 b 5), 43, ⟨((ρ13f (P.1) 9 (Or.inr (by decide))).trans ρ6r), kd4, ln4⟩, ⟨ρ13r, kd11, ln11⟩, by decide, fun i x y => ⟨by rw [ea9]; exact hra i x y, by rw [eb9]; exact hrb i x y⟩⟩, rfl, (fun q9 j9 hk9 => by exact (((τ14f q9 j9 (fun e9 => hk9 ((show ∀ x ∈ [112], x ∈ [8003, 42, 43, 44, 112] by decide) _ e9))).trans (τ8f q9 j9 (fun e9 => hk9 ((show ∀ x ∈ [8003, 42, 43, 44], x ∈ [8003, 42, 43, 44, 112] by decide) _ e9)))).trans (τ1f q9 j9 (fun e9 => hk9 ((show ∀ x ∈ [8003, 42, 43, 44], x ∈ [8003, 42, 43, 44, 112] by decide) _ e9))))), (fun q9 j9 hk9 => by exact ((ρ13f q9 j9 (by by_cases e9 : q9 = (P.1); exact Or.inr (fun e8 => hk9 (by rw [e9, e8, hp.1]; decide)); exact Or.inl e9)).trans (ρ6f q9 j9 (by by_cases e9 : q9 = (P.1); exact Or.inr (fun e8 => hk9 (by rw [e9, e8, hp.1]; decide)); exact Or.inl e9))))⟩
  · refine g_aload_n hΓ rfl dX0_elasticOf_29 ?_
    refine g_iload hΓ rfl dX0_elasticOf_30 ?_
    refine x_callV (As := [.int (iI (σ 0 1042))]) (rest := [.ref (P.1)]) (c := 8) hE hΓ (x_X8_laid hE hX S τ1 ρ6 b (σ 0 1042) hb.1 hG9 (by omega) hAw ) hb.1 ⟨by decide, rfl⟩ rfl rfl q916 q917 q918 q144 q919 ndX8_laid rfl (by decide) (by decide) (Nat.zero_le _) (Nat.zero_le _) rfl (Nat.le_of_ble_eq_true rfl) dX0_elasticOf_32 rfl (fun v15 S15 τ15 ρ15 h15 => ?_)
    obtain ⟨rfl, h15, S15e, τ15f, ρ15e⟩ := h15
    have S15e := S15e.symm; subst S15e
    have ρ15e := ρ15e.symm; subst ρ15e
    show gW Γ E (xM E S τ15 ρ6) _ _ _ _ (.ref b :: _)
    obtain ⟨hsf16, hsk16, hsp16, hsl16⟩ := id ((h15.1 b hb.1).1)
    have kd17 : (S (rf ρ6 b 4)).1 = 42 := by rw [hsf16.2.2.2.2.2.2.2.1]
    have ln17 : (S (rf ρ6 b 4)).2.1 = 34 := by rw [hsf16.2.2.2.2.2.2.2.1]
    have kd18 : (S (rf ρ6 b 5)).1 = 43 := by rw [hsf16.2.2.2.2.2.2.2.2.2.1]
    have ln18 : (S (rf ρ6 b 5)).2.1 = 16 := by rw [hsf16.2.2.2.2.2.2.2.2.2.1]
    have kd19 : (S (rf ρ6 b 6)).1 = 44 := by rw [hsf16.2.2.2.2.2.2.2.2.2.2.2]
    have ln19 : (S (rf ρ6 b 6)).2.1 = 16 := by rw [hsf16.2.2.2.2.2.2.2.2.2.2.2]
    have hsn16 := hsf16.2.2.1
    have hsm16 := hsf16.2.2.2.2.2.1
    have hs116 := hsk16.1
    have hs216 := hsk16.2.1
    refine x_getaN (r := some (rf ρ6 b 6)) (c := 8) hE hΓ in_X8 rfl hb.1 ⟨by decide, rfl⟩ 6 (ji := 6) rfl (by decide) (by decide) rfl (xn_813 hX) rfl rfl hsf16.2.2.2.2.2.2.2.2.2.2.1 dX0_elasticOf_35 ?_
    show gW Γ E (xM E S τ15 ρ6) 0 0 _ _ (.ref (rf ρ6 b 6) :: _)
    refine g_goto (tgt := 50) hΓ dX0_elasticOf_38 (by decide) ?_
    refine x_puta (c := 0) hE hΓ in_X0 rfl hp.1 ⟨by decide, rfl⟩ tyX0 tyX0_ok nmX0 (hAw _ (by rw [hp.1]; rfl)) 10 (ji := 10) rfl (by decide) (by decide) rfl q256 rfl rfl rfl rfl (some (rf ρ6 b 6)) rfl (by first | rfl | (rcases va_rf_or none with h9 | ⟨q9, h9⟩ <;> rw [h9] <;> rfl)) (by first | rfl | (rcases va_rf_or none with h9 | ⟨q9, h9⟩ <;> rw [h9] <;> rfl)) dX0_elasticOf_50 (fun ρ20 ρ20e => ?_)
    have ρ20r : ρ20 (P.1) 10 = some (rf ρ6 b 6) := by rw [ρ20e]; exact ur_s _ _ _ _
    have ρ20f : ∀ (q9 : Nat) (j9 : Int), (q9 ≠ (P.1) ∨ j9 ≠ 10) → ρ20 q9 j9 = ρ6 q9 j9 := fun q9 j9 hh => by rw [ρ20e]; exact ur_n hh
    have hfr8 : fr S R ρ20 [1009, 1010] := (fun q9 j9 hk9 => by exact ((ρ20f q9 j9 (by by_cases e9 : q9 = (P.1); exact Or.inr (fun e8 => hk9 (by rw [e9, e8, hp.1]; decide)); exact Or.inl e9)).trans (ρ6f q9 j9 (by by_cases e9 : q9 = (P.1); exact Or.inr (fun e8 => hk9 (by rw [e9, e8, hp.1]; decide)); exact Or.inl e9))))
    have hfrD : fr S D τ15 [8003, 42, 43, 44] := (fun q9 j9 hk9 => by exact ((τ15f q9 j9 (fun e9 => hk9 ((show ∀ x ∈ [8003, 42, 43, 44], x ∈ [8003, 42, 43, 44] by decide) _ e9))).trans (τ1f q9 j9 (fun e9 => hk9 ((show ∀ x ∈ [8003, 42, 43, 44], x ∈ [8003, 42, 43, 44] by decide) _ e9)))))
    have hfr7 : fr S ρ6 ρ20 [1010] := fun q9 j9 h9 => ρ20f q9 j9 (by by_cases e9 : q9 = P.1; exact Or.inr (fun e8 => h9 (by rw [e9, e8, hp.1]; decide)); exact Or.inl e9)
    have hG8 : GS S τ15 ρ20 := GS_fr h15.1 (m := []) fr_rfl hfr7 (by decide) (by decide)
    have hx8 : Rx E Z S τ15 ρ20 P σ := Rx_scr hx (fr_w hfrD (by decide)) hfr8 hG8
    have hp8 := hx8.2.1
    have ra8 : rf ρ20 a 5 = rf R a 5 := rf_at hfr8 ha.1 (by decide)
    have rb8 : rf ρ20 b 6 = rf ρ6 b 6 := rf_at hfr7 hb.1 (by decide)
    have ha3 : τ15 a 3 = σ 0 1042 := by
      by_cases e9 : a = b
      · rw [e9]; exact h15.2.1
      · exact (h15.2.2.2 a ha.1 e9).trans h1.2.1
    have hca8 : caOK τ15 ρ20 a (strN S ρ20 a) (σ 0 1042) := by
      rcases (hG8 a ha.1).2 with h9 | h9
      · exact absurd h9 (by omega)
      · rw [ha3] at h9; exact h9
    have hb3 := h15.2.1
    have hcb8 : caOK τ15 ρ20 b (strN S ρ20 b) (σ 0 1042) := by
      rcases (hG8 b hb.1).2 with h9 | h9
      · exact absurd h9 (by omega)
      · rw [hb3] at h9; exact h9
    have hda := (sk_cds (hG8 a ha.1).1 (skR_scr hG (fr_w hfrD (by decide)) hfr8 ha)).2.2 hca8
    have hdb := (sk_cds (hG8 b hb.1).1 (skR_scr hG (fr_w hfrD (by decide)) hfr8 hb)).2.2 hcb8
    have hra : ∀ i, 0 ≤ i → i < σ 0 1042 → τ15 (rf R a 5) i = cdb σ sa i 0 := fun i x y => by rw [← ra8, hda.2.1 i x y, cdb, if_pos rfl]; rfl
    have hrb : ∀ i, 0 ≤ i → i < σ 0 1042 → τ15 (rf ρ6 b 6) i = cdb σ sb i k := fun i x y => by rw [← rb8, hdb.2.2 i x y, cdb, if_neg (by omega)]; rfl
    refine g_aload_n hΓ rfl dX0_elasticOf_53 ?_
    refine g_aload_n hΓ rfl dX0_elasticOf_54 ?_
    refine x_geta (r := some (Z 20)) (c := 0) hE hΓ in_X0 rfl hp.1 ⟨by decide, rfl⟩ 11 (ji := 11) rfl (by decide) (by decide) rfl q257 rfl rfl (((ρ20f (P.1) 11 (Or.inr (by decide))).trans (ρ6f (P.1) 11 (Or.inr (by decide)))).trans hp.2.2.2.2.2.1) dX0_elasticOf_55 ?_
    show gW Γ E (xM E S τ15 ρ20) 0 0 _ _ (.ref (Z 20) :: _)
    refine g_iload hΓ rfl dX0_elasticOf_58 ?_
    refine g_iload hΓ rfl dX0_elasticOf_60 ?_
    refine x_callV (As := [.ref (Z 20), .int (iI (σ 0 1042)), .int (iI w)]) (rest := []) (c := 0) hE hΓ (x_X0_elasticBy hE hX hL S τ15 ρ20 P (rf R a 5) (rf ρ6 b 6) 44 (σ 0 1042) w hp8 ⟨((ρ20f (P.1) 9 (Or.inr (by decide))).trans ρ6r), kd4, ln4⟩ ⟨ρ20r, kd19, ln19⟩ (by decide) h1042 hw (fun q x y => ⟨by rw [hra q x y]; exact cdb_r _ _ _ _, by rw [hrb q x y]; exact cdb_r _ _ _ _⟩) (csd σ sa sb k) (fun i j x y z u => by rw [hra i x y, hrb j z u]; rfl) (csd_r σ sa sb k) hAw ) hp.1 ⟨by decide, rfl⟩ rfl rfl q998 q1000 qs30 q123 q1001 ndX0_elasticBy rfl (by decide) (by decide) (Nat.zero_le _) (Nat.zero_le _) rfl (Nat.le_of_ble_eq_true rfl) dX0_elasticOf_62 rfl (fun v21 S21 τ21 ρ21 h21 => ?_)
    obtain ⟨rfl, h21, S21e, τ21f, ρ21e⟩ := h21
    have S21e := S21e.symm; subst S21e
    have ρ21e := ρ21e.symm; subst ρ21e
    show gW Γ E (xM E S τ21 ρ20) _ _ _ _ (.int (iI (fa (elT (csd σ sa sb k) (σ 0 1042) w 0 0))) :: _)
    have ea9 : τ21 (rf R a 5) = τ15 (rf R a 5) := fr_row τ21f kd4 (by decide) (by decide)
    have eb9 : τ21 (rf ρ6 b 6) = τ15 (rf ρ6 b 6) := fr_row τ21f kd19 (by decide) (by decide)
    exact x_iret hΓ dX0_elasticOf_65 (Nat.zero_le _) (Nat.zero_le _) ⟨ri (els_fa h1042 hw.1), ⟨Rx_scr hx8 (fr_w τ21f (by decide)) fr_rfl (GS_fr hG8 τ21f fr_rfl (by decide) (m' := []) (by decide)), h21, (rf R a 5), (rf ρ6 b 6), 44, ⟨((ρ20f (P.1) 9 (Or.inr (by decide))).trans ρ6r), kd4, ln4⟩, ⟨ρ20r, kd19, ln19⟩, by decide, fun i x y => ⟨by rw [ea9]; exact hra i x y, by rw [eb9]; exact hrb i x y⟩⟩, rfl, (fun q9 j9 hk9 => by exact (((τ21f q9 j9 (fun e9 => hk9 ((show ∀ x ∈ [112], x ∈ [8003, 42, 43, 44, 112] by decide) _ e9))).trans (τ15f q9 j9 (fun e9 => hk9 ((show ∀ x ∈ [8003, 42, 43, 44], x ∈ [8003, 42, 43, 44, 112] by decide) _ e9)))).trans (τ1f q9 j9 (fun e9 => hk9 ((show ∀ x ∈ [8003, 42, 43, 44], x ∈ [8003, 42, 43, 44, 112] by decide) _ e9))))), (fun q9 j9 hk9 => by exact ((ρ20f q9 j9 (by by_cases e9 : q9 = (P.1); exact Or.inr (fun e8 => hk9 (by rw [e9, e8, hp.1]; decide)); exact Or.inl e9)).trans (ρ6f q9 j9 (by by_cases e9 : q9 = (P.1); exact Or.inr (fun e8 => hk9 (by rw [e9, e8, hp.1]; decide)); exact Or.inl e9))))⟩
set_option maxHeartbeats 4000000 in
theorem x_X0_told {l : Launch} {E : gE} {X : State → Prop} {Z : Nat → Nat} {Y : Nat → Option Nat} (hE : E.2.1 = clsX) (hX : xOK l E X Z Y) (S : xS) (D : xD) (R : xR) (P : xPk) (σ : mS) (n : Int) (hx : Rx E Z S D R P σ) (hn : r32 n) : xC l E X yX0_told cX0_told 2 (some (.object "LetterPen$Stroke")) 6 0 0 [.ref (P.1), .int (iI n)] S D R (fun rv S' D' R' => rv = some (va_rf (if tol σ n = -1 then none else some (tolA R (rf R P.1 4) n))) ∧ (Rx E Z S D' R P σ ∧ (tol σ n ≠ -1 → skR S D' R (tolA R (rf R P.1 4) n) (np σ n) (nu σ n))) ∧ S' = S ∧ fr S D D' [8003, 42, 43, 44] ∧ R' = R) := by
  refine xC.of hX.1 (by decide) [some (.ref (P.1)), some (.int (iI n))] (Nat.le_of_ble_eq_true rfl) rfl rfl (fun Γ hΓ => ?_)
  obtain ⟨hg, hp, hki, hro, hnw, hbh, hsa, hpd⟩ := id hx
  obtain ⟨N, NI, NM, NV, hN⟩ := (hx).now
  have hAw := hg.2.2.2.2.2.2
  have hG : GS S D R := hg.1
  obtain ⟨h1000, h1009, h1042, h1043, h1044, h1045, h1046, h1047, hms, hsi, hsm, hnm⟩ := id hro
  have eN := hN.2.2.2.2.2.2.2.2.2.2.2.2
  have kNV : (S NV).1 = 45 := by rw [hN.2.2.2.1.2]
  have nNV : (S NV).2.1 = 6 := by rw [hN.2.2.2.1.2]
  refine g_iload_n hΓ rfl dX0_told_0 ?_
  refine g_if_ge (tgt := 8) hΓ (by omega) dX0_told_1 (by decide) (fun c1 => ?_) (fun c1 => ?_)
  · refine g_iload_n hΓ rfl dX0_told_8 ?_
    refine g_bipush hΓ (by decide) dX0_told_9 ?_
    refine g_icmp_ge (tgt := 23) hΓ (by omega) (by omega) dX0_told_11 (by decide) (fun c2 => ?_) (fun c2 => ?_)
    · refine g_aload_n hΓ rfl dX0_told_23 ?_
      refine g_iload_n hΓ rfl dX0_told_24 ?_
      refine g_bipush hΓ (by decide) dX0_told_25 ?_
      refine g_isub hΓ dX0_told_27 ?_
      refine g_iconst hΓ dX0_told_28 ?_
      refine g_idivN hΓ (by omega) (by omega) (by omega) dX0_told_29 ?_
      refine g_iload_n hΓ rfl dX0_told_30 ?_
      refine g_iconst hΓ dX0_told_31 ?_
      refine g_iremN hΓ (by omega) (by omega) (by omega) dX0_told_32 ?_
      refine x_callV (As := [.int (iI ((n - 8) / 4)), .int (iI (n % 4))]) (rest := []) (c := 0) hE hΓ (x_X0_strokeOf hE hX S D R P σ ((n - 8) / 4) (n % 4) hx (by first | assumption | omega) (by first | assumption | omega) ) hp.1 ⟨by decide, rfl⟩ rfl rfl q911 q913 qs25 q123 q914 ndX0_strokeOf rfl (by decide) (by decide) (Nat.zero_le _) (Nat.zero_le _) rfl (Nat.le_of_ble_eq_true rfl) dX0_told_33 rfl (fun v3 S3 τ3 ρ3 h3 => ?_)
      obtain ⟨rfl, h3, S3e, τ3f, ρ3e⟩ := h3
      have S3e := S3e.symm; subst S3e
      have ρ3e := ρ3e.symm; subst ρ3e
      show gW Γ E (xM E S τ3 R) _ _ _ _ (va_rf (if stO σ ((n - 8) / 4) (n % 4) = -1 then none else some (lE R (lsA R (rf R P.1 4) ((n - 8) / 4)) (n % 4))) :: _)
      by_cases cs4 : stO σ ((n - 8) / 4) (n % 4) = -1
      · rw [if_pos cs4]
        show gW Γ E (xM E S τ3 R) _ _ _ _ (.null :: _)
        exact x_aret hΓ (Or.inl ⟨_, rfl⟩) (Or.inl rfl) dX0_told_36 (Nat.zero_le _) (Nat.zero_le _) ⟨by rw [if_pos (by first | exact (tol_lo (by omega)).mp (by assumption) | exact (tol_hi (by omega)).mp (by assumption))]; rfl, ⟨h3.1, fun h9 => absurd (by first | exact (tol_lo (by omega)).mp (by assumption) | exact (tol_hi (by omega)).mp (by assumption)) h9⟩, rfl, τ3f, rfl⟩
      · rw [if_neg cs4]
        obtain ⟨s4, es4⟩ : ∃ z : Nat, z = lE R (lsA R (rf R P.1 4) ((n - 8) / 4)) (n % 4) := ⟨_, rfl⟩
        rw [← es4]
        show gW Γ E (xM E S τ3 R) _ _ _ _ (.ref s4 :: _)
        rcases stO_ok hro ((n - 8) / 4) (n % 4) with h9 | ⟨hm4, hk04, hk14, hse4, hs04, hs404, hso4⟩
        · exact absurd h9 cs4
        have hsr4 := (h3.1).letter hm4
        have hsd4 := hsr4.1.2 (n % 4) hk04 hk14
        rw [← hse4, ← es4] at hsd4
        have hca4 := h3.2 cs4
        rw [← es4] at hca4
        obtain ⟨hsf5, hsk5, hsp5, hsl5⟩ := id (((h3.1).1.1 s4 hsd4.1).1)
        have kd6 : (S (rf R s4 4)).1 = 42 := by rw [hsf5.2.2.2.2.2.2.2.1]
        have ln6 : (S (rf R s4 4)).2.1 = 34 := by rw [hsf5.2.2.2.2.2.2.2.1]
        have kd7 : (S (rf R s4 5)).1 = 43 := by rw [hsf5.2.2.2.2.2.2.2.2.2.1]
        have ln7 : (S (rf R s4 5)).2.1 = 16 := by rw [hsf5.2.2.2.2.2.2.2.2.2.1]
        have kd8 : (S (rf R s4 6)).1 = 44 := by rw [hsf5.2.2.2.2.2.2.2.2.2.2.2]
        have ln8 : (S (rf R s4 6)).2.1 = 16 := by rw [hsf5.2.2.2.2.2.2.2.2.2.2.2]
        have hsn5 := hsf5.2.2.1
        have hsm5 := hsf5.2.2.2.2.2.1
        have hs15 := hsk5.1
        have hs25 := hsk5.2.1
        have hsc4 := sk_cds (e := σ 0 1042) ((h3.1).1.1 s4 hsd4.1).1 hsd4
        have hsn4 := hsc4.1
        have hcc4 := hsc4.2.2 hca4
        exact x_aret hΓ (Or.inl ⟨_, rfl⟩) (Or.inr ⟨_, rfl⟩) dX0_told_36 (Nat.zero_le _) (Nat.zero_le _) ⟨by rw [if_neg (by first | exact fun h9 => cs4 ((tol_lo (by omega)).mpr h9) | exact fun h9 => cs4 ((tol_hi (by omega)).mpr h9)), es4]; first | (rw [tolA, if_pos (by omega)]; rfl) | (rw [tolA, if_neg (by omega)]; rfl), ⟨h3.1, fun _ => by have h9 := hsd4; rw [es4] at h9; first | (rw [tolA, if_pos (by omega)]; rw [hse4, show fsS (-1) + n = n from (by rw [fsS, if_pos rfl]; omega)] at h9; exact h9) | (rw [tolA, if_neg (by omega)]; rw [hse4, show fsS ((n - 8) / 4) + n % 4 = n from (by rw [fsS, if_neg (by omega)]; omega)] at h9; exact h9)⟩, rfl, τ3f, rfl⟩
    · refine g_aload_n hΓ rfl dX0_told_14 ?_
      refine g_iconst hΓ dX0_told_15 ?_
      refine g_iload_n hΓ rfl dX0_told_16 ?_
      refine x_callV (As := [.int (iI (-1)), .int (iI n)]) (rest := []) (c := 0) hE hΓ (x_X0_strokeOf hE hX S D R P σ (-1) n hx (by first | assumption | omega) (by first | assumption | omega) ) hp.1 ⟨by decide, rfl⟩ rfl rfl q911 q913 qs25 q123 q914 ndX0_strokeOf rfl (by decide) (by decide) (Nat.zero_le _) (Nat.zero_le _) rfl (Nat.le_of_ble_eq_true rfl) dX0_told_17 rfl (fun v9 S9 τ9 ρ9 h9 => ?_)
      obtain ⟨rfl, h9, S9e, τ9f, ρ9e⟩ := h9
      have S9e := S9e.symm; subst S9e
      have ρ9e := ρ9e.symm; subst ρ9e
      show gW Γ E (xM E S τ9 R) _ _ _ _ (va_rf (if stO σ (-1) n = -1 then none else some (lE R (lsA R (rf R P.1 4) (-1)) n)) :: _)
      by_cases cs10 : stO σ (-1) n = -1
      · rw [if_pos cs10]
        show gW Γ E (xM E S τ9 R) _ _ _ _ (.null :: _)
        refine g_goto (tgt := 36) hΓ dX0_told_20 (by decide) ?_
        exact x_aret hΓ (Or.inl ⟨_, rfl⟩) (Or.inl rfl) dX0_told_36 (Nat.zero_le _) (Nat.zero_le _) ⟨by rw [if_pos (by first | exact (tol_lo (by omega)).mp (by assumption) | exact (tol_hi (by omega)).mp (by assumption))]; rfl, ⟨h9.1, fun h9 => absurd (by first | exact (tol_lo (by omega)).mp (by assumption) | exact (tol_hi (by omega)).mp (by assumption)) h9⟩, rfl, τ9f, rfl⟩
      · rw [if_neg cs10]
        obtain ⟨s10, es10⟩ : ∃ z : Nat, z = lE R (lsA R (rf R P.1 4) (-1)) n := ⟨_, rfl⟩
        rw [← es10]
        show gW Γ E (xM E S τ9 R) _ _ _ _ (.ref s10 :: _)
        rcases stO_ok hro (-1) n with h9 | ⟨hm10, hk010, hk110, hse10, hs010, hs4010, hso10⟩
        · exact absurd h9 cs10
        have hsr10 := (h9.1).letter hm10
        have hsd10 := hsr10.1.2 n hk010 hk110
        rw [← hse10, ← es10] at hsd10
        have hca10 := h9.2 cs10
        rw [← es10] at hca10
        obtain ⟨hsf11, hsk11, hsp11, hsl11⟩ := id (((h9.1).1.1 s10 hsd10.1).1)
        have kd12 : (S (rf R s10 4)).1 = 42 := by rw [hsf11.2.2.2.2.2.2.2.1]
        have ln12 : (S (rf R s10 4)).2.1 = 34 := by rw [hsf11.2.2.2.2.2.2.2.1]
        have kd13 : (S (rf R s10 5)).1 = 43 := by rw [hsf11.2.2.2.2.2.2.2.2.2.1]
        have ln13 : (S (rf R s10 5)).2.1 = 16 := by rw [hsf11.2.2.2.2.2.2.2.2.2.1]
        have kd14 : (S (rf R s10 6)).1 = 44 := by rw [hsf11.2.2.2.2.2.2.2.2.2.2.2]
        have ln14 : (S (rf R s10 6)).2.1 = 16 := by rw [hsf11.2.2.2.2.2.2.2.2.2.2.2]
        have hsn11 := hsf11.2.2.1
        have hsm11 := hsf11.2.2.2.2.2.1
        have hs111 := hsk11.1
        have hs211 := hsk11.2.1
        have hsc10 := sk_cds (e := σ 0 1042) ((h9.1).1.1 s10 hsd10.1).1 hsd10
        have hsn10 := hsc10.1
        have hcc10 := hsc10.2.2 hca10
        refine g_goto (tgt := 36) hΓ dX0_told_20 (by decide) ?_
        exact x_aret hΓ (Or.inl ⟨_, rfl⟩) (Or.inr ⟨_, rfl⟩) dX0_told_36 (Nat.zero_le _) (Nat.zero_le _) ⟨by rw [if_neg (by first | exact fun h9 => cs10 ((tol_lo (by omega)).mpr h9) | exact fun h9 => cs10 ((tol_hi (by omega)).mpr h9)), es10]; first | (rw [tolA, if_pos (by omega)]; rfl) | (rw [tolA, if_neg (by omega)]; rfl), ⟨h9.1, fun _ => by have h9 := hsd10; rw [es10] at h9; first | (rw [tolA, if_pos (by omega)]; rw [hse10, show fsS (-1) + n = n from (by rw [fsS, if_pos rfl]; omega)] at h9; exact h9) | (rw [tolA, if_neg (by omega)]; rw [hse10, show fsS ((n - 8) / 4) + n % 4 = n from (by rw [fsS, if_neg (by omega)]; omega)] at h9; exact h9)⟩, rfl, τ9f, rfl⟩
  · refine g_null hΓ dX0_told_4 ?_
    refine g_goto (tgt := 36) hΓ dX0_told_5 (by decide) ?_
    exact x_aret hΓ (Or.inl ⟨_, rfl⟩) (Or.inl rfl) dX0_told_36 (Nat.zero_le _) (Nat.zero_le _) ⟨by rw [if_pos (by rw [tol, if_neg (by omega), if_neg (by omega)])]; rfl, ⟨hx, fun h9 => absurd (by rw [tol, if_neg (by omega), if_neg (by omega)]) h9⟩, rfl, fr_rfl, rfl⟩
