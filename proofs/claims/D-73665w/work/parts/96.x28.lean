set_option maxRecDepth 100000
set_option maxHeartbeats 4000000 in
theorem x_X0_lays {l : Launch} {E : gE} {X : State → Prop} {Z : Nat → Nat} {Y : Nat → Option Nat} (hE : E.2.1 = clsX) (hX : xOK l E X Z Y) (S : xS) (D : xD) (R : xR) (P : xPk) (σ : mS) (v : Int) (hx : Rx E Z S D R P σ) (hv : r32 v) (ht : σ 12 0 + 4 ≤ 1600) : xC l E X yX0_lays cX0_lays 3 none 0 0 0 [.ref (P.1), .int (iI v)] S D R (fun rv S' D' R' => rv = none ∧ (Rx E Z S D' R P (layS σ v)) ∧ S' = S ∧ fr S D D' [50, 1001] ∧ R' = R) := by
  refine xC.of hX.1 (by decide) [some (.ref (P.1)), some (.int (iI v)), none] (Nat.le_of_ble_eq_true rfl) rfl rfl (fun Γ hΓ => ?_)
  obtain ⟨hg, hp, hki, hro, hnw, hbh, hsa, hpd⟩ := id hx
  obtain ⟨N, NI, NM, NV, hN⟩ := (hx).now
  have hAw := hg.2.2.2.2.2.2
  have hG : GS S D R := hg.1
  obtain ⟨h1000, h1009, h1042, h1043, h1044, h1045, h1046, h1047, hms, hsi, hsm, hnm⟩ := id hro
  have eN := hN.2.2.2.2.2.2.2.2.2.2.2.2
  have kNV : (S NV).1 = 45 := by rw [hN.2.2.2.1.2]
  have nNV : (S NV).2.1 = 6 := by rw [hN.2.2.2.1.2]
  have htp := hpd.1.2
  refine g_bipush hΓ (by decide) dX0_lays_0 ?_
  refine g_istore_n hΓ dX0_lays_2 rfl (Nat.le_of_ble_eq_true rfl) (lv' := [some (.ref (P.1)), some (.int (iI v)), some (.int (iI 24))]) rfl ?_
  refine g_iload_n hΓ rfl dX0_lays_3 ?_
  refine g_if_lt (tgt := 40) hΓ (by omega) dX0_lays_4 (by decide) (fun c1 => ?_) (fun c1 => ?_)
  · exact absurd c1 (by decide)
  · refine g_aload_n hΓ rfl dX0_lays_7 ?_
    refine x_geta (r := some (P.2.1 0)) (c := 0) hE hΓ in_X0 rfl hp.1 ⟨by decide, rfl⟩ 0 (ji := 0) rfl (by decide) (by decide) rfl q244 rfl rfl (pA_r hp 0 rfl rfl) dX0_lays_8 ?_
    show gW Γ E (xM E S D R) 0 0 _ _ (.ref (P.2.1 0) :: _)
    refine g_aload_n hΓ rfl dX0_lays_11 ?_
    refine x_geti (c := 0) hE hΓ in_X0 rfl hp.1 ⟨by decide, rfl⟩ 1 (ji := 1) rfl (by decide) (by decide) rfl q246 rfl rfl dX0_lays_12 ?_
    refine g_topi (hpd.1.1) ?_
    refine g_iload_n hΓ rfl dX0_lays_15 ?_
    refine g_iload_n hΓ rfl dX0_lays_16 ?_
    refine g_ishr (a := v / 2 ^ 24) hΓ (sh_r hv 24 (by decide) rfl) dX0_lays_17 ?_
    refine g_sipush hΓ (by decide) dX0_lays_18 ?_
    refine g_iand (a := (v / 2 ^ 24) % 256) hΓ (an_255 _) dX0_lays_21 ?_
    refine g_i2c (a := (v / 2 ^ 24) % 256) hΓ (i2c_r (by omega)) dX0_lays_22 ?_
    refine x_cast hΓ (pA_k hp 0 rfl (n := 50) rfl) (pA_n hp 0 rfl (n := 1600) rfl) ⟨by decide, rfl⟩ (hAw _ (by rw [(pA_k hp 0 rfl (n := 50) rfl)]; rfl)) (by omega) (by omega) (narC (by omega)) dX0_lays_23 (fun τ2 τ2e => ?_)
    have τ2r : τ2 (P.2.1 0) (σ 12 0) = (v / 2 ^ 24) % 256 := by rw [τ2e]; exact us_s _ _ _ _
    have τ2f : ∀ (q9 : Nat) (j9 : Int), (q9 ≠ (P.2.1 0) ∨ j9 ≠ (σ 12 0)) → τ2 q9 j9 = D q9 j9 := fun q9 j9 hh => by rw [τ2e]; exact us_n hh
    refine g_aload_n hΓ rfl dX0_lays_24 ?_
    refine g_dup hΓ rfl dX0_lays_25 ?_
    refine x_geti (c := 0) hE hΓ in_X0 rfl hp.1 ⟨by decide, rfl⟩ 1 (ji := 1) rfl (by decide) (by decide) rfl q246 rfl rfl dX0_lays_26 ?_
    refine g_topi (((τ2f (P.1) 1 (Or.inl (ne_k hp.1 (pA_k hp 0 rfl (n := 50) rfl) (by decide)))).trans hpd.1.1)) ?_
    refine g_iconst hΓ dX0_lays_29 ?_
    refine g_iadd hΓ dX0_lays_30 ?_
    refine x_puti (c := 0) hE hΓ in_X0 rfl hp.1 ⟨by decide, rfl⟩ tyX0 tyX0_ok nmX0 (hAw _ (by rw [hp.1]; rfl)) 1 (ji := 1) rfl (by decide) (by decide) rfl q246 rfl rfl rfl rfl rfl rfl dX0_lays_31 (fun τ3 τ3e => ?_)
    have τ3r : τ3 (P.1) 1 = (σ 12 0) + 1 := by rw [τ3e]; exact us_s _ _ _ _
    have τ3f : ∀ (q9 : Nat) (j9 : Int), (q9 ≠ (P.1) ∨ j9 ≠ 1) → τ3 q9 j9 = τ2 q9 j9 := fun q9 j9 hh => by rw [τ3e]; exact us_n hh
    refine g_iinc hΓ dX0_lays_34 rfl rfl (lv' := [some (.ref (P.1)), some (.int (iI v)), some (.int (iI 16))]) rfl ?_
    refine g_goto (tgt := 3) hΓ dX0_lays_37 (by decide) ?_
    refine g_iload_n hΓ rfl dX0_lays_3 ?_
    refine g_if_lt (tgt := 40) hΓ (by omega) dX0_lays_4 (by decide) (fun c4 => ?_) (fun c4 => ?_)
    · exact absurd c4 (by decide)
    · refine g_aload_n hΓ rfl dX0_lays_7 ?_
      refine x_geta (r := some (P.2.1 0)) (c := 0) hE hΓ in_X0 rfl hp.1 ⟨by decide, rfl⟩ 0 (ji := 0) rfl (by decide) (by decide) rfl q244 rfl rfl (pA_r hp 0 rfl rfl) dX0_lays_8 ?_
      show gW Γ E (xM E S τ3 R) 0 0 _ _ (.ref (P.2.1 0) :: _)
      refine g_aload_n hΓ rfl dX0_lays_11 ?_
      refine x_geti (c := 0) hE hΓ in_X0 rfl hp.1 ⟨by decide, rfl⟩ 1 (ji := 1) rfl (by decide) (by decide) rfl q246 rfl rfl dX0_lays_12 ?_
      refine g_topi (τ3r) ?_
      refine g_iload_n hΓ rfl dX0_lays_15 ?_
      refine g_iload_n hΓ rfl dX0_lays_16 ?_
      refine g_ishr (a := v / 2 ^ 16) hΓ (sh_r hv 16 (by decide) rfl) dX0_lays_17 ?_
      refine g_sipush hΓ (by decide) dX0_lays_18 ?_
      refine g_iand (a := (v / 2 ^ 16) % 256) hΓ (an_255 _) dX0_lays_21 ?_
      refine g_i2c (a := (v / 2 ^ 16) % 256) hΓ (i2c_r (by omega)) dX0_lays_22 ?_
      refine x_cast hΓ (pA_k hp 0 rfl (n := 50) rfl) (pA_n hp 0 rfl (n := 1600) rfl) ⟨by decide, rfl⟩ (hAw _ (by rw [(pA_k hp 0 rfl (n := 50) rfl)]; rfl)) (by omega) (by omega) (narC (by omega)) dX0_lays_23 (fun τ5 τ5e => ?_)
      have τ5r : τ5 (P.2.1 0) ((σ 12 0) + 1) = (v / 2 ^ 16) % 256 := by rw [τ5e]; exact us_s _ _ _ _
      have τ5f : ∀ (q9 : Nat) (j9 : Int), (q9 ≠ (P.2.1 0) ∨ j9 ≠ ((σ 12 0) + 1)) → τ5 q9 j9 = τ3 q9 j9 := fun q9 j9 hh => by rw [τ5e]; exact us_n hh
      refine g_aload_n hΓ rfl dX0_lays_24 ?_
      refine g_dup hΓ rfl dX0_lays_25 ?_
      refine x_geti (c := 0) hE hΓ in_X0 rfl hp.1 ⟨by decide, rfl⟩ 1 (ji := 1) rfl (by decide) (by decide) rfl q246 rfl rfl dX0_lays_26 ?_
      refine g_topi (((τ5f (P.1) 1 (Or.inl (ne_k hp.1 (pA_k hp 0 rfl (n := 50) rfl) (by decide)))).trans τ3r)) ?_
      refine g_iconst hΓ dX0_lays_29 ?_
      refine g_iadd hΓ dX0_lays_30 ?_
      refine x_puti (c := 0) hE hΓ in_X0 rfl hp.1 ⟨by decide, rfl⟩ tyX0 tyX0_ok nmX0 (hAw _ (by rw [hp.1]; rfl)) 1 (ji := 1) rfl (by decide) (by decide) rfl q246 rfl rfl rfl rfl rfl rfl dX0_lays_31 (fun τ6 τ6e => ?_)
      have τ6r : τ6 (P.1) 1 = ((σ 12 0) + 1) + 1 := by rw [τ6e]; exact us_s _ _ _ _
      have τ6f : ∀ (q9 : Nat) (j9 : Int), (q9 ≠ (P.1) ∨ j9 ≠ 1) → τ6 q9 j9 = τ5 q9 j9 := fun q9 j9 hh => by rw [τ6e]; exact us_n hh
      refine g_iinc hΓ dX0_lays_34 rfl rfl (lv' := [some (.ref (P.1)), some (.int (iI v)), some (.int (iI 8))]) rfl ?_
      refine g_goto (tgt := 3) hΓ dX0_lays_37 (by decide) ?_
      refine g_iload_n hΓ rfl dX0_lays_3 ?_
      refine g_if_lt (tgt := 40) hΓ (by omega) dX0_lays_4 (by decide) (fun c7 => ?_) (fun c7 => ?_)
      · exact absurd c7 (by decide)
      · refine g_aload_n hΓ rfl dX0_lays_7 ?_
        refine x_geta (r := some (P.2.1 0)) (c := 0) hE hΓ in_X0 rfl hp.1 ⟨by decide, rfl⟩ 0 (ji := 0) rfl (by decide) (by decide) rfl q244 rfl rfl (pA_r hp 0 rfl rfl) dX0_lays_8 ?_
        show gW Γ E (xM E S τ6 R) 0 0 _ _ (.ref (P.2.1 0) :: _)
        refine g_aload_n hΓ rfl dX0_lays_11 ?_
        refine x_geti (c := 0) hE hΓ in_X0 rfl hp.1 ⟨by decide, rfl⟩ 1 (ji := 1) rfl (by decide) (by decide) rfl q246 rfl rfl dX0_lays_12 ?_
        refine g_topi (τ6r) ?_
        refine g_iload_n hΓ rfl dX0_lays_15 ?_
        refine g_iload_n hΓ rfl dX0_lays_16 ?_
        refine g_ishr (a := v / 2 ^ 8) hΓ (sh_r hv 8 (by decide) rfl) dX0_lays_17 ?_
        refine g_sipush hΓ (by decide) dX0_lays_18 ?_
        refine g_iand (a := (v / 2 ^ 8) % 256) hΓ (an_255 _) dX0_lays_21 ?_
        refine g_i2c (a := (v / 2 ^ 8) % 256) hΓ (i2c_r (by omega)) dX0_lays_22 ?_
        refine x_cast hΓ (pA_k hp 0 rfl (n := 50) rfl) (pA_n hp 0 rfl (n := 1600) rfl) ⟨by decide, rfl⟩ (hAw _ (by rw [(pA_k hp 0 rfl (n := 50) rfl)]; rfl)) (by omega) (by omega) (narC (by omega)) dX0_lays_23 (fun τ8 τ8e => ?_)
        have τ8r : τ8 (P.2.1 0) (((σ 12 0) + 1) + 1) = (v / 2 ^ 8) % 256 := by rw [τ8e]; exact us_s _ _ _ _
        have τ8f : ∀ (q9 : Nat) (j9 : Int), (q9 ≠ (P.2.1 0) ∨ j9 ≠ (((σ 12 0) + 1) + 1)) → τ8 q9 j9 = τ6 q9 j9 := fun q9 j9 hh => by rw [τ8e]; exact us_n hh
        refine g_aload_n hΓ rfl dX0_lays_24 ?_
        refine g_dup hΓ rfl dX0_lays_25 ?_
        refine x_geti (c := 0) hE hΓ in_X0 rfl hp.1 ⟨by decide, rfl⟩ 1 (ji := 1) rfl (by decide) (by decide) rfl q246 rfl rfl dX0_lays_26 ?_
        refine g_topi (((τ8f (P.1) 1 (Or.inl (ne_k hp.1 (pA_k hp 0 rfl (n := 50) rfl) (by decide)))).trans τ6r)) ?_
        refine g_iconst hΓ dX0_lays_29 ?_
        refine g_iadd hΓ dX0_lays_30 ?_
        refine x_puti (c := 0) hE hΓ in_X0 rfl hp.1 ⟨by decide, rfl⟩ tyX0 tyX0_ok nmX0 (hAw _ (by rw [hp.1]; rfl)) 1 (ji := 1) rfl (by decide) (by decide) rfl q246 rfl rfl rfl rfl rfl rfl dX0_lays_31 (fun τ9 τ9e => ?_)
        have τ9r : τ9 (P.1) 1 = (((σ 12 0) + 1) + 1) + 1 := by rw [τ9e]; exact us_s _ _ _ _
        have τ9f : ∀ (q9 : Nat) (j9 : Int), (q9 ≠ (P.1) ∨ j9 ≠ 1) → τ9 q9 j9 = τ8 q9 j9 := fun q9 j9 hh => by rw [τ9e]; exact us_n hh
        refine g_iinc hΓ dX0_lays_34 rfl rfl (lv' := [some (.ref (P.1)), some (.int (iI v)), some (.int (iI 0))]) rfl ?_
        refine g_goto (tgt := 3) hΓ dX0_lays_37 (by decide) ?_
        refine g_iload_n hΓ rfl dX0_lays_3 ?_
        refine g_if_lt (tgt := 40) hΓ (by omega) dX0_lays_4 (by decide) (fun c10 => ?_) (fun c10 => ?_)
        · exact absurd c10 (by decide)
        · refine g_aload_n hΓ rfl dX0_lays_7 ?_
          refine x_geta (r := some (P.2.1 0)) (c := 0) hE hΓ in_X0 rfl hp.1 ⟨by decide, rfl⟩ 0 (ji := 0) rfl (by decide) (by decide) rfl q244 rfl rfl (pA_r hp 0 rfl rfl) dX0_lays_8 ?_
          show gW Γ E (xM E S τ9 R) 0 0 _ _ (.ref (P.2.1 0) :: _)
          refine g_aload_n hΓ rfl dX0_lays_11 ?_
          refine x_geti (c := 0) hE hΓ in_X0 rfl hp.1 ⟨by decide, rfl⟩ 1 (ji := 1) rfl (by decide) (by decide) rfl q246 rfl rfl dX0_lays_12 ?_
          refine g_topi (τ9r) ?_
          refine g_iload_n hΓ rfl dX0_lays_15 ?_
          refine g_iload_n hΓ rfl dX0_lays_16 ?_
          refine g_ishr (a := v / 2 ^ 0) hΓ (sh_r hv 0 (by decide) rfl) dX0_lays_17 ?_
          refine g_sipush hΓ (by decide) dX0_lays_18 ?_
          refine g_iand (a := (v / 2 ^ 0) % 256) hΓ (an_255 _) dX0_lays_21 ?_
          refine g_i2c (a := (v / 2 ^ 0) % 256) hΓ (i2c_r (by omega)) dX0_lays_22 ?_
          refine x_cast hΓ (pA_k hp 0 rfl (n := 50) rfl) (pA_n hp 0 rfl (n := 1600) rfl) ⟨by decide, rfl⟩ (hAw _ (by rw [(pA_k hp 0 rfl (n := 50) rfl)]; rfl)) (by omega) (by omega) (narC (by omega)) dX0_lays_23 (fun τ11 τ11e => ?_)
          have τ11r : τ11 (P.2.1 0) ((((σ 12 0) + 1) + 1) + 1) = (v / 2 ^ 0) % 256 := by rw [τ11e]; exact us_s _ _ _ _
          have τ11f : ∀ (q9 : Nat) (j9 : Int), (q9 ≠ (P.2.1 0) ∨ j9 ≠ ((((σ 12 0) + 1) + 1) + 1)) → τ11 q9 j9 = τ9 q9 j9 := fun q9 j9 hh => by rw [τ11e]; exact us_n hh
          refine g_aload_n hΓ rfl dX0_lays_24 ?_
          refine g_dup hΓ rfl dX0_lays_25 ?_
          refine x_geti (c := 0) hE hΓ in_X0 rfl hp.1 ⟨by decide, rfl⟩ 1 (ji := 1) rfl (by decide) (by decide) rfl q246 rfl rfl dX0_lays_26 ?_
          refine g_topi (((τ11f (P.1) 1 (Or.inl (ne_k hp.1 (pA_k hp 0 rfl (n := 50) rfl) (by decide)))).trans τ9r)) ?_
          refine g_iconst hΓ dX0_lays_29 ?_
          refine g_iadd hΓ dX0_lays_30 ?_
          refine x_puti (c := 0) hE hΓ in_X0 rfl hp.1 ⟨by decide, rfl⟩ tyX0 tyX0_ok nmX0 (hAw _ (by rw [hp.1]; rfl)) 1 (ji := 1) rfl (by decide) (by decide) rfl q246 rfl rfl rfl rfl rfl rfl dX0_lays_31 (fun τ12 τ12e => ?_)
          have τ12r : τ12 (P.1) 1 = ((((σ 12 0) + 1) + 1) + 1) + 1 := by rw [τ12e]; exact us_s _ _ _ _
          have τ12f : ∀ (q9 : Nat) (j9 : Int), (q9 ≠ (P.1) ∨ j9 ≠ 1) → τ12 q9 j9 = τ11 q9 j9 := fun q9 j9 hh => by rw [τ12e]; exact us_n hh
          refine g_iinc hΓ dX0_lays_34 rfl rfl (lv' := [some (.ref (P.1)), some (.int (iI v)), some (.int (iI (-8)))]) rfl ?_
          refine g_goto (tgt := 3) hΓ dX0_lays_37 (by decide) ?_
          refine g_iload_n hΓ rfl dX0_lays_3 ?_
          refine g_if_lt (tgt := 40) hΓ (by omega) dX0_lays_4 (by decide) (fun c13 => ?_) (fun c13 => ?_)
          · have hf9 : fr S D τ12 [50, 1001] := (fun q9 j9 hk9 => by exact ((((((((τ12f q9 j9 (by by_cases e9 : q9 = (P.1); exact Or.inr (fun e8 => hk9 (by rw [e9, e8, hp.1]; decide)); exact Or.inl e9)).trans (τ11f q9 j9 (Or.inl (fun e9 => hk9 (by rw [e9, (pA_k hp 0 rfl (n := 50) rfl), mdN _ (by decide)]; decide))))).trans (τ9f q9 j9 (by by_cases e9 : q9 = (P.1); exact Or.inr (fun e8 => hk9 (by rw [e9, e8, hp.1]; decide)); exact Or.inl e9))).trans (τ8f q9 j9 (Or.inl (fun e9 => hk9 (by rw [e9, (pA_k hp 0 rfl (n := 50) rfl), mdN _ (by decide)]; decide))))).trans (τ6f q9 j9 (by by_cases e9 : q9 = (P.1); exact Or.inr (fun e8 => hk9 (by rw [e9, e8, hp.1]; decide)); exact Or.inl e9))).trans (τ5f q9 j9 (Or.inl (fun e9 => hk9 (by rw [e9, (pA_k hp 0 rfl (n := 50) rfl), mdN _ (by decide)]; decide))))).trans (τ3f q9 j9 (by by_cases e9 : q9 = (P.1); exact Or.inr (fun e8 => hk9 (by rw [e9, e8, hp.1]; decide)); exact Or.inl e9))).trans (τ2f q9 j9 (Or.inl (fun e9 => hk9 (by rw [e9, (pA_k hp 0 rfl (n := 50) rfl), mdN _ (by decide)]; decide))))))
            have hTp : ∀ j, 0 ≤ j → j < 1600 → τ12 (P.2.1 0) j = layS σ v 11 j ∧ 0 ≤ layS σ v 11 j ∧ layS σ v 11 j < 256 := fun j x9 y9 => by
              have h0 := hpd.2.1 j x9 y9
              rw [show layS σ v 11 j = lay4 (σ 11) (σ 12 0) v j from rfl, lay4]
              by_cases c0 : j = (((σ 12 0) + 1) + 1) + 1
              · rw [if_pos (by omega), c0]; exact ⟨((τ12f (P.2.1 0) ((((σ 12 0) + 1) + 1) + 1) (Or.inl (ne_k (pA_k hp 0 rfl (n := 50) rfl) hp.1 (by decide)))).trans τ11r), by omega⟩
              by_cases c1 : j = ((σ 12 0) + 1) + 1
              · rw [if_neg (by omega), if_pos (by omega), c1]; exact ⟨((((τ12f (P.2.1 0) (((σ 12 0) + 1) + 1) (Or.inl (ne_k (pA_k hp 0 rfl (n := 50) rfl) hp.1 (by decide)))).trans (τ11f (P.2.1 0) (((σ 12 0) + 1) + 1) (Or.inr (by omega)))).trans (τ9f (P.2.1 0) (((σ 12 0) + 1) + 1) (Or.inl (ne_k (pA_k hp 0 rfl (n := 50) rfl) hp.1 (by decide))))).trans τ8r), by omega⟩
              by_cases c2 : j = (σ 12 0) + 1
              · rw [if_neg (by omega), if_neg (by omega), if_pos (by omega), c2]; exact ⟨((((((τ12f (P.2.1 0) ((σ 12 0) + 1) (Or.inl (ne_k (pA_k hp 0 rfl (n := 50) rfl) hp.1 (by decide)))).trans (τ11f (P.2.1 0) ((σ 12 0) + 1) (Or.inr (by omega)))).trans (τ9f (P.2.1 0) ((σ 12 0) + 1) (Or.inl (ne_k (pA_k hp 0 rfl (n := 50) rfl) hp.1 (by decide))))).trans (τ8f (P.2.1 0) ((σ 12 0) + 1) (Or.inr (by omega)))).trans (τ6f (P.2.1 0) ((σ 12 0) + 1) (Or.inl (ne_k (pA_k hp 0 rfl (n := 50) rfl) hp.1 (by decide))))).trans τ5r), by omega⟩
              by_cases c3 : j = σ 12 0
              · rw [if_neg (by omega), if_neg (by omega), if_neg (by omega), if_pos (by omega), c3]; exact ⟨((((((((τ12f (P.2.1 0) (σ 12 0) (Or.inl (ne_k (pA_k hp 0 rfl (n := 50) rfl) hp.1 (by decide)))).trans (τ11f (P.2.1 0) (σ 12 0) (Or.inr (by omega)))).trans (τ9f (P.2.1 0) (σ 12 0) (Or.inl (ne_k (pA_k hp 0 rfl (n := 50) rfl) hp.1 (by decide))))).trans (τ8f (P.2.1 0) (σ 12 0) (Or.inr (by omega)))).trans (τ6f (P.2.1 0) (σ 12 0) (Or.inl (ne_k (pA_k hp 0 rfl (n := 50) rfl) hp.1 (by decide))))).trans (τ5f (P.2.1 0) (σ 12 0) (Or.inr (by omega)))).trans (τ3f (P.2.1 0) (σ 12 0) (Or.inl (ne_k (pA_k hp 0 rfl (n := 50) rfl) hp.1 (by decide))))).trans τ2r), by omega⟩
              rw [if_neg (by omega), if_neg (by omega), if_neg (by omega), if_neg (by omega)]; exact ⟨(((((((((τ12f _ _ (Or.inl (ne_k (pA_k hp 0 rfl (n := 50) rfl) hp.1 (by decide)))).trans (τ11f _ _ (Or.inr c0))).trans (τ9f _ _ (Or.inl (ne_k (pA_k hp 0 rfl (n := 50) rfl) hp.1 (by decide))))).trans (τ8f _ _ (Or.inr c1))).trans (τ6f _ _ (Or.inl (ne_k (pA_k hp 0 rfl (n := 50) rfl) hp.1 (by decide))))).trans (τ5f _ _ (Or.inr c2))).trans (τ3f _ _ (Or.inl (ne_k (pA_k hp 0 rfl (n := 50) rfl) hp.1 (by decide))))).trans (τ2f _ _ (Or.inr c3)))).trans h0.1, h0.2⟩
            exact x_vret hΓ dX0_lays_40 (Nat.zero_le _) (Nat.zero_le _) ⟨rfl, (Rx_pen hx hf9 (by decide) (layS_f (by decide)) (layS_f (by decide)) (congrFun (layS_f (by decide)) 0) (congrFun (layS_f (by decide)) 0) (layS_f (by decide)) (layS_f (by decide)) (layS_f (by decide)) (layS_f (by decide)) ⟨⟨by rw [layS_t]; exact (τ12r).trans (by omega), by rw [layS_t]; omega⟩, hTp, by rw [show τ12 (P.2.1 2) = D (P.2.1 2) from fr_row hf9 (pA_k hp 2 rfl (n := 52) rfl) (by decide) (by decide)]; exact hpd.2.2.1, by rw [show τ12 P.1 7 = D P.1 7 from fr_at hf9 hp.1 (by decide), show τ12 P.1 8 = D P.1 8 from fr_at hf9 hp.1 (by decide)]; exact hpd.2.2.2.1, by rw [show τ12 P.1 35 = D P.1 35 from fr_at hf9 hp.1 (by decide)]; exact hpd.2.2.2.2.1, by rw [show τ12 P.1 37 = D P.1 37 from fr_at hf9 hp.1 (by decide)]; exact hpd.2.2.2.2.2.1, by rw [show τ12 (P.2.1 36) = D (P.2.1 36) from fr_row hf9 (pA_k hp 36 rfl (n := 86) rfl) (by decide) (by decide)]; exact hpd.2.2.2.2.2.2⟩), rfl, (fun q9 j9 hk9 => by exact ((((((((τ12f q9 j9 (by by_cases e9 : q9 = (P.1); exact Or.inr (fun e8 => hk9 (by rw [e9, e8, hp.1]; decide)); exact Or.inl e9)).trans (τ11f q9 j9 (Or.inl (fun e9 => hk9 (by rw [e9, (pA_k hp 0 rfl (n := 50) rfl), mdN _ (by decide)]; decide))))).trans (τ9f q9 j9 (by by_cases e9 : q9 = (P.1); exact Or.inr (fun e8 => hk9 (by rw [e9, e8, hp.1]; decide)); exact Or.inl e9))).trans (τ8f q9 j9 (Or.inl (fun e9 => hk9 (by rw [e9, (pA_k hp 0 rfl (n := 50) rfl), mdN _ (by decide)]; decide))))).trans (τ6f q9 j9 (by by_cases e9 : q9 = (P.1); exact Or.inr (fun e8 => hk9 (by rw [e9, e8, hp.1]; decide)); exact Or.inl e9))).trans (τ5f q9 j9 (Or.inl (fun e9 => hk9 (by rw [e9, (pA_k hp 0 rfl (n := 50) rfl), mdN _ (by decide)]; decide))))).trans (τ3f q9 j9 (by by_cases e9 : q9 = (P.1); exact Or.inr (fun e8 => hk9 (by rw [e9, e8, hp.1]; decide)); exact Or.inl e9))).trans (τ2f q9 j9 (Or.inl (fun e9 => hk9 (by rw [e9, (pA_k hp 0 rfl (n := 50) rfl), mdN _ (by decide)]; decide)))))), rfl⟩
          · exact absurd c13 (by decide)
set_option maxHeartbeats 4000000 in
theorem x_X0_feed {l : Launch} {E : gE} {X : State → Prop} {Z : Nat → Nat} {Y : Nat → Option Nat} (hE : E.2.1 = clsX) (hX : xOK l E X Z Y) (S : xS) (D : xD) (R : xR) (P : xPk) (σ : mS) (a b c d e : Int) (hx : Rx E Z S D R P σ) (ha : r32 a) (hb : r32 b) (hc : r32 c) (hd : r32 d) (he : r32 e) : xC l E X yX0_feed cX0_feed 6 (some .int) 1 0 0 [.ref (P.1), .int (iI a), .int (iI b), .int (iI c), .int (iI d), .int (iI e)] S D R (fun rv S' D' R' => rv = some (.int (iI (if σ 12 0 > 1580 then -1 else σ 12 0 + 20))) ∧ (Rx E Z S D' R P (if σ 12 0 > 1580 then us σ 13 0 (σ 13 0 + 1) else (layS (layS (layS (layS (layS σ a) b) c) d) e))) ∧ S' = S ∧ fr S D D' [50, 52, 1001] ∧ R' = R) := by
  refine xC.of hX.1 (by decide) [some (.ref (P.1)), some (.int (iI a)), some (.int (iI b)), some (.int (iI c)), some (.int (iI d)), some (.int (iI e))] (Nat.le_of_ble_eq_true rfl) rfl rfl (fun Γ hΓ => ?_)
  obtain ⟨hg, hp, hki, hro, hnw, hbh, hsa, hpd⟩ := id hx
  obtain ⟨N, NI, NM, NV, hN⟩ := (hx).now
  have hAw := hg.2.2.2.2.2.2
  have hG : GS S D R := hg.1
  obtain ⟨h1000, h1009, h1042, h1043, h1044, h1045, h1046, h1047, hms, hsi, hsm, hnm⟩ := id hro
  have eN := hN.2.2.2.2.2.2.2.2.2.2.2.2
  have kNV : (S NV).1 = 45 := by rw [hN.2.2.2.1.2]
  have nNV : (S NV).2.1 = 6 := by rw [hN.2.2.2.1.2]
  have htp := hpd.1.2
  have z1 : (layS σ a) 12 0 = σ 12 0 + 4 := by rw [layS_t]
  have z2 : (layS (layS σ a) b) 12 0 = σ 12 0 + 8 := by rw [layS_t, z1]; omega
  have z3 : (layS (layS (layS σ a) b) c) 12 0 = σ 12 0 + 12 := by rw [layS_t, z2]; omega
  have z4 : (layS (layS (layS (layS σ a) b) c) d) 12 0 = σ 12 0 + 16 := by rw [layS_t, z3]; omega
  have z5 : (layS (layS (layS (layS (layS σ a) b) c) d) e) 12 0 = σ 12 0 + 20 := by rw [layS_t, z4]; omega
  refine g_aload_n hΓ rfl dX0_feed_0 ?_
  refine x_geti (c := 0) hE hΓ in_X0 rfl hp.1 ⟨by decide, rfl⟩ 1 (ji := 1) rfl (by decide) (by decide) rfl q246 rfl rfl dX0_feed_1 ?_
  refine g_topi (hpd.1.1) ?_
  refine g_bipush hΓ (by decide) dX0_feed_4 ?_
  refine g_iadd hΓ dX0_feed_6 ?_
  refine g_sipush hΓ (by decide) dX0_feed_7 ?_
  refine g_icmp_le (tgt := 19) hΓ (by omega) (by omega) dX0_feed_10 (by decide) (fun c1 => ?_) (fun c1 => ?_)
  · refine g_aload_n hΓ rfl dX0_feed_19 ?_
    refine g_iload_n hΓ rfl dX0_feed_20 ?_
    refine x_callV (As := [.int (iI a)]) (rest := []) (c := 0) hE hΓ (x_X0_lays hE hX S D R P σ a hx (by assumption) (by omega) ) hp.1 ⟨by decide, rfl⟩ rfl rfl q370 q372 qs3 q123 q373 ndX0_lays rfl (by decide) (by decide) (Nat.zero_le _) (Nat.zero_le _) rfl (Nat.le_of_ble_eq_true rfl) dX0_feed_21 rfl (fun v2 S2 τ2 ρ2 h2 => ?_)
    obtain ⟨rfl, h2, S2e, τ2f, ρ2e⟩ := h2
    have S2e := S2e.symm; subst S2e
    have ρ2e := ρ2e.symm; subst ρ2e
    refine g_aload_n hΓ rfl dX0_feed_24 ?_
    refine g_iload_n hΓ rfl dX0_feed_25 ?_
    refine x_callV (As := [.int (iI b)]) (rest := []) (c := 0) hE hΓ (x_X0_lays hE hX S τ2 R P (layS σ a) b h2 (by assumption) (by omega) ) hp.1 ⟨by decide, rfl⟩ rfl rfl q370 q372 qs3 q123 q373 ndX0_lays rfl (by decide) (by decide) (Nat.zero_le _) (Nat.zero_le _) rfl (Nat.le_of_ble_eq_true rfl) dX0_feed_26 rfl (fun v3 S3 τ3 ρ3 h3 => ?_)
    obtain ⟨rfl, h3, S3e, τ3f, ρ3e⟩ := h3
    have S3e := S3e.symm; subst S3e
    have ρ3e := ρ3e.symm; subst ρ3e
    refine g_aload_n hΓ rfl dX0_feed_29 ?_
    refine g_iload_n hΓ rfl dX0_feed_30 ?_
    refine x_callV (As := [.int (iI c)]) (rest := []) (c := 0) hE hΓ (x_X0_lays hE hX S τ3 R P (layS (layS σ a) b) c h3 (by assumption) (by omega) ) hp.1 ⟨by decide, rfl⟩ rfl rfl q370 q372 qs3 q123 q373 ndX0_lays rfl (by decide) (by decide) (Nat.zero_le _) (Nat.zero_le _) rfl (Nat.le_of_ble_eq_true rfl) dX0_feed_31 rfl (fun v4 S4 τ4 ρ4 h4 => ?_)
    obtain ⟨rfl, h4, S4e, τ4f, ρ4e⟩ := h4
    have S4e := S4e.symm; subst S4e
    have ρ4e := ρ4e.symm; subst ρ4e
    refine g_aload_n hΓ rfl dX0_feed_34 ?_
    refine g_iload hΓ rfl dX0_feed_35 ?_
    refine x_callV (As := [.int (iI d)]) (rest := []) (c := 0) hE hΓ (x_X0_lays hE hX S τ4 R P (layS (layS (layS σ a) b) c) d h4 (by assumption) (by omega) ) hp.1 ⟨by decide, rfl⟩ rfl rfl q370 q372 qs3 q123 q373 ndX0_lays rfl (by decide) (by decide) (Nat.zero_le _) (Nat.zero_le _) rfl (Nat.le_of_ble_eq_true rfl) dX0_feed_37 rfl (fun v5 S5 τ5 ρ5 h5 => ?_)
    obtain ⟨rfl, h5, S5e, τ5f, ρ5e⟩ := h5
    have S5e := S5e.symm; subst S5e
    have ρ5e := ρ5e.symm; subst ρ5e
    refine g_aload_n hΓ rfl dX0_feed_40 ?_
    refine g_iload hΓ rfl dX0_feed_41 ?_
    refine x_callV (As := [.int (iI e)]) (rest := []) (c := 0) hE hΓ (x_X0_lays hE hX S τ5 R P (layS (layS (layS (layS σ a) b) c) d) e h5 (by assumption) (by omega) ) hp.1 ⟨by decide, rfl⟩ rfl rfl q370 q372 qs3 q123 q373 ndX0_lays rfl (by decide) (by decide) (Nat.zero_le _) (Nat.zero_le _) rfl (Nat.le_of_ble_eq_true rfl) dX0_feed_43 rfl (fun v6 S6 τ6 ρ6 h6 => ?_)
    obtain ⟨rfl, h6, S6e, τ6f, ρ6e⟩ := h6
    have S6e := S6e.symm; subst S6e
    have ρ6e := ρ6e.symm; subst ρ6e
    refine g_aload_n hΓ rfl dX0_feed_46 ?_
    refine x_geti (c := 0) hE hΓ in_X0 rfl hp.1 ⟨by decide, rfl⟩ 1 (ji := 1) rfl (by decide) (by decide) rfl q246 rfl rfl dX0_feed_47 ?_
    refine g_topi (((h6.2.2.2.2.2.2.2).1.1.trans z5)) ?_
    exact x_iret hΓ dX0_feed_50 (Nat.zero_le _) (Nat.zero_le _) ⟨ri (by rw [if_neg (by omega)]), (by rw [if_neg (by omega)]; exact h6), rfl, (fun q9 j9 hk9 => by exact (((((τ6f q9 j9 (fun e9 => hk9 ((show ∀ x ∈ [50, 1001], x ∈ [50, 52, 1001] by decide) _ e9))).trans (τ5f q9 j9 (fun e9 => hk9 ((show ∀ x ∈ [50, 1001], x ∈ [50, 52, 1001] by decide) _ e9)))).trans (τ4f q9 j9 (fun e9 => hk9 ((show ∀ x ∈ [50, 1001], x ∈ [50, 52, 1001] by decide) _ e9)))).trans (τ3f q9 j9 (fun e9 => hk9 ((show ∀ x ∈ [50, 1001], x ∈ [50, 52, 1001] by decide) _ e9)))).trans (τ2f q9 j9 (fun e9 => hk9 ((show ∀ x ∈ [50, 1001], x ∈ [50, 52, 1001] by decide) _ e9))))), rfl⟩
  · refine g_aload_n hΓ rfl dX0_feed_13 ?_
    refine g_iconst hΓ dX0_feed_14 ?_
    refine x_callV (As := [.int (iI 0)]) (rest := []) (c := 0) hE hΓ (x_X0_refused hE hX S D R P σ 0 hx (by first | assumption | omega) ) hp.1 ⟨by decide, rfl⟩ rfl rfl q366 q368 qs2 q123 q369 ndX0_refused rfl (by decide) (by decide) (Nat.zero_le _) (Nat.zero_le _) rfl (Nat.le_of_ble_eq_true rfl) dX0_feed_15 rfl (fun v7 S7 τ7 ρ7 h7 => ?_)
    obtain ⟨rfl, h7, S7e, τ7f, ρ7e⟩ := h7
    have S7e := S7e.symm; subst S7e
    have ρ7e := ρ7e.symm; subst ρ7e
    show gW Γ E (xM E S τ7 R) _ _ _ _ (.int (iI (-1)) :: _)
    exact x_iret hΓ dX0_feed_18 (Nat.zero_le _) (Nat.zero_le _) ⟨ri (by rw [if_pos (by omega)]), (by rw [if_pos (by omega)]; exact h7), rfl, (fun q9 j9 hk9 => by exact (τ7f q9 j9 (fun e9 => hk9 ((show ∀ x ∈ [52], x ∈ [50, 52, 1001] by decide) _ e9)))), rfl⟩
set_option maxHeartbeats 4000000 in
theorem x_X0_drawOf {l : Launch} {E : gE} {X : State → Prop} {Z : Nat → Nat} {Y : Nat → Option Nat} (hE : E.2.1 = clsX) (hX : xOK l E X Z Y) (S : xS) (D : xD) (R : xR) (P : xPk) (σ : mS) (n : Int) (hx : Rx E Z S D R P σ) (hn : 1 ≤ n ∧ n ≤ 100) : xC l E X yX0_drawOf cX0_drawOf 2 (some .int) 0 0 0 [.ref (P.1), .int (iI n)] S D R (fun rv S' D' R' => rv = some (.int (iI (sdF (σ 5 0) / 64 % n))) ∧ (Rx E Z S D' R P (us σ 5 0 (sdF (σ 5 0)))) ∧ S' = S ∧ fr S D D' [1035] ∧ R' = R) := by
  refine xC.of hX.1 (by decide) [some (.ref (P.1)), some (.int (iI n))] (Nat.le_of_ble_eq_true rfl) rfl rfl (fun Γ hΓ => ?_)
  obtain ⟨hg, hp, hki, hro, hnw, hbh, hsa, hpd⟩ := id hx
  obtain ⟨N, NI, NM, NV, hN⟩ := (hx).now
  have hAw := hg.2.2.2.2.2.2
  have hG : GS S D R := hg.1
  obtain ⟨h1000, h1009, h1042, h1043, h1044, h1045, h1046, h1047, hms, hsi, hsm, hnm⟩ := id hro
  have eN := hN.2.2.2.2.2.2.2.2.2.2.2.2
  have kNV : (S NV).1 = 45 := by rw [hN.2.2.2.1.2]
  have nNV : (S NV).2.1 = 6 := by rw [hN.2.2.2.1.2]
  have hsd := hpd.2.2.2.2.1.2
  have hsr : 0 ≤ sdF (σ 5 0) ∧ sdF (σ 5 0) < 2147483648 := by rw [sdF]; omega
  have hsq : ((1103515245 * σ 5 0 + 12345) % 2147483648 : Int) = sdF (σ 5 0) := rfl
  refine g_aload_n hΓ rfl dX0_drawOf_0 ?_
  refine g_ldc2 (n := 1103515245) hΓ rfl q1315 (by decide) dX0_drawOf_1 ?_
  refine g_aload_n hΓ rfl dX0_drawOf_4 ?_
  refine x_getl (c := 0) hE hΓ in_X0 rfl hp.1 ⟨by decide, rfl⟩ 35 (ji := 35) rfl (by decide) (by decide) rfl q281 rfl rfl dX0_drawOf_5 ?_
  refine g_topl (hpd.2.2.2.2.1.1) ?_
  refine g_lmul hΓ dX0_drawOf_8 ?_
  refine g_ldc2 (n := 12345) hΓ rfl q1316 (by decide) dX0_drawOf_9 ?_
  refine g_ladd hΓ dX0_drawOf_12 ?_
  refine g_ldc2 (n := 2147483648) hΓ rfl q1317 (by decide) dX0_drawOf_13 ?_
  refine g_lremN hΓ (by omega) (by omega) (by omega) dX0_drawOf_16 ?_
  refine x_putl (c := 0) hE hΓ in_X0 rfl hp.1 ⟨by decide, rfl⟩ tyX0 tyX0_ok nmX0 (hAw _ (by rw [hp.1]; rfl)) 35 (ji := 35) rfl (by decide) (by decide) rfl q281 rfl rfl rfl rfl rfl rfl dX0_drawOf_17 (fun τ1 τ1e => ?_)
  have τ1r : τ1 (P.1) 35 = ((1103515245 * (σ 5 0)) + 12345) % 2147483648 := by rw [τ1e]; exact us_s _ _ _ _
  have τ1f : ∀ (q9 : Nat) (j9 : Int), (q9 ≠ (P.1) ∨ j9 ≠ 35) → τ1 q9 j9 = D q9 j9 := fun q9 j9 hh => by rw [τ1e]; exact us_n hh
  refine g_aload_n hΓ rfl dX0_drawOf_20 ?_
  refine x_getl (c := 0) hE hΓ in_X0 rfl hp.1 ⟨by decide, rfl⟩ 35 (ji := 35) rfl (by decide) (by decide) rfl q281 rfl rfl dX0_drawOf_21 ?_
  refine g_topl (τ1r) ?_
  refine g_ldc2 (n := 64) hΓ rfl q1318 (by decide) dX0_drawOf_24 ?_
  refine g_ldivN hΓ (by omega) (by omega) (by omega) dX0_drawOf_27 ?_
  refine g_iload_n hΓ rfl dX0_drawOf_28 ?_
  refine g_i2l hΓ (by omega) dX0_drawOf_29 ?_
  refine g_lremN hΓ (by omega) (by omega) (by omega) dX0_drawOf_30 ?_
  refine g_l2i hΓ dX0_drawOf_31 ?_
  have hf9 : fr S D τ1 [1035] := (fun q9 j9 hk9 => by exact (τ1f q9 j9 (by by_cases e9 : q9 = (P.1); exact Or.inr (fun e8 => hk9 (by rw [e9, e8, hp.1]; decide)); exact Or.inl e9)))
  exact x_iret hΓ dX0_drawOf_32 (Nat.zero_le _) (Nat.zero_le _) ⟨rfl, (Rx_pen hx hf9 (by decide) (us_f (by decide)) (us_f (by decide)) (us_n (Or.inl (by decide))) (us_n (Or.inl (by decide))) (us_f (by decide)) (us_f (by decide)) (us_f (by decide)) (us_f (by decide)) ⟨by rw [show τ1 P.1 1 = D P.1 1 from fr_at hf9 hp.1 (by decide)]; exact hpd.1, by rw [show τ1 (P.2.1 0) = D (P.2.1 0) from fr_row hf9 (pA_k hp 0 rfl (n := 50) rfl) (by decide) (by decide)]; exact hpd.2.1, by rw [show τ1 (P.2.1 2) = D (P.2.1 2) from fr_row hf9 (pA_k hp 2 rfl (n := 52) rfl) (by decide) (by decide)]; exact hpd.2.2.1, by rw [show τ1 P.1 7 = D P.1 7 from fr_at hf9 hp.1 (by decide), show τ1 P.1 8 = D P.1 8 from fr_at hf9 hp.1 (by decide)]; exact hpd.2.2.2.1, ⟨by rw [us_s]; exact τ1r, by rw [us_s]; omega⟩, by rw [show τ1 P.1 37 = D P.1 37 from fr_at hf9 hp.1 (by decide)]; exact hpd.2.2.2.2.2.1, by rw [show τ1 (P.2.1 36) = D (P.2.1 36) from fr_row hf9 (pA_k hp 36 rfl (n := 86) rfl) (by decide) (by decide)]; exact hpd.2.2.2.2.2.2⟩), rfl, (fun q9 j9 hk9 => by exact (τ1f q9 j9 (by by_cases e9 : q9 = (P.1); exact Or.inr (fun e8 => hk9 (by rw [e9, e8, hp.1]; decide)); exact Or.inl e9))), rfl⟩
