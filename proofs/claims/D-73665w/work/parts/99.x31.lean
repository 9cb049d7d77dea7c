set_option maxRecDepth 100000
set_option maxHeartbeats 4000000 in
theorem x_X0_isFirst {l : Launch} {E : gE} {X : State → Prop} {Z : Nat → Nat} {Y : Nat → Option Nat} (hE : E.2.1 = clsX) (hX : xOK l E X Z Y) (S : xS) (D : xD) (R : xR) (P : xPk) (σ : mS) (k q mo v : Int) (hx : Rx E Z S D R P σ) (hk : 0 ≤ k ∧ k < σ 6 0) (hq : 0 ≤ q ∧ q ≤ 2) (hmo : 0 ≤ mo ∧ mo ≤ 40) (hv : 0 ≤ v ∧ v ≤ mo) (hT : vtI P D σ k q mo (σ 0 1000) 0) (hP0 : P.2.1 99 = 0) : xC l E X yX0_isFirst cX0_isFirst 4 (some .boolean) 3 0 0 [.ref (P.1), .ref (lE R (P.2.1 31) k), .int (iI v)] S D R (fun rv S' D' R' => rv = some (.int (iI ((rgE σ k q v).1))) ∧ S' = S ∧ D' = D ∧ R' = R) := by
  refine xC.of hX.1 (by decide) [some (.ref (P.1)), some (.ref (lE R (P.2.1 31) k)), some (.int (iI v)), none] (Nat.le_of_ble_eq_true rfl) rfl rfl (fun Γ hΓ => ?_)
  obtain ⟨hg, hp, hki, hro, hnw, hbh, hsa, hpd⟩ := id hx
  obtain ⟨N, NI, NM, NV, hN⟩ := (hx).now
  have hAw := hg.2.2.2.2.2.2
  have hG : GS S D R := hg.1
  obtain ⟨h1000, h1009, h1042, h1043, h1044, h1045, h1046, h1047, hms, hsi, hsm, hnm⟩ := id hro
  have eN := hN.2.2.2.2.2.2.2.2.2.2.2.2
  have kNV : (S NV).1 = 45 := by rw [hN.2.2.2.1.2]
  have nNV : (S NV).2.1 = 6 := by rw [hN.2.2.2.1.2]
  replace hsa := hsa hP0
  have hs9 : (S (lE R (P.2.1 31) k)).1 = 9 := by
    have h9 := ((hg.2.1 (P.2.1 31) (by rw [pL_k hp 31 rfl (n := 16) rfl]; decide) (by rw [pL_k hp 31 rfl (n := 16) rfl]; decide)).2.2.2 k (by omega) (by rw [hsa.1]; omega)).2
    rw [pL_k hp 31 rfl (n := 16) rfl] at h9
    exact h9
  have hsf := hg.2.2.2.2.1 (lE R (P.2.1 31) k) hs9
  have hlf := hg.2.2.2.1 _ hsf.2
  have hsk := hsa.2.2 k (by omega) (by omega)
  have htk := hsa.2.1.2 k (by omega) (by omega)
  have hto := hsa.2.1
  have hvr := fun (m : Int) (h9 : 0 ≤ m ∧ m < σ 0 1000) => vlS_r hro hto (which := q) (v := v) hk h9 (by omega)
  refine g_aload_n hΓ rfl dX0_isFirst_0 ?_
  refine g_aload_n hΓ rfl dX0_isFirst_1 ?_
  refine x_geti (c := 9) hE hΓ in_X9 rfl hs9 ⟨by decide, rfl⟩ 0 (ji := 0) rfl (by decide) (by decide) rfl q1198 rfl rfl dX0_isFirst_2 ?_
  refine g_topi (hsk.1) ?_
  refine x_callV (As := [.int (iI (σ 10 k))]) (rest := []) (c := 0) hE hΓ (x_X0_isModel hE hX S D R P σ (σ 10 k) hx (by first | assumption | omega) ) hp.1 ⟨by decide, rfl⟩ rfl rfl q852 q854 qs22 q123 q855 ndX0_isModel rfl (by decide) (by decide) (Nat.zero_le _) (Nat.zero_le _) rfl (Nat.le_of_ble_eq_true rfl) dX0_isFirst_5 rfl (fun v1 S1 τ1 ρ1 h1 => ?_)
  obtain ⟨rfl, S1e, τ1e, ρ1e⟩ := h1
  have S1e := S1e.symm; subst S1e
  have τ1e := τ1e.symm; subst τ1e
  have ρ1e := ρ1e.symm; subst ρ1e
  show gW Γ E (xM E S D R) _ _ _ _ (.int (iI (if 0 ≤ (σ 10 k) ∧ (σ 10 k) < σ 0 1000 then 1 else 0)) :: _)
  refine g_ifB_ne (tgt := 13) hΓ  dX0_isFirst_8 (by decide) (fun c2 => ?_) (fun c2 => ?_)
  · have hi9 := hvr (σ 10 k) (by omega)
    have hEq : (rgE σ k q v).1 = (rgF (fun m => vlS σ k q m v) (σ 10 k) 1 (σ 0 1000).toNat).1 := by rw [rgE, isM, if_pos (by omega), nMod]
    have loop : ∀ (fu : Nat) (m : Int), (σ 0 1000 - m).toNat < fu → (0 ≤ m ∧ m ≤ σ 0 1000) → ((rgF (fun m => vlS σ k q m v) (σ 10 k) 1 m.toNat).1 = 1) → gW Γ E (xM E S D R) 0 0 15 [some (.ref (P.1)), some (.ref (lE R (P.2.1 31) k)), some (.int (iI v)), some (.int (iI m))] [] := by
      intro fu
      induction fu with
      | zero => intro m hn; exact absurd hn (Nat.not_lt_zero _)
      | succ fu ih_loop =>
        intro m hn hm hF
        refine g_iload_n hΓ rfl dX0_isFirst_15 ?_
        refine g_aload_n hΓ rfl dX0_isFirst_16 ?_
        refine x_callV (As := []) (rest := [.int (iI m)]) (c := 0) hE hΓ (x_X0_models hE hX S D R P σ  hx  ) hp.1 ⟨by decide, rfl⟩ rfl rfl q841 q843 qs21 q123 q844 ndX0_models rfl (by decide) (by decide) (Nat.zero_le _) (Nat.zero_le _) rfl (Nat.le_of_ble_eq_true rfl) dX0_isFirst_17 rfl (fun v3 S3 τ3 ρ3 h3 => ?_)
        obtain ⟨rfl, S3e, τ3e, ρ3e⟩ := h3
        have S3e := S3e.symm; subst S3e
        have τ3e := τ3e.symm; subst τ3e
        have ρ3e := ρ3e.symm; subst ρ3e
        show gW Γ E (xM E S D R) _ _ _ _ (.int (iI (σ 0 1000)) :: _)
        refine g_icmp_ge (tgt := 83) hΓ (by omega) (by omega) dX0_isFirst_20 (by decide) (fun c4 => ?_) (fun c4 => ?_)
        · refine g_iconst hΓ dX0_isFirst_83 ?_
          exact x_zret hΓ (by omega) dX0_isFirst_84 (Nat.zero_le _) (Nat.zero_le _) ⟨ri (by rw [hEq, show (σ 0 1000).toNat = m.toNat by omega]; exact hF.symm), rfl, rfl, rfl⟩
        · have hm9 := hvr m (by omega)
          refine g_aload_n hΓ rfl dX0_isFirst_23 ?_
          refine x_geta (r := some (P.2.1 32)) (c := 0) hE hΓ in_X0 rfl hp.1 ⟨by decide, rfl⟩ 32 (ji := 32) rfl (by decide) (by decide) rfl q278 rfl rfl (pA_r hp 32 rfl rfl) dX0_isFirst_24 ?_
          show gW Γ E (xM E S D R) 0 0 _ _ (.ref (P.2.1 32) :: _)
          refine g_iload_n hΓ rfl dX0_isFirst_27 ?_
          refine x_aaldG (r := some (P.2.2 32 v)) hΓ (pA_k hp 32 rfl (n := 82) rfl) (pA_n hp 32 rfl (n := 41) rfl) ⟨by decide, rfl⟩ (by omega) (by omega) (pG_r hp 32 rfl (n := 41) rfl (i := v) (by omega)) dX0_isFirst_28 ?_
          show gW Γ E (xM E S D R) 0 0 _ _ (.ref (P.2.2 32 v) :: _)
          refine g_iload_n hΓ rfl dX0_isFirst_29 ?_
          refine x_iald hΓ (pG_k hp 32 rfl (n := 41) rfl (i := v) (by omega) (m := 132) rfl) (pG_n hp 32 rfl (n := 41) rfl (i := v) (by omega) (m := 8) rfl) ⟨by decide, rfl⟩ (by omega) (by omega) dX0_isFirst_30 ?_
          refine g_topi ((hT v m (by omega) (by omega) (by omega) (Or.inl (by omega)))) ?_
          refine g_aload_n hΓ rfl dX0_isFirst_31 ?_
          refine x_geta (r := some (P.2.1 32)) (c := 0) hE hΓ in_X0 rfl hp.1 ⟨by decide, rfl⟩ 32 (ji := 32) rfl (by decide) (by decide) rfl q278 rfl rfl (pA_r hp 32 rfl rfl) dX0_isFirst_32 ?_
          show gW Γ E (xM E S D R) 0 0 _ _ (.ref (P.2.1 32) :: _)
          refine g_iload_n hΓ rfl dX0_isFirst_35 ?_
          refine x_aaldG (r := some (P.2.2 32 v)) hΓ (pA_k hp 32 rfl (n := 82) rfl) (pA_n hp 32 rfl (n := 41) rfl) ⟨by decide, rfl⟩ (by omega) (by omega) (pG_r hp 32 rfl (n := 41) rfl (i := v) (by omega)) dX0_isFirst_36 ?_
          show gW Γ E (xM E S D R) 0 0 _ _ (.ref (P.2.2 32 v) :: _)
          refine g_aload_n hΓ rfl dX0_isFirst_37 ?_
          refine x_geti (c := 9) hE hΓ in_X9 rfl hs9 ⟨by decide, rfl⟩ 0 (ji := 0) rfl (by decide) (by decide) rfl q1198 rfl rfl dX0_isFirst_38 ?_
          refine g_topi (hsk.1) ?_
          refine x_iald hΓ (pG_k hp 32 rfl (n := 41) rfl (i := v) (by omega) (m := 132) rfl) (pG_n hp 32 rfl (n := 41) rfl (i := v) (by omega) (m := 8) rfl) ⟨by decide, rfl⟩ (by omega) (by omega) dX0_isFirst_41 ?_
          refine g_topi ((hT v (σ 10 k) (by omega) (by omega) (by omega) (Or.inl (by omega)))) ?_
          refine g_icmp_lt (tgt := 75) hΓ (by omega) (by omega) dX0_isFirst_42 (by decide) (fun c5 => ?_) (fun c5 => ?_)
          · refine g_iconst hΓ dX0_isFirst_75 ?_
            exact x_zret hΓ (by omega) dX0_isFirst_76 (Nat.zero_le _) (Nat.zero_le _) ⟨ri (by rw [hEq]; exact (rg_no (S := (fun m => vlS σ k q m v)) (its := (σ 10 k)) (m := m) (by omega) (by omega) (by show vlS σ k q m v < vlS σ k q (σ 10 k) v ∨ (vlS σ k q m v = vlS σ k q (σ 10 k) v ∧ m < σ 10 k); omega)).symm), rfl, rfl, rfl⟩
          · refine g_aload_n hΓ rfl dX0_isFirst_45 ?_
            refine x_geta (r := some (P.2.1 32)) (c := 0) hE hΓ in_X0 rfl hp.1 ⟨by decide, rfl⟩ 32 (ji := 32) rfl (by decide) (by decide) rfl q278 rfl rfl (pA_r hp 32 rfl rfl) dX0_isFirst_46 ?_
            show gW Γ E (xM E S D R) 0 0 _ _ (.ref (P.2.1 32) :: _)
            refine g_iload_n hΓ rfl dX0_isFirst_49 ?_
            refine x_aaldG (r := some (P.2.2 32 v)) hΓ (pA_k hp 32 rfl (n := 82) rfl) (pA_n hp 32 rfl (n := 41) rfl) ⟨by decide, rfl⟩ (by omega) (by omega) (pG_r hp 32 rfl (n := 41) rfl (i := v) (by omega)) dX0_isFirst_50 ?_
            show gW Γ E (xM E S D R) 0 0 _ _ (.ref (P.2.2 32 v) :: _)
            refine g_iload_n hΓ rfl dX0_isFirst_51 ?_
            refine x_iald hΓ (pG_k hp 32 rfl (n := 41) rfl (i := v) (by omega) (m := 132) rfl) (pG_n hp 32 rfl (n := 41) rfl (i := v) (by omega) (m := 8) rfl) ⟨by decide, rfl⟩ (by omega) (by omega) dX0_isFirst_52 ?_
            refine g_topi ((hT v m (by omega) (by omega) (by omega) (Or.inl (by omega)))) ?_
            refine g_aload_n hΓ rfl dX0_isFirst_53 ?_
            refine x_geta (r := some (P.2.1 32)) (c := 0) hE hΓ in_X0 rfl hp.1 ⟨by decide, rfl⟩ 32 (ji := 32) rfl (by decide) (by decide) rfl q278 rfl rfl (pA_r hp 32 rfl rfl) dX0_isFirst_54 ?_
            show gW Γ E (xM E S D R) 0 0 _ _ (.ref (P.2.1 32) :: _)
            refine g_iload_n hΓ rfl dX0_isFirst_57 ?_
            refine x_aaldG (r := some (P.2.2 32 v)) hΓ (pA_k hp 32 rfl (n := 82) rfl) (pA_n hp 32 rfl (n := 41) rfl) ⟨by decide, rfl⟩ (by omega) (by omega) (pG_r hp 32 rfl (n := 41) rfl (i := v) (by omega)) dX0_isFirst_58 ?_
            show gW Γ E (xM E S D R) 0 0 _ _ (.ref (P.2.2 32 v) :: _)
            refine g_aload_n hΓ rfl dX0_isFirst_59 ?_
            refine x_geti (c := 9) hE hΓ in_X9 rfl hs9 ⟨by decide, rfl⟩ 0 (ji := 0) rfl (by decide) (by decide) rfl q1198 rfl rfl dX0_isFirst_60 ?_
            refine g_topi (hsk.1) ?_
            refine x_iald hΓ (pG_k hp 32 rfl (n := 41) rfl (i := v) (by omega) (m := 132) rfl) (pG_n hp 32 rfl (n := 41) rfl (i := v) (by omega) (m := 8) rfl) ⟨by decide, rfl⟩ (by omega) (by omega) dX0_isFirst_63 ?_
            refine g_topi ((hT v (σ 10 k) (by omega) (by omega) (by omega) (Or.inl (by omega)))) ?_
            refine g_icmp_ne (tgt := 77) hΓ (by omega) (by omega) dX0_isFirst_64 (by decide) (fun c6 => ?_) (fun c6 => ?_)
            · obtain ⟨x7, ex7⟩ : ∃ z9 : Int, z9 = m + 1 := ⟨_, rfl⟩
              refine g_iinc hΓ dX0_isFirst_77 rfl rfl (lv' := [some (.ref (P.1)), some (.ref (lE R (P.2.1 31) k)), some (.int (iI v)), some (.int (iI x7))]) (by rw [ex7]; rfl) ?_
              refine g_goto (tgt := 15) hΓ dX0_isFirst_80 (by decide) ?_
              exact ih_loop x7 (by omega) (by omega) (by rw [show x7 = m + 1 by omega]; exact rg_go (by omega) hF (by show ¬ vlS σ k q m v < vlS σ k q (σ 10 k) v ∧ (vlS σ k q m v = vlS σ k q (σ 10 k) v → ¬ m < σ 10 k); omega))
            · refine g_iload_n hΓ rfl dX0_isFirst_67 ?_
              refine g_aload_n hΓ rfl dX0_isFirst_68 ?_
              refine x_geti (c := 9) hE hΓ in_X9 rfl hs9 ⟨by decide, rfl⟩ 0 (ji := 0) rfl (by decide) (by decide) rfl q1198 rfl rfl dX0_isFirst_69 ?_
              refine g_topi (hsk.1) ?_
              refine g_icmp_ge (tgt := 77) hΓ (by omega) (by omega) dX0_isFirst_72 (by decide) (fun c8 => ?_) (fun c8 => ?_)
              · obtain ⟨x9, ex9⟩ : ∃ z9 : Int, z9 = m + 1 := ⟨_, rfl⟩
                refine g_iinc hΓ dX0_isFirst_77 rfl rfl (lv' := [some (.ref (P.1)), some (.ref (lE R (P.2.1 31) k)), some (.int (iI v)), some (.int (iI x9))]) (by rw [ex9]; rfl) ?_
                refine g_goto (tgt := 15) hΓ dX0_isFirst_80 (by decide) ?_
                exact ih_loop x9 (by omega) (by omega) (by rw [show x9 = m + 1 by omega]; exact rg_go (by omega) hF (by show ¬ vlS σ k q m v < vlS σ k q (σ 10 k) v ∧ (vlS σ k q m v = vlS σ k q (σ 10 k) v → ¬ m < σ 10 k); omega))
              · refine g_iconst hΓ dX0_isFirst_75 ?_
                exact x_zret hΓ (by omega) dX0_isFirst_76 (Nat.zero_le _) (Nat.zero_le _) ⟨ri (by rw [hEq]; exact (rg_no (S := (fun m => vlS σ k q m v)) (its := (σ 10 k)) (m := m) (by omega) (by omega) (by show vlS σ k q m v < vlS σ k q (σ 10 k) v ∨ (vlS σ k q m v = vlS σ k q (σ 10 k) v ∧ m < σ 10 k); omega)).symm), rfl, rfl, rfl⟩
    refine g_iconst hΓ dX0_isFirst_13 ?_
    refine g_istore_n hΓ dX0_isFirst_14 rfl (Nat.le_of_ble_eq_true rfl) (lv' := [some (.ref (P.1)), some (.ref (lE R (P.2.1 31) k)), some (.int (iI v)), some (.int (iI 0))]) rfl ?_
    exact loop 9 0 (by omega) (by omega) rfl
  · refine g_iconst hΓ dX0_isFirst_11 ?_
    exact x_zret hΓ (by omega) dX0_isFirst_12 (Nat.zero_le _) (Nat.zero_le _) ⟨ri (by rw [rgE, isM, if_neg (by omega), rg_0]), rfl, rfl, rfl⟩
