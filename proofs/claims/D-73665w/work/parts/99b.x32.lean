set_option maxRecDepth 100000
set_option maxHeartbeats 4000000 in
theorem x_X0_rightBy {l : Launch} {E : gE} {X : State → Prop} {Z : Nat → Nat} {Y : Nat → Option Nat} (hE : E.2.1 = clsX) (hX : xOK l E X Z Y) (S : xS) (D : xD) (R : xR) (P : xPk) (σ : mS) (k q mo v : Int) (hx : Rx E Z S D R P σ) (hk : 0 ≤ k ∧ k < σ 6 0) (hq : 0 ≤ q ∧ q ≤ 2) (hmo : 0 ≤ mo ∧ mo ≤ 40) (hv : 0 ≤ v ∧ v ≤ mo) (hT : vtI P D σ k q mo (σ 0 1000) 0) (hn2 : 2 ≤ σ 0 1000) (hmd : 0 ≤ σ 10 k ∧ σ 10 k < σ 0 1000) (hP0 : P.2.1 99 = 0) : xC l E X yX0_rightBy cX0_rightBy 5 (some .int) 2 0 0 [.ref (P.1), .ref (lE R (P.2.1 31) k), .int (iI v)] S D R (fun rv S' D' R' => rv = some (.int (iI ((rgE σ k q v).2))) ∧ S' = S ∧ D' = D ∧ R' = R) := by
  refine xC.of hX.1 (by decide) [some (.ref (P.1)), some (.ref (lE R (P.2.1 31) k)), some (.int (iI v)), none, none] (Nat.le_of_ble_eq_true rfl) rfl rfl (fun Γ hΓ => ?_)
  obtain ⟨hg, hp, hki, hro, hnw, hbh, hsa, hpd⟩ := id hx
  obtain ⟨N, NI, NM, NV, hN⟩ := (hx).now
  have hAw := hg.2.2.2.2.2.2
  have hG : GS S D R := hg.1
  obtain ⟨h1000, h1009, h1042, h1043, h1044, h1045, h1046, h1047, hms, hsi, hsm, hnm⟩ := id hro
  have eN := hN.2.2.2.2.2.2.2.2.2.2.2.2
  have kNV : (S NV).1 = 45 := by rw [hN.2.2.2.1.2]
  have nNV : (S NV).2.1 = 6 := by rw [hN.2.2.2.1.2]
  replace hsa := hsa hP0
  have hs9 : (S (lE R (P.2.1 31) k)).1 = 9 := by
    have h9 := ((hg.2.1 (P.2.1 31) (by rw [pL_k hp 31 rfl (n := 16) rfl]; decide) (by rw [pL_k hp 31 rfl (n := 16) rfl]; decide)).2.2.2 k (by omega) (by rw [hsa.1]; omega)).2
    rw [pL_k hp 31 rfl (n := 16) rfl] at h9
    exact h9
  have hsf := hg.2.2.2.2.1 (lE R (P.2.1 31) k) hs9
  have hlf := hg.2.2.2.1 _ hsf.2
  have hsk := hsa.2.2 k (by omega) (by omega)
  have htk := hsa.2.1.2 k (by omega) (by omega)
  have hto := hsa.2.1
  have hvr := fun (m : Int) (h9 : 0 ≤ m ∧ m < σ 0 1000) => vlS_r hro hto (which := q) (v := v) hk h9 (by omega)
  have hi9 := hvr (σ 10 k) (by omega)
  have hEq : (rgE σ k q v).2 = (rgF (fun m => vlS σ k q m v) (σ 10 k) 1 (σ 0 1000).toNat).2 := by rw [rgE, isM, if_pos (by omega), nMod]
  have loop : ∀ (fu : Nat) (ot : Int) (m : Int), (σ 0 1000 - m).toNat < fu → (0 ≤ m ∧ m ≤ σ 0 1000) → (0 ≤ ot ∧ ot ≤ 100000) → (rtI (fun m => vlS σ k q m v) (σ 10 k) m ot) → gW Γ E (xM E S D R) 0 0 7 [some (.ref (P.1)), some (.ref (lE R (P.2.1 31) k)), some (.int (iI v)), some (.int (iI ot)), some (.int (iI m))] [] := by
    intro fu
    induction fu with
    | zero => intro ot m hn; exact absurd hn (Nat.not_lt_zero _)
    | succ fu ih_loop =>
      intro ot m hn hm hot hI
      refine g_iload hΓ rfl dX0_rightBy_7 ?_
      refine g_aload_n hΓ rfl dX0_rightBy_9 ?_
      refine x_callV (As := []) (rest := [.int (iI m)]) (c := 0) hE hΓ (x_X0_models hE hX S D R P σ  hx  ) hp.1 ⟨by decide, rfl⟩ rfl rfl q841 q843 qs21 q123 q844 ndX0_models rfl (by decide) (by decide) (Nat.zero_le _) (Nat.zero_le _) rfl (Nat.le_of_ble_eq_true rfl) dX0_rightBy_10 rfl (fun v1 S1 τ1 ρ1 h1 => ?_)
      obtain ⟨rfl, S1e, τ1e, ρ1e⟩ := h1
      have S1e := S1e.symm; subst S1e
      have τ1e := τ1e.symm; subst τ1e
      have ρ1e := ρ1e.symm; subst ρ1e
      show gW Γ E (xM E S D R) _ _ _ _ (.int (iI (σ 0 1000)) :: _)
      refine g_icmp_ge (tgt := 45) hΓ (by omega) (by omega) dX0_rightBy_13 (by decide) (fun c2 => ?_) (fun c2 => ?_)
      · refine g_iload_n hΓ rfl dX0_rightBy_45 ?_
        refine g_aload_n hΓ rfl dX0_rightBy_46 ?_
        refine x_geta (r := some (P.2.1 32)) (c := 0) hE hΓ in_X0 rfl hp.1 ⟨by decide, rfl⟩ 32 (ji := 32) rfl (by decide) (by decide) rfl q278 rfl rfl (pA_r hp 32 rfl rfl) dX0_rightBy_47 ?_
        show gW Γ E (xM E S D R) 0 0 _ _ (.ref (P.2.1 32) :: _)
        refine g_iload_n hΓ rfl dX0_rightBy_50 ?_
        refine x_aaldG (r := some (P.2.2 32 v)) hΓ (pA_k hp 32 rfl (n := 82) rfl) (pA_n hp 32 rfl (n := 41) rfl) ⟨by decide, rfl⟩ (by omega) (by omega) (pG_r hp 32 rfl (n := 41) rfl (i := v) (by omega)) dX0_rightBy_51 ?_
        show gW Γ E (xM E S D R) 0 0 _ _ (.ref (P.2.2 32 v) :: _)
        refine g_aload_n hΓ rfl dX0_rightBy_52 ?_
        refine x_geti (c := 9) hE hΓ in_X9 rfl hs9 ⟨by decide, rfl⟩ 0 (ji := 0) rfl (by decide) (by decide) rfl q1198 rfl rfl dX0_rightBy_53 ?_
        refine g_topi (hsk.1) ?_
        refine x_iald hΓ (pG_k hp 32 rfl (n := 41) rfl (i := v) (by omega) (m := 132) rfl) (pG_n hp 32 rfl (n := 41) rfl (i := v) (by omega) (m := 8) rfl) ⟨by decide, rfl⟩ (by omega) (by omega) dX0_rightBy_56 ?_
        refine g_topi ((hT v (σ 10 k) (by omega) (by omega) (by omega) (Or.inl (by omega)))) ?_
        refine g_isub hΓ dX0_rightBy_57 ?_
        exact x_iret hΓ dX0_rightBy_58 (Nat.zero_le _) (Nat.zero_le _) ⟨ri (by rw [hEq]; rcases hI with ⟨a9, b9, c9⟩ | ⟨a9, b9, c9⟩; exact absurd c9 (by omega); rw [show (σ 0 1000).toNat = m.toNat by omega]; exact c9.symm), rfl, rfl, rfl⟩
      · refine g_iload hΓ rfl dX0_rightBy_16 ?_
        refine g_aload_n hΓ rfl dX0_rightBy_18 ?_
        refine x_geti (c := 9) hE hΓ in_X9 rfl hs9 ⟨by decide, rfl⟩ 0 (ji := 0) rfl (by decide) (by decide) rfl q1198 rfl rfl dX0_rightBy_19 ?_
        refine g_topi (hsk.1) ?_
        refine g_icmp_eq (tgt := 39) hΓ (by omega) (by omega) dX0_rightBy_22 (by decide) (fun c3 => ?_) (fun c3 => ?_)
        · obtain ⟨x4, ex4⟩ : ∃ z9 : Int, z9 = m + 1 := ⟨_, rfl⟩
          refine g_iinc hΓ dX0_rightBy_39 rfl rfl (lv' := [some (.ref (P.1)), some (.ref (lE R (P.2.1 31) k)), some (.int (iI v)), some (.int (iI ot)), some (.int (iI x4))]) (by rw [ex4]; rfl) ?_
          refine g_goto (tgt := 7) hΓ dX0_rightBy_42 (by decide) ?_
          exact ih_loop ot x4 (by omega) (by omega) (by omega) (by rw [show x4 = m + 1 by omega]; exact rtI_skip (by omega) hI (by omega))
        · have hm9 := hvr m (by omega)
          refine g_iload_n hΓ rfl dX0_rightBy_25 ?_
          refine g_aload_n hΓ rfl dX0_rightBy_26 ?_
          refine x_geta (r := some (P.2.1 32)) (c := 0) hE hΓ in_X0 rfl hp.1 ⟨by decide, rfl⟩ 32 (ji := 32) rfl (by decide) (by decide) rfl q278 rfl rfl (pA_r hp 32 rfl rfl) dX0_rightBy_27 ?_
          show gW Γ E (xM E S D R) 0 0 _ _ (.ref (P.2.1 32) :: _)
          refine g_iload_n hΓ rfl dX0_rightBy_30 ?_
          refine x_aaldG (r := some (P.2.2 32 v)) hΓ (pA_k hp 32 rfl (n := 82) rfl) (pA_n hp 32 rfl (n := 41) rfl) ⟨by decide, rfl⟩ (by omega) (by omega) (pG_r hp 32 rfl (n := 41) rfl (i := v) (by omega)) dX0_rightBy_31 ?_
          show gW Γ E (xM E S D R) 0 0 _ _ (.ref (P.2.2 32 v) :: _)
          refine g_iload hΓ rfl dX0_rightBy_32 ?_
          refine x_iald hΓ (pG_k hp 32 rfl (n := 41) rfl (i := v) (by omega) (m := 132) rfl) (pG_n hp 32 rfl (n := 41) rfl (i := v) (by omega) (m := 8) rfl) ⟨by decide, rfl⟩ (by omega) (by omega) dX0_rightBy_34 ?_
          refine g_topi ((hT v m (by omega) (by omega) (by omega) (Or.inl (by omega)))) ?_
          refine x_callS (As := [.int (iI ot), .int (iI (vlS σ k q m v))]) (rest := []) hΓ (x_J3_min hE hX S D R ot (vlS σ k q m v) (by first | assumption | omega) (by first | assumption | omega)) rfl q222 q223 q129 q224 ndJ3_min rfl (by decide) (by decide) (Nat.zero_le _) (Nat.zero_le _) rfl (Nat.le_of_ble_eq_true rfl) dX0_rightBy_35 rfl (fun v5 S5 τ5 ρ5 h5 => ?_)
          obtain ⟨rfl, S5e, τ5e, ρ5e⟩ := h5
          have S5e := S5e.symm; subst S5e
          have τ5e := τ5e.symm; subst τ5e
          have ρ5e := ρ5e.symm; subst ρ5e
          show gW Γ E (xM E S D R) _ _ _ _ (.int (iI (min ot (vlS σ k q m v))) :: _)
          obtain ⟨x6, ex6⟩ : ∃ z9 : Int, z9 = min ot (vlS σ k q m v) := ⟨_, rfl⟩
          refine g_topi ex6.symm ?_
          refine g_istore_n hΓ dX0_rightBy_38 rfl (Nat.le_of_ble_eq_true rfl) (lv' := [some (.ref (P.1)), some (.ref (lE R (P.2.1 31) k)), some (.int (iI v)), some (.int (iI x6)), some (.int (iI m))]) rfl ?_
          obtain ⟨x7, ex7⟩ : ∃ z9 : Int, z9 = m + 1 := ⟨_, rfl⟩
          refine g_iinc hΓ dX0_rightBy_39 rfl rfl (lv' := [some (.ref (P.1)), some (.ref (lE R (P.2.1 31) k)), some (.int (iI v)), some (.int (iI x6)), some (.int (iI x7))]) (by rw [ex7]; rfl) ?_
          refine g_goto (tgt := 7) hΓ dX0_rightBy_42 (by decide) ?_
          exact ih_loop x6 x7 (by omega) (by omega) (by omega) (by rw [show x7 = m + 1 by omega]; exact rtI_take (by omega) hI (by omega) hm9 hi9 ex6)
  refine g_ldcw (n := 100000) hΓ rfl q1002 (by decide) dX0_rightBy_0 ?_
  refine g_istore_n hΓ dX0_rightBy_3 rfl (Nat.le_of_ble_eq_true rfl) (lv' := [some (.ref (P.1)), some (.ref (lE R (P.2.1 31) k)), some (.int (iI v)), some (.int (iI 100000)), none]) rfl ?_
  refine g_iconst hΓ dX0_rightBy_4 ?_
  refine g_istore hΓ dX0_rightBy_5 rfl (Nat.le_of_ble_eq_true rfl) (lv' := [some (.ref (P.1)), some (.ref (lE R (P.2.1 31) k)), some (.int (iI v)), some (.int (iI 100000)), some (.int (iI 0))]) rfl ?_
  exact loop 9 100000 0 (by omega) (by omega) (by omega) rtI_0
