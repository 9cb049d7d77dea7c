set_option maxRecDepth 100000
set_option maxHeartbeats 4000000 in
theorem x_X0_mostOf {l : Launch} {E : gE} {X : State → Prop} {Z : Nat → Nat} {Y : Nat → Option Nat} (hE : E.2.1 = clsX) (hX : xOK l E X Z Y) (S : xS) (D : xD) (R : xR) (w : Int) (hw : r32 w) : xC l E X yX0_mostOf cX0_mostOf 1 (some .int) 0 0 0 [.int (iI w)] S D R (fun rv S' D' R' => rv = some (.int (iI (if w = 2 then 16 else 40))) ∧ S' = S ∧ D' = D ∧ R' = R) := by
  refine xC.of hX.1 (by decide) [some (.int (iI w))] (Nat.le_of_ble_eq_true rfl) rfl rfl (fun Γ hΓ => ?_)
  refine g_iload_n hΓ rfl dX0_mostOf_0 ?_
  refine g_iconst hΓ dX0_mostOf_1 ?_
  refine g_icmp_ne (tgt := 10) hΓ (by omega) (by omega) dX0_mostOf_2 (by decide) (fun c1 => ?_) (fun c1 => ?_)
  · refine g_bipush hΓ (by decide) dX0_mostOf_10 ?_
    exact x_iret hΓ dX0_mostOf_12 (Nat.zero_le _) (Nat.zero_le _) ⟨ri (by first | rfl | omega | (simp_all; done) | (simp_all; omega)), rfl, rfl, rfl⟩
  · refine g_bipush hΓ (by decide) dX0_mostOf_5 ?_
    refine g_goto (tgt := 12) hΓ dX0_mostOf_7 (by decide) ?_
    exact x_iret hΓ dX0_mostOf_12 (Nat.zero_le _) (Nat.zero_le _) ⟨ri (by first | rfl | omega | (simp_all; done) | (simp_all; omega)), rfl, rfl, rfl⟩
set_option maxHeartbeats 4000000 in
theorem x_X7_many {l : Launch} {E : gE} {X : State → Prop} {Z : Nat → Nat} {Y : Nat → Option Nat} (hE : E.2.1 = clsX) (hX : xOK l E X Z Y) (S : xS) (D : xD) (R : xR) (a b : Nat) (ha : (S a).1 = 7) (hr : R a 1 = some b) (hb : (S b).1 = 12) : xC l E X yX7_many cX7_many 1 (some .int) 1 0 0 [.ref a] S D R (fun rv S' D' R' => rv = some (.int (iI (D b 2))) ∧ S' = S ∧ D' = D ∧ R' = R) := by
  refine xC.of hX.1 (by decide) [some (.ref a)] (Nat.le_of_ble_eq_true rfl) rfl rfl (fun Γ hΓ => ?_)
  refine g_aload_n hΓ rfl dX7_many_0 ?_
  refine x_geta (r := some b) (c := 7) hE hΓ in_X7 rfl ha ⟨by decide, rfl⟩ 1 (ji := 1) rfl (by decide) (by decide) rfl q767 rfl rfl hr dX7_many_1 ?_
  show gW Γ E (xM E S D R) 0 0 _ _ (.ref b :: _)
  refine x_callV (As := []) (rest := []) (c := 10) hE hΓ (x_J2_size hE hX S D R b 12 hb (by decide) ) hb ⟨by decide, rfl⟩ rfl rfl q1218 q662 q663 q127 q664 ndJ2_size rfl (by decide) (by decide) (Nat.zero_le _) (Nat.zero_le _) rfl (Nat.le_of_ble_eq_true rfl) dX7_many_4 rfl (fun v1 S1 τ1 ρ1 h1 => ?_)
  obtain ⟨rfl, S1e, τ1e, ρ1e⟩ := h1
  have S1e := S1e.symm; subst S1e
  have τ1e := τ1e.symm; subst τ1e
  have ρ1e := ρ1e.symm; subst ρ1e
  show gW Γ E (xM E S D R) _ _ _ _ (.int (iI (D b 2)) :: _)
  exact x_iret hΓ dX7_many_7 (Nat.zero_le _) (Nat.zero_le _) ⟨rfl, rfl, rfl, rfl⟩
set_option maxHeartbeats 4000000 in
theorem x_X0_placeOf {l : Launch} {E : gE} {X : State → Prop} {Z : Nat → Nat} {Y : Nat → Option Nat} (hE : E.2.1 = clsX) (hX : xOK l E X Z Y) (hL : xLam l E X (Z 20) (Z 21)) (S : xS) (D : xD) (R : xR) (P : xPk) (σ : mS) (k : Int) (hx : Rx E Z S D R P σ) (hk : 0 ≤ k ∧ k < σ 6 0) (hP0 : P.2.1 99 = 0) : xC l E X yX0_placeOf cX0_placeOf 3 (some .int) 14 0 0 [.ref (P.1), .ref (lE R (P.2.1 31) k)] S D R (fun rv S' D' R' => rv = some (.int (iI (if 0 ≤ σ 10 k ∧ σ 10 k < σ 0 1000 then plF (scM σ (40 + 8 * k) (σ 9 k)) (σ 10 k) (nMod σ) else -1))) ∧ (Rx E Z S D' R' P σ) ∧ S' = S ∧ fr S D D' [8003, 42, 43, 44, 112, 115, 116, 117, 46, 47, 48, 49, 1022, 68, 69, 73, 74] ∧ fr S R R' [1009, 1010]) := by
  refine xC.of hX.1 (by decide) [some (.ref (P.1)), some (.ref (lE R (P.2.1 31) k)), none] (Nat.le_of_ble_eq_true rfl) rfl rfl (fun Γ hΓ => ?_)
  obtain ⟨hg, hp, hki, hro, hnw, hbh, hsa, hpd⟩ := id hx
  obtain ⟨N, NI, NM, NV, hN⟩ := (hx).now
  have hAw := hg.2.2.2.2.2.2
  have hG : GS S D R := hg.1
  obtain ⟨h1000, h1009, h1042, h1043, h1044, h1045, h1046, h1047, hms, hsi, hsm, hnm⟩ := id hro
  have eN := hN.2.2.2.2.2.2.2.2.2.2.2.2
  have kNV : (S NV).1 = 45 := by rw [hN.2.2.2.1.2]
  have nNV : (S NV).2.1 = 6 := by rw [hN.2.2.2.1.2]
  replace hsa := hsa hP0
  have hs9 : (S (lE R (P.2.1 31) k)).1 = 9 := by
    have h9 := ((hg.2.1 (P.2.1 31) (by rw [pL_k hp 31 rfl (n := 16) rfl]; decide) (by rw [pL_k hp 31 rfl (n := 16) rfl]; decide)).2.2.2 k (by omega) (by rw [hsa.1]; omega)).2
    rw [pL_k hp 31 rfl (n := 16) rfl] at h9
    exact h9
  have hsf := hg.2.2.2.2.1 (lE R (P.2.1 31) k) hs9
  have hlf := hg.2.2.2.1 _ hsf.2
  have hsk := hsa.2.2 k (by omega) (by omega)
  have htk := hsa.2.1.2 k (by omega) (by omega)
  refine g_aload_n hΓ rfl dX0_placeOf_0 ?_
  refine g_aload_n hΓ rfl dX0_placeOf_1 ?_
  refine x_geti (c := 9) hE hΓ in_X9 rfl hs9 ⟨by decide, rfl⟩ 0 (ji := 0) rfl (by decide) (by decide) rfl q1198 rfl rfl dX0_placeOf_2 ?_
  refine g_topi (hsk.1) ?_
  refine x_callV (As := [.int (iI (σ 10 k))]) (rest := []) (c := 0) hE hΓ (x_X0_isModel hE hX S D R P σ (σ 10 k) hx (by first | assumption | omega) ) hp.1 ⟨by decide, rfl⟩ rfl rfl q852 q854 qs22 q123 q855 ndX0_isModel rfl (by decide) (by decide) (Nat.zero_le _) (Nat.zero_le _) rfl (Nat.le_of_ble_eq_true rfl) dX0_placeOf_5 rfl (fun v1 S1 τ1 ρ1 h1 => ?_)
  obtain ⟨rfl, S1e, τ1e, ρ1e⟩ := h1
  have S1e := S1e.symm; subst S1e
  have τ1e := τ1e.symm; subst τ1e
  have ρ1e := ρ1e.symm; subst ρ1e
  show gW Γ E (xM E S D R) _ _ _ _ (.int (iI (if 0 ≤ (σ 10 k) ∧ (σ 10 k) < σ 0 1000 then 1 else 0)) :: _)
  refine g_ifB_ne (tgt := 13) hΓ  dX0_placeOf_8 (by decide) (fun c2 => ?_) (fun c2 => ?_)
  · refine g_aload_n hΓ rfl dX0_placeOf_13 ?_
    refine g_aload_n hΓ rfl dX0_placeOf_14 ?_
    refine x_geta (r := some (rf R (lE R (P.2.1 31) k) 1)) (c := 9) hE hΓ in_X9 rfl hs9 ⟨by decide, rfl⟩ 1 (ji := 1) rfl (by decide) (by decide) rfl q1200 rfl rfl hsf.1 dX0_placeOf_15 ?_
    show gW Γ E (xM E S D R) 0 0 _ _ (.ref (rf R (lE R (P.2.1 31) k) 1) :: _)
    refine x_geta (r := some (rf R (rf R (lE R (P.2.1 31) k) 1) 1)) (c := 7) hE hΓ in_X7 rfl hsf.2 ⟨by decide, rfl⟩ 1 (ji := 1) rfl (by decide) (by decide) rfl q769 rfl rfl hlf.2.2.1 dX0_placeOf_18 ?_
    show gW Γ E (xM E S D R) 0 0 _ _ (.ref (rf R (rf R (lE R (P.2.1 31) k) 1) 1) :: _)
    refine x_callV (As := [.ref (rf R (rf R (lE R (P.2.1 31) k) 1) 1)]) (rest := []) (c := 0) hE hΓ (x_X0_ranks hE hX hL S D R P σ (rf R (rf R (lE R (P.2.1 31) k) 1) 1) 12 (40 + 8 * k) (σ 9 k) hx hlf.2.2.2.1 (by decide) hsk.2 htk.2.2 ) hp.1 ⟨by decide, rfl⟩ rfl rfl q1081 q1083 qs38 q123 q1084 ndX0_ranks rfl (by decide) (by decide) (Nat.zero_le _) (Nat.zero_le _) rfl (Nat.le_of_ble_eq_true rfl) dX0_placeOf_21 rfl (fun v3 S3 τ3 ρ3 h3 => ?_)
    obtain ⟨rfl, h3, S3e, τ3f, ρ3f⟩ := h3
    have S3e := S3e.symm; subst S3e
    have hnM := nMod_c (σ := σ) (by omega)
    have hpr := plF_r (scM σ (40 + 8 * k) (σ 9 k)) (σ 10 k) (nMod σ)
    have hpn := plF_n (f := (scM σ (40 + 8 * k) (σ 9 k))) (m := σ 10 k) (nMod σ) (by omega) (by omega)
    obtain ⟨pp, epp⟩ : ∃ z9 : Int, z9 = plF (scM σ (40 + 8 * k) (σ 9 k)) (σ 10 k) (nMod σ) := ⟨_, rfl⟩
    have loop : ∀ (fu : Nat) (j : Int), (pp - j).toNat < fu → (0 ≤ j ∧ j ≤ pp) → gW Γ E (xM E S τ3 ρ3) 0 0 26 [some (.ref (P.1)), some (.ref (lE R (P.2.1 31) k)), some (.int (iI j))] [] := by
      intro fu
      induction fu with
      | zero => intro j hn; exact absurd hn (Nat.not_lt_zero _)
      | succ fu ih_loop =>
        intro j hn hj
        have hmj := moA_in (f := (scM σ (40 + 8 * k) (σ 9 k))) (N := nMod σ) (p := j) (by omega) (by omega)
        refine g_aload_n hΓ rfl dX0_placeOf_26 ?_
        refine x_geta (r := some (P.2.1 24)) (c := 0) hE hΓ in_X0 rfl hp.1 ⟨by decide, rfl⟩ 24 (ji := 24) rfl (by decide) (by decide) rfl q270 rfl rfl ((ρ3f (P.1) 24 (by rw [hp.1]; decide)).trans (pA_r hp 24 rfl rfl)) dX0_placeOf_27 ?_
        show gW Γ E (xM E S τ3 ρ3) 0 0 _ _ (.ref (P.2.1 24) :: _)
        refine g_iload_n hΓ rfl dX0_placeOf_30 ?_
        refine x_iald hΓ (pA_k hp 24 rfl (n := 74) rfl) (pA_n hp 24 rfl (n := 8) rfl) ⟨by decide, rfl⟩ (by omega) (by omega) dX0_placeOf_31 ?_
        refine g_topi ((h3.2.2 j (by omega) (by omega)).2) ?_
        refine g_aload_n hΓ rfl dX0_placeOf_32 ?_
        refine x_geti (c := 9) hE hΓ in_X9 rfl hs9 ⟨by decide, rfl⟩ 0 (ji := 0) rfl (by decide) (by decide) rfl q1198 rfl rfl dX0_placeOf_33 ?_
        refine g_topi (((τ3f (lE R (P.2.1 31) k) 0 (by rw [hs9]; decide)).trans hsk.1)) ?_
        refine g_icmp_eq (tgt := 45) hΓ (by omega) (by omega) dX0_placeOf_36 (by decide) (fun c4 => ?_) (fun c4 => ?_)
        · refine g_iload_n hΓ rfl dX0_placeOf_45 ?_
          exact x_iret hΓ dX0_placeOf_46 (Nat.zero_le _) (Nat.zero_le _) ⟨ri (by rw [if_pos (by omega), ← (show moA (scM σ (40 + 8 * k) (σ 9 k)) (nMod σ) j = σ 10 k by assumption)]; exact hmj.2.2.symm), h3.1, rfl, (fun q9 j9 hk9 => by exact (τ3f q9 j9 (fun e9 => hk9 ((show ∀ x ∈ [8003, 42, 43, 44, 112, 115, 116, 117, 46, 47, 48, 49, 1022, 68, 69, 73, 74], x ∈ [8003, 42, 43, 44, 112, 115, 116, 117, 46, 47, 48, 49, 1022, 68, 69, 73, 74] by decide) _ e9)))), (fun q9 j9 hk9 => by exact (ρ3f q9 j9 (fun e9 => hk9 ((show ∀ x ∈ [1009, 1010], x ∈ [1009, 1010] by decide) _ e9))))⟩
        · obtain ⟨x5, ex5⟩ : ∃ z9 : Int, z9 = j + 1 := ⟨_, rfl⟩
          refine g_iinc hΓ dX0_placeOf_39 rfl rfl (lv' := [some (.ref (P.1)), some (.ref (lE R (P.2.1 31) k)), some (.int (iI x5))]) (by rw [ex5]; rfl) ?_
          refine g_goto (tgt := 26) hΓ dX0_placeOf_42 (by decide) ?_
          have hne : j ≠ pp := fun e9 => (show ¬ moA (scM σ (40 + 8 * k) (σ 9 k)) (nMod σ) j = σ 10 k by assumption) (moA_eq (by omega) (by omega) (by rw [e9, epp]))
          exact ih_loop x5 (by omega) (by omega)
    refine g_iconst hΓ dX0_placeOf_24 ?_
    refine g_istore_n hΓ dX0_placeOf_25 rfl (Nat.le_of_ble_eq_true rfl) (lv' := [some (.ref (P.1)), some (.ref (lE R (P.2.1 31) k)), some (.int (iI 0))]) rfl ?_
    exact loop 9 0 (by omega) (by omega)
  · refine g_iconst hΓ dX0_placeOf_11 ?_
    exact x_iret hΓ dX0_placeOf_12 (Nat.zero_le _) (Nat.zero_le _) ⟨ri (by rw [if_neg (by omega)]), hx, rfl, (fun q9 j9 hk9 => rfl), (fun q9 j9 hk9 => rfl)⟩
set_option maxHeartbeats 4000000 in
theorem x_X0_toldAs {l : Launch} {E : gE} {X : State → Prop} {Z : Nat → Nat} {Y : Nat → Option Nat} (hE : E.2.1 = clsX) (hX : xOK l E X Z Y) (hL : xLam l E X (Z 20) (Z 21)) (S : xS) (D : xD) (R : xR) (P : xPk) (σ : mS) (k u : Int) (hx : Rx E Z S D R P σ) (hk : r32 k) (hu : r32 u) (hP0 : P.2.1 99 = 0) : xC l E X yX0_toldAs cX0_toldAs 4 (some .int) 15 0 0 [.ref (P.1), .int (iI k), .int (iI u)] S D R (fun rv S' D' R' => rv = some (.int (iI (sp_toldAs σ k u))) ∧ (Rx E Z S D' R' P σ) ∧ S' = S ∧ fr S D D' [8003, 42, 43, 44, 112, 115, 116, 117, 46, 47, 48, 49, 1022, 68, 69, 73, 74] ∧ fr S R R' [1009, 1010]) := by
  refine xC.of hX.1 (by decide) [some (.ref (P.1)), some (.int (iI k)), some (.int (iI u)), none] (Nat.le_of_ble_eq_true rfl) rfl rfl (fun Γ hΓ => ?_)
  obtain ⟨hg, hp, hki, hro, hnw, hbh, hsa, hpd⟩ := id hx
  obtain ⟨N, NI, NM, NV, hN⟩ := (hx).now
  have hAw := hg.2.2.2.2.2.2
  have hG : GS S D R := hg.1
  obtain ⟨h1000, h1009, h1042, h1043, h1044, h1045, h1046, h1047, hms, hsi, hsm, hnm⟩ := id hro
  have eN := hN.2.2.2.2.2.2.2.2.2.2.2.2
  have kNV : (S NV).1 = 45 := by rw [hN.2.2.2.1.2]
  have nNV : (S NV).2.1 = 6 := by rw [hN.2.2.2.1.2]
  replace hsa := hsa hP0
  have hto := hsa.2.1.1
  refine g_iload_n hΓ rfl dX0_toldAs_0 ?_
  refine g_i2l hΓ (by omega) dX0_toldAs_1 ?_
  refine g_lconst (a := 0) hΓ rfl dX0_toldAs_2 ?_
  refine g_aload_n hΓ rfl dX0_toldAs_3 ?_
  refine x_geta (r := some (P.2.1 31)) (c := 0) hE hΓ in_X0 rfl hp.1 ⟨by decide, rfl⟩ 31 (ji := 31) rfl (by decide) (by decide) rfl q277 rfl rfl (pL_r hp 31 rfl rfl) dX0_toldAs_4 ?_
  show gW Γ E (xM E S D R) 0 0 _ _ (.ref (P.2.1 31) :: _)
  refine x_callV (As := []) (rest := [.long (lI 0), .long (lI k)]) (c := 10) hE hΓ (x_J2_size hE hX S D R (P.2.1 31) 16 (pL_k hp 31 rfl (n := 16) rfl) (by decide) ) (pL_k hp 31 rfl (n := 16) rfl) ⟨by decide, rfl⟩ rfl rfl q845 q662 q663 q127 q664 ndJ2_size rfl (by decide) (by decide) (Nat.zero_le _) (Nat.zero_le _) rfl (Nat.le_of_ble_eq_true rfl) dX0_toldAs_7 rfl (fun v1 S1 τ1 ρ1 h1 => ?_)
  obtain ⟨rfl, S1e, τ1e, ρ1e⟩ := h1
  have S1e := S1e.symm; subst S1e
  have τ1e := τ1e.symm; subst τ1e
  have ρ1e := ρ1e.symm; subst ρ1e
  refine g_topi (hsa.1) ?_
  show gW Γ E (xM E S D R) _ _ _ _ (.int (iI (σ 6 0)) :: _)
  refine g_iconst hΓ dX0_toldAs_10 ?_
  refine g_isub hΓ dX0_toldAs_11 ?_
  refine g_i2l hΓ (by omega) dX0_toldAs_12 ?_
  refine x_callS (As := [.long (lI k), .long (lI 0), .long (lI ((σ 6 0) - 1))]) (rest := []) hΓ (x_X0_isIn hE hX S D R k 0 ((σ 6 0) - 1) (by first | assumption | omega) (by first | assumption | omega) (by first | assumption | omega)) rfl q387 q388 q123 q389 ndX0_isIn rfl (by decide) (by decide) (Nat.zero_le _) (Nat.zero_le _) rfl (Nat.le_of_ble_eq_true rfl) dX0_toldAs_13 rfl (fun v2 S2 τ2 ρ2 h2 => ?_)
  obtain ⟨rfl, S2e, τ2e, ρ2e⟩ := h2
  have S2e := S2e.symm; subst S2e
  have τ2e := τ2e.symm; subst τ2e
  have ρ2e := ρ2e.symm; subst ρ2e
  show gW Γ E (xM E S D R) _ _ _ _ (.int (iI (if 0 ≤ k ∧ k ≤ ((σ 6 0) - 1) then 1 else 0)) :: _)
  refine g_ifB_ne (tgt := 21) hΓ  dX0_toldAs_16 (by decide) (fun c3 => ?_) (fun c3 => ?_)
  · have h6s := hsa.1
    obtain ⟨b4, kb4, hbr4, hbe4, hbk4, hbq4, hbc4⟩ := lsOK_b (hg.2.1 (P.2.1 31) (by rw [(pL_k hp 31 rfl (n := 16) rfl)]; decide) (by rw [(pL_k hp 31 rfl (n := 16) rfl)]; decide)) (by rw [(pL_k hp 31 rfl (n := 16) rfl)]; decide)
    have he5 := lsOK_e (hg.2.1 (P.2.1 31) (by rw [(pL_k hp 31 rfl (n := 16) rfl)]; decide) (by rw [(pL_k hp 31 rfl (n := 16) rfl)]; decide)) hbe4 (i := k) (by omega)
    have hk5 : (S (lE R (P.2.1 31) k)).1 = 9 := by rw [he5.2, (pL_k hp 31 rfl (n := 16) rfl)]; rfl
    have hs9 : (S (lE R (P.2.1 31) k)).1 = 9 := by
      have h9 := ((hg.2.1 (P.2.1 31) (by rw [pL_k hp 31 rfl (n := 16) rfl]; decide) (by rw [pL_k hp 31 rfl (n := 16) rfl]; decide)).2.2.2 k (by omega) (by rw [hsa.1]; omega)).2
      rw [pL_k hp 31 rfl (n := 16) rfl] at h9
      exact h9
    have hsf := hg.2.2.2.2.1 (lE R (P.2.1 31) k) hs9
    have hlf := hg.2.2.2.1 _ hsf.2
    have hsk := hsa.2.2 k (by omega) (by omega)
    have htk := hsa.2.1.2 k (by omega) (by omega)
    refine g_aload_n hΓ rfl dX0_toldAs_21 ?_
    refine x_geta (r := some (P.2.1 31)) (c := 0) hE hΓ in_X0 rfl hp.1 ⟨by decide, rfl⟩ 31 (ji := 31) rfl (by decide) (by decide) rfl q277 rfl rfl (pL_r hp 31 rfl rfl) dX0_toldAs_22 ?_
    show gW Γ E (xM E S D R) 0 0 _ _ (.ref (P.2.1 31) :: _)
    refine g_iload_n hΓ rfl dX0_toldAs_25 ?_
    have hz7 : D (P.2.1 31) 2 = σ 6 0 := hsa.1
    refine x_callV (As := [.int (iI k)]) (rest := []) (c := 10) hE hΓ (x_J2_get hE hX S D R (P.2.1 31) b4 (lE R (P.2.1 31) k) 16 kb4 ((S b4).2.1) k (pL_k hp 31 rfl (n := 16) rfl) (by decide) hbr4 hbk4 hbq4 rfl (by omega) (by omega) he5.1 ) (pL_k hp 31 rfl (n := 16) rfl) ⟨by decide, rfl⟩ rfl rfl q857 q858 q859 q127 q860 ndJ2_get rfl (by decide) (by decide) (Nat.zero_le _) (Nat.zero_le _) rfl (Nat.le_of_ble_eq_true rfl) dX0_toldAs_26 rfl (fun v6 S6 τ6 ρ6 h6 => ?_)
    obtain ⟨rfl, S6e, τ6e, ρ6e⟩ := h6
    have S6e := S6e.symm; subst S6e
    have τ6e := τ6e.symm; subst τ6e
    have ρ6e := ρ6e.symm; subst ρ6e
    show gW Γ E (xM E S D R) _ _ _ _ (.ref (lE R (P.2.1 31) k) :: _)
    refine x_castS (c := 9) hE hΓ rfl q1167 hs9 ⟨by decide, rfl⟩ rfl dX0_toldAs_29 ?_
    refine g_astore_n hΓ dX0_toldAs_32 rfl (Nat.le_of_ble_eq_true rfl) (lv' := [some (.ref (P.1)), some (.int (iI k)), some (.int (iI u)), some (.ref (lE R (P.2.1 31) k))]) rfl ?_
    refine g_iload_n hΓ rfl dX0_toldAs_33 ?_
    rcases (show (u < 0 ∨ 2 < u) ∨ u = 0 ∨ u = 1 ∨ u = 2 by omega) with c8 | c8 | c8 | c8
    · refine g_tswOut (tgt := 79) hΓ (by omega) dX0_toldAs_34 c8 (by decide) ?_
      refine g_iconst hΓ dX0_toldAs_79 ?_
      exact x_iret hΓ dX0_toldAs_80 (Nat.zero_le _) (Nat.zero_le _) ⟨ri (by rw [sp_toldAs]; rw [if_neg (by omega)]), hx, rfl, (fun q9 j9 hk9 => rfl), (fun q9 j9 hk9 => rfl)⟩
    · refine g_tswIn (tgt := 60) hΓ (by omega) 0 dX0_toldAs_34 (by rw [c8]; decide) (by decide) rfl (by decide) ?_
      refine g_aload_n hΓ rfl dX0_toldAs_60 ?_
      refine x_geti (c := 9) hE hΓ in_X9 rfl hs9 ⟨by decide, rfl⟩ 0 (ji := 0) rfl (by decide) (by decide) rfl q1198 rfl rfl dX0_toldAs_61 ?_
      refine g_topi (hsk.1) ?_
      exact x_iret hΓ dX0_toldAs_64 (Nat.zero_le _) (Nat.zero_le _) ⟨ri (by rw [sp_toldAs]; rw [if_pos (by omega), if_pos (by omega), if_pos (by omega)]), hx, rfl, (fun q9 j9 hk9 => rfl), (fun q9 j9 hk9 => rfl)⟩
    · refine g_tswIn (tgt := 65) hΓ (by omega) 1 dX0_toldAs_34 (by rw [c8]; decide) (by decide) rfl (by decide) ?_
      refine g_aload_n hΓ rfl dX0_toldAs_65 ?_
      refine x_geta (r := some (rf R (lE R (P.2.1 31) k) 1)) (c := 9) hE hΓ in_X9 rfl hs9 ⟨by decide, rfl⟩ 1 (ji := 1) rfl (by decide) (by decide) rfl q1200 rfl rfl hsf.1 dX0_toldAs_66 ?_
      show gW Γ E (xM E S D R) 0 0 _ _ (.ref (rf R (lE R (P.2.1 31) k) 1) :: _)
      refine x_callV (As := []) (rest := []) (c := 7) hE hΓ (x_X7_many hE hX S D R (rf R (lE R (P.2.1 31) k) 1) (rf R (rf R (lE R (P.2.1 31) k) 1) 1) hsf.2 hlf.2.2.1 hlf.2.2.2.1 ) hsf.2 ⟨by decide, rfl⟩ rfl rfl q1214 q1215 q1216 q143 q1217 ndX7_many rfl (by decide) (by decide) (Nat.zero_le _) (Nat.zero_le _) rfl (Nat.le_of_ble_eq_true rfl) dX0_toldAs_69 rfl (fun v9 S9 τ9 ρ9 h9 => ?_)
      obtain ⟨rfl, S9e, τ9e, ρ9e⟩ := h9
      have S9e := S9e.symm; subst S9e
      have τ9e := τ9e.symm; subst τ9e
      have ρ9e := ρ9e.symm; subst ρ9e
      refine g_topi hsk.2.1 ?_
      show gW Γ E (xM E S D R) _ _ _ _ (.int (iI (σ 9 k)) :: _)
      exact x_iret hΓ dX0_toldAs_72 (Nat.zero_le _) (Nat.zero_le _) ⟨ri (by rw [sp_toldAs]; rw [if_pos (by omega), if_pos (by omega), if_neg (by omega)]), hx, rfl, (fun q9 j9 hk9 => rfl), (fun q9 j9 hk9 => rfl)⟩
    · refine g_tswIn (tgt := 73) hΓ (by omega) 2 dX0_toldAs_34 (by rw [c8]; decide) (by decide) rfl (by decide) ?_
      refine g_aload_n hΓ rfl dX0_toldAs_73 ?_
      refine g_aload_n hΓ rfl dX0_toldAs_74 ?_
      refine x_callV (As := [.ref (lE R (P.2.1 31) k)]) (rest := []) (c := 0) hE hΓ (x_X0_placeOf hE hX hL S D R P σ k hx (by omega) hP0 ) hp.1 ⟨by decide, rfl⟩ rfl rfl q1219 q1221 qs46 q123 q1222 ndX0_placeOf rfl (by decide) (by decide) (Nat.zero_le _) (Nat.zero_le _) rfl (Nat.le_of_ble_eq_true rfl) dX0_toldAs_75 rfl (fun v10 S10 τ10 ρ10 h10 => ?_)
      obtain ⟨rfl, h10, S10e, τ10f, ρ10f⟩ := h10
      have S10e := S10e.symm; subst S10e
      show gW Γ E (xM E S τ10 ρ10) _ _ _ _ (.int (iI (if 0 ≤ σ 10 k ∧ σ 10 k < σ 0 1000 then plF (scM σ (40 + 8 * k) (σ 9 k)) (σ 10 k) (nMod σ) else -1)) :: _)
      exact x_iret hΓ dX0_toldAs_78 (Nat.zero_le _) (Nat.zero_le _) ⟨ri (by rw [sp_toldAs]; rw [if_pos (show (0 ≤ k ∧ k < σ 6 0) ∧ 0 ≤ u ∧ u ≤ 2 by omega), if_neg (show ¬ u < 2 by omega)]), h10, rfl, (fun q9 j9 hk9 => by exact (τ10f q9 j9 (fun e9 => hk9 ((show ∀ x ∈ [8003, 42, 43, 44, 112, 115, 116, 117, 46, 47, 48, 49, 1022, 68, 69, 73, 74], x ∈ [8003, 42, 43, 44, 112, 115, 116, 117, 46, 47, 48, 49, 1022, 68, 69, 73, 74] by decide) _ e9)))), (fun q9 j9 hk9 => by exact (ρ10f q9 j9 (fun e9 => hk9 ((show ∀ x ∈ [1009, 1010], x ∈ [1009, 1010] by decide) _ e9))))⟩
  · refine g_iconst hΓ dX0_toldAs_19 ?_
    exact x_iret hΓ dX0_toldAs_20 (Nat.zero_le _) (Nat.zero_le _) ⟨ri (by rw [sp_toldAs]; rw [if_neg (by omega)]), hx, rfl, (fun q9 j9 hk9 => rfl), (fun q9 j9 hk9 => rfl)⟩
