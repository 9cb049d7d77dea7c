set_option maxRecDepth 100000
set_option maxHeartbeats 4000000 in
theorem x_X0_ranksBut {l : Launch} {E : gE} {X : State → Prop} {Z : Nat → Nat} {Y : Nat → Option Nat} (hE : E.2.1 = clsX) (hX : xOK l E X Z Y) (hL : xLam l E X (Z 20) (Z 21)) (S : xS) (D : xD) (R : xR) (P : xPk) (σ : mS) (x : Int) (hx : Rx E Z S D R P σ) (hxk : 0 ≤ x ∧ x < σ 0 1009) : xC l E X yX0_ranksBut cX0_ranksBut 3 none 14 8 480 [.ref (P.1), .int (iI x)] S D R (fun rv S' D' R' => rv = none ∧ (Rx E Z S' D' R' P σ ∧ rkB D' P σ x) ∧ sle S S') := by
  refine xC.of hX.1 (by decide) [some (.ref (P.1)), some (.int (iI x)), none] (Nat.le_of_ble_eq_true rfl) rfl rfl (fun Γ hΓ => ?_)
  obtain ⟨hg, hp, hki, hro, hnw, hbh, hsa, hpd⟩ := id hx
  obtain ⟨N, NI, NM, NV, hN⟩ := (hx).now
  have hAw := hg.2.2.2.2.2.2
  have hG : GS S D R := hg.1
  obtain ⟨h1000, h1009, h1042, h1043, h1044, h1045, h1046, h1047, hms, hsi, hsm, hnm⟩ := id hro
  have eN := hN.2.2.2.2.2.2.2.2.2.2.2.2
  have kNV : (S NV).1 = 45 := by rw [hN.2.2.2.1.2]
  have nNV : (S NV).2.1 = 6 := by rw [hN.2.2.2.1.2]
  have loop : ∀ (fu : Nat) (S1 : xS) (D1 : xD) (R1 : xR) (k : Int), (σ 0 1009 - k).toNat < fu → (sle S S1) → (Rx E Z S1 D1 R1 P σ) → (0 ≤ k ∧ k ≤ σ 0 1009) → (rwL S1 D1 R1 (P.2.1 30) (if k ≤ x then k else k - 1) (fun i => σ 0 (960 + butI x i)) (fun i j => σ 0 (24 * butI x i + j))) → gW Γ E (xM E S1 D1 R1) (k.toNat) (60 * k.toNat) 9 [some (.ref (P.1)), some (.int (iI x)), some (.int (iI k))] [] := by
    intro fu
    induction fu with
    | zero => intro S1 D1 R1 k hn; exact absurd hn (Nat.not_lt_zero _)
    | succ fu ih_loop =>
      intro S1 D1 R1 k hn hsl hx1 hk hrw
      obtain ⟨hg, hp, hki, hro, hnw, hbh, hsa, hpd⟩ := id hx1
      obtain ⟨N, NI, NM, NV, hN⟩ := (hx1).now
      have hAw := hg.2.2.2.2.2.2
      have hG : GS S1 D1 R1 := hg.1
      obtain ⟨h1000, h1009, h1042, h1043, h1044, h1045, h1046, h1047, hms, hsi, hsm, hnm⟩ := id hro
      have eN := hN.2.2.2.2.2.2.2.2.2.2.2.2
      have kNV : (S1 NV).1 = 45 := by rw [hN.2.2.2.1.2]
      have nNV : (S1 NV).2.1 = 6 := by rw [hN.2.2.2.1.2]
      have eNI : NI = rf R1 (rf R1 P.1 4) 1 := by rw [eN.2.2.1, eN.1]
      have k30 := pL_k hp 30 rfl (n := 13) rfl
      refine g_iload_n hΓ rfl dX0_ranksBut_9 ?_
      refine g_aload_n hΓ rfl dX0_ranksBut_10 ?_
      refine x_geta (r := some N) (c := 0) hE hΓ in_X0 rfl hp.1 ⟨by decide, rfl⟩ 4 (ji := 4) rfl (by decide) (by decide) rfl q250 rfl rfl hN.1.1 dX0_ranksBut_11 ?_
      show gW Γ E (xM E S1 D1 R1) (k.toNat) (60 * k.toNat) _ _ (.ref N :: _)
      refine x_geta (r := some NI) (c := 1) hE hΓ in_X1 rfl hN.1.2 ⟨by decide, rfl⟩ 1 (ji := 1) rfl (by decide) (by decide) rfl q200 rfl rfl hN.2.2.1.1 dX0_ranksBut_14 ?_
      show gW Γ E (xM E S1 D1 R1) (k.toNat) (60 * k.toNat) _ _ (.ref NI :: _)
      refine x_callV (As := []) (rest := [.int (iI k)]) (c := 10) hE hΓ (x_J2_size hE hX S1 D1 R1 NI 10 hN.2.2.1.2 (by decide) ) hN.2.2.1.2 ⟨by decide, rfl⟩ rfl rfl q845 q662 q663 q127 q664 ndJ2_size rfl (by decide) (by decide) (by omega) (by omega) rfl (Nat.le_of_ble_eq_true rfl) dX0_ranksBut_17 rfl (fun v1 S1 τ1 ρ1 h1 => ?_)
      obtain ⟨rfl, S1e, τ1e, ρ1e⟩ := h1
      have S1e := S1e.symm; subst S1e
      have τ1e := τ1e.symm; subst τ1e
      have ρ1e := ρ1e.symm; subst ρ1e
      refine g_topi (hN.2.2.2.2.1) ?_
      show gW Γ E (xM E S1 D1 R1) _ _ _ _ (.int (iI (σ 0 1009)) :: _)
      refine g_icmp_ge (tgt := 56) hΓ (by omega) (by omega) dX0_ranksBut_20 (by decide) (fun c2 => ?_) (fun c2 => ?_)
      · refine g_aload_n hΓ rfl dX0_ranksBut_56 ?_
        refine g_aload_n hΓ rfl dX0_ranksBut_57 ?_
        refine x_geta (r := some (P.2.1 30)) (c := 0) hE hΓ in_X0 rfl hp.1 ⟨by decide, rfl⟩ 30 (ji := 30) rfl (by decide) (by decide) rfl q276 rfl rfl (pL_r hp 30 rfl rfl) dX0_ranksBut_58 ?_
        show gW Γ E (xM E S1 D1 R1) (k.toNat + 0) ((60 * k.toNat) + 0) _ _ (.ref (P.2.1 30) :: _)
        refine x_callV (As := [.ref (P.2.1 30)]) (rest := []) (c := 0) hE hΓ (x_X0_ranks hE hX hL S1 D1 R1 (butP P) (butS σ x) (P.2.1 30) 13 40 (σ 0 1009 - 1) (Rx_but hx1 x) k30 (by decide) (ls_but hro hxk.1 hxk.2 (by rw [show σ 0 1009 - 1 = (if k ≤ x then k else k - 1) by omega]; exact hrw)) (but_let hro hxk.1 hxk.2) ) hp.1 ⟨by decide, rfl⟩ rfl rfl q1081 q1083 qs38 q123 q1084 ndX0_ranks rfl (by decide) (by decide) (by omega) (by omega) rfl (Nat.le_of_ble_eq_true rfl) dX0_ranksBut_61 rfl (fun v3 S3 τ3 ρ3 h3 => ?_)
        obtain ⟨rfl, h3, S3e, τ3f, ρ3f⟩ := h3
        have S3e := S3e.symm; subst S3e
        have hx2 : Rx E Z S1 τ3 ρ3 P σ := Rx_scr hx1 (fr_w τ3f (by decide)) (fr_w ρ3f (by decide)) h3.1.1.1
        have hrk := rk_but (P := P) hro hxk.1 hxk.2 h3.2
        exact x_vret hΓ dX0_ranksBut_64 (by omega) (by omega) ⟨rfl, ⟨hx2, hrk⟩, hsl⟩
      · refine g_iload_n hΓ rfl dX0_ranksBut_23 ?_
        refine g_iload_n hΓ rfl dX0_ranksBut_24 ?_
        refine g_icmp_eq (tgt := 50) hΓ (by omega) (by omega) dX0_ranksBut_25 (by decide) (fun c4 => ?_) (fun c4 => ?_)
        · obtain ⟨x5, ex5⟩ : ∃ z9 : Int, z9 = k + 1 := ⟨_, rfl⟩
          refine g_iinc hΓ dX0_ranksBut_50 rfl rfl (lv' := [some (.ref (P.1)), some (.int (iI x)), some (.int (iI x5))]) (by rw [ex5]; rfl) ?_
          refine g_goto (tgt := 9) hΓ dX0_ranksBut_53 (by decide) ?_
          refine g_wid (c' := x5.toNat) (s' := 60 * x5.toNat) (by omega) (by omega) ?_
          exact ih_loop S1 D1 R1 x5 (by omega) hsl hx1 (by omega) (by rw [show (if x5 ≤ x then x5 else x5 - 1) = (if k ≤ x then k else k - 1) by omega]; exact hrw)
        · have hsk := hnw.2.2.2.2.1 k (by omega) (by omega)
          rw [← eN.1, ← eN.2.2.1] at hsk
          obtain ⟨b6, kb6, hbr6, hbe6, hbk6, hbq6, hbc6⟩ := lsOK_b (hg.2.1 NI (by rw [hN.2.2.1.2]; decide) (by rw [hN.2.2.1.2]; decide)) (by rw [hN.2.2.1.2]; decide)
          have he7 := lsOK_e (hg.2.1 NI (by rw [hN.2.2.1.2]; decide) (by rw [hN.2.2.1.2]; decide)) hbe6 (i := k) (by have := hN.2.2.2.2.1; omega)
          have hk7 : (S1 (lE R1 NI k)).1 = 8 := by rw [he7.2, hN.2.2.1.2]; rfl
          refine g_aload_n hΓ rfl dX0_ranksBut_28 ?_
          refine x_geta (r := some (P.2.1 30)) (c := 0) hE hΓ in_X0 rfl hp.1 ⟨by decide, rfl⟩ 30 (ji := 30) rfl (by decide) (by decide) rfl q276 rfl rfl (pL_r hp 30 rfl rfl) dX0_ranksBut_29 ?_
          show gW Γ E (xM E S1 D1 R1) (k.toNat + 0) ((60 * k.toNat) + 0) _ _ (.ref (P.2.1 30) :: _)
          refine g_aload_n hΓ rfl dX0_ranksBut_32 ?_
          refine x_geta (r := some N) (c := 0) hE hΓ in_X0 rfl hp.1 ⟨by decide, rfl⟩ 4 (ji := 4) rfl (by decide) (by decide) rfl q250 rfl rfl hN.1.1 dX0_ranksBut_33 ?_
          show gW Γ E (xM E S1 D1 R1) (k.toNat + 0) ((60 * k.toNat) + 0) _ _ (.ref N :: _)
          refine x_geta (r := some NI) (c := 1) hE hΓ in_X1 rfl hN.1.2 ⟨by decide, rfl⟩ 1 (ji := 1) rfl (by decide) (by decide) rfl q200 rfl rfl hN.2.2.1.1 dX0_ranksBut_36 ?_
          show gW Γ E (xM E S1 D1 R1) (k.toNat + 0) ((60 * k.toNat) + 0) _ _ (.ref NI :: _)
          refine g_iload_n hΓ rfl dX0_ranksBut_39 ?_
          have hz9 : D1 NI 2 = σ 0 1009 := hN.2.2.2.2.1
          refine x_callV (As := [.int (iI k)]) (rest := [.ref (P.2.1 30)]) (c := 10) hE hΓ (x_J2_get hE hX S1 D1 R1 NI b6 (lE R1 NI k) 10 kb6 ((S1 b6).2.1) k hN.2.2.1.2 (by decide) hbr6 hbk6 hbq6 rfl (by omega) (by omega) he7.1 ) hN.2.2.1.2 ⟨by decide, rfl⟩ rfl rfl q857 q858 q859 q127 q860 ndJ2_get rfl (by decide) (by decide) (by omega) (by omega) rfl (Nat.le_of_ble_eq_true rfl) dX0_ranksBut_40 rfl (fun v8 S8 τ8 ρ8 h8 => ?_)
          obtain ⟨rfl, S8e, τ8e, ρ8e⟩ := h8
          have S8e := S8e.symm; subst S8e
          have τ8e := τ8e.symm; subst τ8e
          have ρ8e := ρ8e.symm; subst ρ8e
          show gW Γ E (xM E S1 D1 R1) _ _ _ _ (.ref (lE R1 NI k) :: _)
          refine x_castS (c := 8) hE hΓ rfl q915 hk7 ⟨by decide, rfl⟩ rfl dX0_ranksBut_43 ?_
          have hz11 : D1 (P.2.1 30) 2 = (if k ≤ x then k else k - 1) := hrw.1
          refine x_callV (As := [.ref (lE R1 NI k)]) (rest := []) (c := 10) hE hΓ (x_J2_add hE hX S1 D1 R1 (P.2.1 30) (lE R1 NI k) 13 8 (pL_k hp 30 rfl (n := 13) rfl) (by decide) (hx1).1 hk7 rfl (by omega) ) (pL_k hp 30 rfl (n := 13) rfl) ⟨by decide, rfl⟩ rfl rfl q1138 q703 q704 q127 q705 ndJ2_add rfl (by decide) (by decide) (by omega) (by omega) rfl (Nat.le_of_ble_eq_true rfl) dX0_ranksBut_46 rfl (fun v10 S10 τ10 ρ10 h10 => ?_)
          obtain ⟨rfl, h10, S10f⟩ := h10
          have kd12 : (S10 (P.1)).1 = 1 := kup hp.1 (by decide) S10f
          have kd13 : (S10 N).1 = 2 := kup hN.1.2 (by decide) S10f
          have kd14 : (S10 NI).1 = 10 := kup hN.2.2.1.2 (by decide) S10f
          have kd15 : (S10 NM).1 = 11 := kup hN.2.1.2 (by decide) S10f
          have kd16 : (S10 NV).1 = 45 := kup kNV (by decide) S10f
          have ln16 : (S10 NV).2.1 = 6 := nup kNV (by decide) nNV S10f
          have kd17 : (S10 b6).1 = kb6 := kup hbk6 (by omega) S10f
          have ln17 : (S10 b6).2.1 = (S1 b6).2.1 := nup hbk6 (by omega) rfl S10f
          have kd18 : (S10 (lE R1 NI k)).1 = 8 := kup hk7 (by decide) S10f
          have kd19 : (S10 (P.2.1 30)).1 = 13 := kup (pL_k hp 30 rfl (n := 13) rfl) (by decide) S10f
          have hbk : butI x (if k ≤ x then k else k - 1) = k := by rw [butI]; omega
          have hrw3 := rwL_add hx1.1 (by omega) hrw (show skR S1 D1 R1 _ (σ 0 (960 + butI x (if k ≤ x then k else k - 1))) (fun j => σ 0 (24 * butI x (if k ≤ x then k else k - 1) + j)) by rw [hbk]; exact hsk) h10
          have hx2 := Rx_rw hx1 h10.2.2.1 h10.1
          show gW Γ E (xM E S10 τ10 ρ10) _ _ _ _ (.int (iI 1) :: _)
          refine g_pop hΓ rfl dX0_ranksBut_49 ?_
          obtain ⟨x20, ex20⟩ : ∃ z9 : Int, z9 = k + 1 := ⟨_, rfl⟩
          refine g_iinc hΓ dX0_ranksBut_50 rfl rfl (lv' := [some (.ref (P.1)), some (.int (iI x)), some (.int (iI x20))]) (by rw [ex20]; rfl) ?_
          refine g_goto (tgt := 9) hΓ dX0_ranksBut_53 (by decide) ?_
          refine g_wid (c' := x20.toNat) (s' := 60 * x20.toNat) (by omega) (by omega) ?_
          exact ih_loop S10 τ10 ρ10 x20 (by omega) (sle_t hsl S10f) hx2 (by omega) (by rw [show (if x20 ≤ x then x20 else x20 - 1) = (if k ≤ x then k else k - 1) + 1 by omega]; exact hrw3)
  refine g_aload_n hΓ rfl dX0_ranksBut_0 ?_
  refine x_geta (r := some (P.2.1 30)) (c := 0) hE hΓ in_X0 rfl hp.1 ⟨by decide, rfl⟩ 30 (ji := 30) rfl (by decide) (by decide) rfl q276 rfl rfl (pL_r hp 30 rfl rfl) dX0_ranksBut_1 ?_
  show gW Γ E (xM E S D R) 0 0 _ _ (.ref (P.2.1 30) :: _)
  refine x_callV (As := []) (rest := []) (c := 10) hE hΓ (x_J2_clear hE hX S D R (P.2.1 30) 13 (pL_k hp 30 rfl (n := 13) rfl) (by decide) (hx).1 ) (pL_k hp 30 rfl (n := 13) rfl) ⟨by decide, rfl⟩ rfl rfl q829 q830 q831 q127 q832 ndJ2_clear rfl (by decide) (by decide) (Nat.zero_le _) (Nat.zero_le _) rfl (Nat.le_of_ble_eq_true rfl) dX0_ranksBut_4 rfl (fun v21 S21 τ21 ρ21 h21 => ?_)
  obtain ⟨rfl, h21, S21e⟩ := h21
  have S21e := S21e.symm; subst S21e
  have hx9 := Rx_rw hx h21.2.2 h21.1
  have hr0 := h21.2.1
  refine g_iconst hΓ dX0_ranksBut_7 ?_
  refine g_istore_n hΓ dX0_ranksBut_8 rfl (Nat.le_of_ble_eq_true rfl) (lv' := [some (.ref (P.1)), some (.int (iI x)), some (.int (iI 0))]) rfl ?_
  refine g_wid (c' := (0 : Int).toNat) (s' := 60 * (0 : Int).toNat) (by omega) (by omega) ?_
  exact loop 9 S τ21 ρ21 0 (by omega) (fun q9 h9 => rfl) hx9 (by omega) ⟨by rw [hr0]; omega, fun i9 x9 y9 => absurd x9 (by omega)⟩
set_option maxHeartbeats 4000000 in
theorem x_X0_lifted {l : Launch} {E : gE} {X : State → Prop} {Z : Nat → Nat} {Y : Nat → Option Nat} (hE : E.2.1 = clsX) (hX : xOK l E X Z Y) (hL : xLam l E X (Z 20) (Z 21)) (S : xS) (D : xD) (R : xR) (P : xPk) (σ : mS) (k w : Int) (hx : Rx E Z S D R P σ) (hk : r32 k) (hw : r32 w) : xC l E X yX0_lifted cX0_lifted 3 (some .int) 15 8 480 [.ref (P.1), .int (iI k), .int (iI w)] S D R (fun rv S' D' R' => rv = some (.int (iI (sp_lifted σ k w))) ∧ (Rx E Z S' D' R' P σ) ∧ sle S S') := by
  refine xC.of hX.1 (by decide) [some (.ref (P.1)), some (.int (iI k)), some (.int (iI w))] (Nat.le_of_ble_eq_true rfl) rfl rfl (fun Γ hΓ => ?_)
  obtain ⟨hg, hp, hki, hro, hnw, hbh, hsa, hpd⟩ := id hx
  obtain ⟨N, NI, NM, NV, hN⟩ := (hx).now
  have hAw := hg.2.2.2.2.2.2
  have hG : GS S D R := hg.1
  obtain ⟨h1000, h1009, h1042, h1043, h1044, h1045, h1046, h1047, hms, hsi, hsm, hnm⟩ := id hro
  have eN := hN.2.2.2.2.2.2.2.2.2.2.2.2
  have kNV : (S NV).1 = 45 := by rw [hN.2.2.2.1.2]
  have nNV : (S NV).2.1 = 6 := by rw [hN.2.2.2.1.2]
  refine g_aload_n hΓ rfl dX0_lifted_0 ?_
  refine x_callV (As := []) (rest := []) (c := 0) hE hΓ (x_X0_models hE hX S D R P σ  hx  ) hp.1 ⟨by decide, rfl⟩ rfl rfl q841 q843 qs21 q123 q844 ndX0_models rfl (by decide) (by decide) (Nat.zero_le _) (Nat.zero_le _) rfl (Nat.le_of_ble_eq_true rfl) dX0_lifted_1 rfl (fun v1 S1 τ1 ρ1 h1 => ?_)
  obtain ⟨rfl, S1e, τ1e, ρ1e⟩ := h1
  have S1e := S1e.symm; subst S1e
  have τ1e := τ1e.symm; subst τ1e
  have ρ1e := ρ1e.symm; subst ρ1e
  show gW Γ E (xM E S D R) _ _ _ _ (.int (iI (σ 0 1000)) :: _)
  refine g_if_eq (tgt := 41) hΓ (by omega) dX0_lifted_4 (by decide) (fun c2 => ?_) (fun c2 => ?_)
  · refine g_iconst hΓ dX0_lifted_41 ?_
    exact x_iret hΓ dX0_lifted_42 (Nat.zero_le _) (Nat.zero_le _) ⟨ri (by rw [sp_lifted]; first | (rw [if_neg (by omega)]; done) | (rw [if_pos (by omega), if_pos (by omega)]; done) | (rw [if_pos (by omega), if_neg (by omega), if_pos (by omega)]; done) | (rw [if_pos (by omega), if_neg (by omega), if_neg (by omega), mgn, if_pos (by omega)]; done) | (rw [if_pos (by omega), if_neg (by omega), if_neg (by omega), mgn, if_neg (by omega)])), hx, (fun q h => rfl)⟩
  · refine g_iload_n hΓ rfl dX0_lifted_7 ?_
    refine g_i2l hΓ (by omega) dX0_lifted_8 ?_
    refine g_lconst (a := 0) hΓ rfl dX0_lifted_9 ?_
    refine g_aload_n hΓ rfl dX0_lifted_10 ?_
    refine x_geta (r := some N) (c := 0) hE hΓ in_X0 rfl hp.1 ⟨by decide, rfl⟩ 4 (ji := 4) rfl (by decide) (by decide) rfl q250 rfl rfl hN.1.1 dX0_lifted_11 ?_
    show gW Γ E (xM E S D R) 0 0 _ _ (.ref N :: _)
    refine x_geta (r := some NI) (c := 1) hE hΓ in_X1 rfl hN.1.2 ⟨by decide, rfl⟩ 1 (ji := 1) rfl (by decide) (by decide) rfl q200 rfl rfl hN.2.2.1.1 dX0_lifted_14 ?_
    show gW Γ E (xM E S D R) 0 0 _ _ (.ref NI :: _)
    refine x_callV (As := []) (rest := [.long (lI 0), .long (lI k)]) (c := 10) hE hΓ (x_J2_size hE hX S D R NI 10 hN.2.2.1.2 (by decide) ) hN.2.2.1.2 ⟨by decide, rfl⟩ rfl rfl q845 q662 q663 q127 q664 ndJ2_size rfl (by decide) (by decide) (Nat.zero_le _) (Nat.zero_le _) rfl (Nat.le_of_ble_eq_true rfl) dX0_lifted_17 rfl (fun v3 S3 τ3 ρ3 h3 => ?_)
    obtain ⟨rfl, S3e, τ3e, ρ3e⟩ := h3
    have S3e := S3e.symm; subst S3e
    have τ3e := τ3e.symm; subst τ3e
    have ρ3e := ρ3e.symm; subst ρ3e
    refine g_topi (hN.2.2.2.2.1) ?_
    show gW Γ E (xM E S D R) _ _ _ _ (.int (iI (σ 0 1009)) :: _)
    refine g_iconst hΓ dX0_lifted_20 ?_
    refine g_isub hΓ dX0_lifted_21 ?_
    refine g_i2l hΓ (by omega) dX0_lifted_22 ?_
    refine x_callS (As := [.long (lI k), .long (lI 0), .long (lI ((σ 0 1009) - 1))]) (rest := []) hΓ (x_X0_isIn hE hX S D R k 0 ((σ 0 1009) - 1) (by first | assumption | omega) (by first | assumption | omega) (by first | assumption | omega)) rfl q387 q388 q123 q389 ndX0_isIn rfl (by decide) (by decide) (Nat.zero_le _) (Nat.zero_le _) rfl (Nat.le_of_ble_eq_true rfl) dX0_lifted_23 rfl (fun v4 S4 τ4 ρ4 h4 => ?_)
    obtain ⟨rfl, S4e, τ4e, ρ4e⟩ := h4
    have S4e := S4e.symm; subst S4e
    have τ4e := τ4e.symm; subst τ4e
    have ρ4e := ρ4e.symm; subst ρ4e
    show gW Γ E (xM E S D R) _ _ _ _ (.int (iI (if 0 ≤ k ∧ k ≤ ((σ 0 1009) - 1) then 1 else 0)) :: _)
    refine g_ifB_eq (tgt := 41) hΓ  dX0_lifted_26 (by decide) (fun c5 => ?_) (fun c5 => ?_)
    · refine g_iconst hΓ dX0_lifted_41 ?_
      exact x_iret hΓ dX0_lifted_42 (Nat.zero_le _) (Nat.zero_le _) ⟨ri (by rw [sp_lifted]; first | (rw [if_neg (by omega)]; done) | (rw [if_pos (by omega), if_pos (by omega)]; done) | (rw [if_pos (by omega), if_neg (by omega), if_pos (by omega)]; done) | (rw [if_pos (by omega), if_neg (by omega), if_neg (by omega), mgn, if_pos (by omega)]; done) | (rw [if_pos (by omega), if_neg (by omega), if_neg (by omega), mgn, if_neg (by omega)])), hx, (fun q h => rfl)⟩
    · refine g_iload_n hΓ rfl dX0_lifted_29 ?_
      refine g_i2l hΓ (by omega) dX0_lifted_30 ?_
      refine g_lconst (a := 0) hΓ rfl dX0_lifted_31 ?_
      refine g_ldc2 (n := 2) hΓ rfl q846 (by decide) dX0_lifted_32 ?_
      refine x_callS (As := [.long (lI w), .long (lI 0), .long (lI 2)]) (rest := []) hΓ (x_X0_isIn hE hX S D R w 0 2 (by first | assumption | omega) (by first | assumption | omega) (by first | assumption | omega)) rfl q387 q388 q123 q389 ndX0_isIn rfl (by decide) (by decide) (Nat.zero_le _) (Nat.zero_le _) rfl (Nat.le_of_ble_eq_true rfl) dX0_lifted_35 rfl (fun v6 S6 τ6 ρ6 h6 => ?_)
      obtain ⟨rfl, S6e, τ6e, ρ6e⟩ := h6
      have S6e := S6e.symm; subst S6e
      have τ6e := τ6e.symm; subst τ6e
      have ρ6e := ρ6e.symm; subst ρ6e
      show gW Γ E (xM E S D R) _ _ _ _ (.int (iI (if 0 ≤ w ∧ w ≤ 2 then 1 else 0)) :: _)
      refine g_ifB_ne (tgt := 43) hΓ  dX0_lifted_38 (by decide) (fun c7 => ?_) (fun c7 => ?_)
      · refine g_aload_n hΓ rfl dX0_lifted_43 ?_
        refine g_iload_n hΓ rfl dX0_lifted_44 ?_
        refine x_callV (As := [.int (iI k)]) (rest := []) (c := 0) hE hΓ (x_X0_ranksBut hE hX hL S D R P σ k hx (by first | assumption | omega) ) hp.1 ⟨by decide, rfl⟩ rfl rfl q1134 q1136 qs43 q123 q1137 ndX0_ranksBut rfl (by decide) (by decide) (by omega) (by omega) rfl (Nat.le_of_ble_eq_true rfl) dX0_lifted_45 rfl (fun v8 S8 τ8 ρ8 h8 => ?_)
        obtain ⟨rfl, h8, S8f⟩ := h8
        have kd9 : (S8 (P.1)).1 = 1 := kup hp.1 (by decide) S8f
        have kd10 : (S8 N).1 = 2 := kup hN.1.2 (by decide) S8f
        have kd11 : (S8 NI).1 = 10 := kup hN.2.2.1.2 (by decide) S8f
        have kd12 : (S8 NM).1 = 11 := kup hN.2.1.2 (by decide) S8f
        have kd13 : (S8 NV).1 = 45 := kup kNV (by decide) S8f
        have ln13 : (S8 NV).2.1 = 6 := nup kNV (by decide) nNV S8f
        have hx2 := h8.1
        have hrk := h8.2
        obtain ⟨hg, hp, hki, hro0, hnw, hbh, hsa, hpd⟩ := id hx2
        have hro : rowOK (σ 0) := hro0
        obtain ⟨N, NI, NM, NV, hN0⟩ := (hx2).now
        have hN : nowF S8 τ8 ρ8 P σ N NI NM NV := hN0
        have hAw := hg.2.2.2.2.2.2
        have hG : GS S8 τ8 ρ8 := hg.1
        obtain ⟨h1000, h1009, h1042, h1043, h1044, h1045, h1046, h1047, hms, hsi, hsm, hnm⟩ := id hro
        have eN := hN.2.2.2.2.2.2.2.2.2.2.2.2
        have kNV : (S8 NV).1 = 45 := by rw [hN.2.2.2.1.2]
        have nNV : (S8 NV).2.1 = 6 := by rw [hN.2.2.2.1.2]
        have eNI : NI = rf ρ8 (rf ρ8 P.1 4) 1 := by rw [eN.2.2.1, eN.1]
        have eNM : NM = rf ρ8 (rf ρ8 P.1 4) 0 := by rw [eN.2.1, eN.1]
        have eNV : NV = rf ρ8 (rf ρ8 P.1 4) 2 := by rw [eN.2.2.2, eN.1]
        have hnM := nMod_c (σ := σ) (by omega)
        have hm0 := moA_in (f := lfM σ k) (N := nMod σ) (p := 0) (by omega) (by omega)
        have hl0 := lfM_r hro (k := k) (by omega) (by omega) hm0.1 (by omega)
        refine g_iload_n hΓ rfl dX0_lifted_48 ?_
        refine g_iconst hΓ dX0_lifted_49 ?_
        refine g_icmp_ne (tgt := 91) hΓ (by omega) (by omega) dX0_lifted_50 (by decide) (fun c14 => ?_) (fun c14 => ?_)
        · refine g_iload_n hΓ rfl dX0_lifted_91 ?_
          refine g_if_ne (tgt := 104) hΓ (by omega) dX0_lifted_92 (by decide) (fun c15 => ?_) (fun c15 => ?_)
          · refine g_aload_n hΓ rfl dX0_lifted_104 ?_
            refine x_geta (r := some (P.2.1 23)) (c := 0) hE hΓ in_X0 rfl hp.1 ⟨by decide, rfl⟩ 23 (ji := 23) rfl (by decide) (by decide) rfl q269 rfl rfl (pA_r hp 23 rfl rfl) dX0_lifted_105 ?_
            show gW Γ E (xM E S8 τ8 ρ8) (0 + 8) (0 + 480) _ _ (.ref (P.2.1 23) :: _)
            refine g_aload_n hΓ rfl dX0_lifted_108 ?_
            refine x_geta (r := some (P.2.1 24)) (c := 0) hE hΓ in_X0 rfl hp.1 ⟨by decide, rfl⟩ 24 (ji := 24) rfl (by decide) (by decide) rfl q270 rfl rfl (pA_r hp 24 rfl rfl) dX0_lifted_109 ?_
            show gW Γ E (xM E S8 τ8 ρ8) (0 + 8) (0 + 480) _ _ (.ref (P.2.1 24) :: _)
            refine g_iconst hΓ dX0_lifted_112 ?_
            refine x_iald hΓ (pA_k hp 24 rfl (n := 74) rfl) (pA_n hp 24 rfl (n := 8) rfl) ⟨by decide, rfl⟩ (by omega) (by omega) dX0_lifted_113 ?_
            refine g_topi ((hrk.2 0 (by omega) (by omega)).2) ?_
            refine x_iald hΓ (pA_k hp 23 rfl (n := 73) rfl) (pA_n hp 23 rfl (n := 8) rfl) ⟨by decide, rfl⟩ (by omega) (by omega) dX0_lifted_114 ?_
            refine g_topi ((hrk.1 _ hm0.1 (by omega))) ?_
            exact x_iret hΓ dX0_lifted_115 (by omega) (by omega) ⟨ri (by rw [sp_lifted]; first | (rw [if_neg (by omega)]; done) | (rw [if_pos (by omega), if_pos (by omega)]; done) | (rw [if_pos (by omega), if_neg (by omega), if_pos (by omega)]; done) | (rw [if_pos (by omega), if_neg (by omega), if_neg (by omega), mgn, if_pos (by omega)]; done) | (rw [if_pos (by omega), if_neg (by omega), if_neg (by omega), mgn, if_neg (by omega)])), hx2, S8f⟩
          · refine g_aload_n hΓ rfl dX0_lifted_95 ?_
            refine x_geta (r := some (P.2.1 24)) (c := 0) hE hΓ in_X0 rfl hp.1 ⟨by decide, rfl⟩ 24 (ji := 24) rfl (by decide) (by decide) rfl q270 rfl rfl (pA_r hp 24 rfl rfl) dX0_lifted_96 ?_
            show gW Γ E (xM E S8 τ8 ρ8) (0 + 8) (0 + 480) _ _ (.ref (P.2.1 24) :: _)
            refine g_iconst hΓ dX0_lifted_99 ?_
            refine x_iald hΓ (pA_k hp 24 rfl (n := 74) rfl) (pA_n hp 24 rfl (n := 8) rfl) ⟨by decide, rfl⟩ (by omega) (by omega) dX0_lifted_100 ?_
            refine g_topi ((hrk.2 0 (by omega) (by omega)).2) ?_
            refine g_goto (tgt := 115) hΓ dX0_lifted_101 (by decide) ?_
            exact x_iret hΓ dX0_lifted_115 (by omega) (by omega) ⟨ri (by rw [sp_lifted]; first | (rw [if_neg (by omega)]; done) | (rw [if_pos (by omega), if_pos (by omega)]; done) | (rw [if_pos (by omega), if_neg (by omega), if_pos (by omega)]; done) | (rw [if_pos (by omega), if_neg (by omega), if_neg (by omega), mgn, if_pos (by omega)]; done) | (rw [if_pos (by omega), if_neg (by omega), if_neg (by omega), mgn, if_neg (by omega)])), hx2, S8f⟩
        · refine g_aload_n hΓ rfl dX0_lifted_53 ?_
          refine x_callV (As := []) (rest := []) (c := 0) hE hΓ (x_X0_models hE hX S8 τ8 ρ8 P σ  hx2  ) hp.1 ⟨by decide, rfl⟩ rfl rfl q841 q843 qs21 q123 q844 ndX0_models rfl (by decide) (by decide) (by omega) (by omega) rfl (Nat.le_of_ble_eq_true rfl) dX0_lifted_54 rfl (fun v16 S16 τ16 ρ16 h16 => ?_)
          obtain ⟨rfl, S16e, τ16e, ρ16e⟩ := h16
          have S16e := S16e.symm; subst S16e
          have τ16e := τ16e.symm; subst τ16e
          have ρ16e := ρ16e.symm; subst ρ16e
          show gW Γ E (xM E S8 τ8 ρ8) _ _ _ _ (.int (iI (σ 0 1000)) :: _)
          refine g_iconst hΓ dX0_lifted_57 ?_
          refine g_icmp_ge (tgt := 67) hΓ (by omega) (by omega) dX0_lifted_58 (by decide) (fun c17 => ?_) (fun c17 => ?_)
          · have hm1 := moA_in (f := lfM σ k) (N := nMod σ) (p := 1) (by omega) (by omega)
            have hl1 := lfM_r hro (k := k) (by omega) (by omega) hm1.1 (by omega)
            refine g_aload_n hΓ rfl dX0_lifted_67 ?_
            refine x_geta (r := some (P.2.1 23)) (c := 0) hE hΓ in_X0 rfl hp.1 ⟨by decide, rfl⟩ 23 (ji := 23) rfl (by decide) (by decide) rfl q269 rfl rfl (pA_r hp 23 rfl rfl) dX0_lifted_68 ?_
            show gW Γ E (xM E S8 τ8 ρ8) (0 + 8 + 0) (0 + 480 + 0) _ _ (.ref (P.2.1 23) :: _)
            refine g_aload_n hΓ rfl dX0_lifted_71 ?_
            refine x_geta (r := some (P.2.1 24)) (c := 0) hE hΓ in_X0 rfl hp.1 ⟨by decide, rfl⟩ 24 (ji := 24) rfl (by decide) (by decide) rfl q270 rfl rfl (pA_r hp 24 rfl rfl) dX0_lifted_72 ?_
            show gW Γ E (xM E S8 τ8 ρ8) (0 + 8 + 0) (0 + 480 + 0) _ _ (.ref (P.2.1 24) :: _)
            refine g_iconst hΓ dX0_lifted_75 ?_
            refine x_iald hΓ (pA_k hp 24 rfl (n := 74) rfl) (pA_n hp 24 rfl (n := 8) rfl) ⟨by decide, rfl⟩ (by omega) (by omega) dX0_lifted_76 ?_
            refine g_topi ((hrk.2 1 (by omega) (by omega)).2) ?_
            refine x_iald hΓ (pA_k hp 23 rfl (n := 73) rfl) (pA_n hp 23 rfl (n := 8) rfl) ⟨by decide, rfl⟩ (by omega) (by omega) dX0_lifted_77 ?_
            refine g_topi ((hrk.1 _ hm1.1 (by omega))) ?_
            refine g_aload_n hΓ rfl dX0_lifted_78 ?_
            refine x_geta (r := some (P.2.1 23)) (c := 0) hE hΓ in_X0 rfl hp.1 ⟨by decide, rfl⟩ 23 (ji := 23) rfl (by decide) (by decide) rfl q269 rfl rfl (pA_r hp 23 rfl rfl) dX0_lifted_79 ?_
            show gW Γ E (xM E S8 τ8 ρ8) (0 + 8 + 0) (0 + 480 + 0) _ _ (.ref (P.2.1 23) :: _)
            refine g_aload_n hΓ rfl dX0_lifted_82 ?_
            refine x_geta (r := some (P.2.1 24)) (c := 0) hE hΓ in_X0 rfl hp.1 ⟨by decide, rfl⟩ 24 (ji := 24) rfl (by decide) (by decide) rfl q270 rfl rfl (pA_r hp 24 rfl rfl) dX0_lifted_83 ?_
            show gW Γ E (xM E S8 τ8 ρ8) (0 + 8 + 0) (0 + 480 + 0) _ _ (.ref (P.2.1 24) :: _)
            refine g_iconst hΓ dX0_lifted_86 ?_
            refine x_iald hΓ (pA_k hp 24 rfl (n := 74) rfl) (pA_n hp 24 rfl (n := 8) rfl) ⟨by decide, rfl⟩ (by omega) (by omega) dX0_lifted_87 ?_
            refine g_topi ((hrk.2 0 (by omega) (by omega)).2) ?_
            refine x_iald hΓ (pA_k hp 23 rfl (n := 73) rfl) (pA_n hp 23 rfl (n := 8) rfl) ⟨by decide, rfl⟩ (by omega) (by omega) dX0_lifted_88 ?_
            refine g_topi ((hrk.1 _ hm0.1 (by omega))) ?_
            refine g_isub hΓ dX0_lifted_89 ?_
            exact x_iret hΓ dX0_lifted_90 (by omega) (by omega) ⟨ri (by rw [sp_lifted]; first | (rw [if_neg (by omega)]; done) | (rw [if_pos (by omega), if_pos (by omega)]; done) | (rw [if_pos (by omega), if_neg (by omega), if_pos (by omega)]; done) | (rw [if_pos (by omega), if_neg (by omega), if_neg (by omega), mgn, if_pos (by omega)]; done) | (rw [if_pos (by omega), if_neg (by omega), if_neg (by omega), mgn, if_neg (by omega)])), hx2, S8f⟩
          · refine g_ldcw (n := -1000000) hΓ rfl q1089 (by decide) dX0_lifted_61 ?_
            refine g_goto (tgt := 90) hΓ dX0_lifted_64 (by decide) ?_
            exact x_iret hΓ dX0_lifted_90 (by omega) (by omega) ⟨ri (by rw [sp_lifted]; first | (rw [if_neg (by omega)]; done) | (rw [if_pos (by omega), if_pos (by omega)]; done) | (rw [if_pos (by omega), if_neg (by omega), if_pos (by omega)]; done) | (rw [if_pos (by omega), if_neg (by omega), if_neg (by omega), mgn, if_pos (by omega)]; done) | (rw [if_pos (by omega), if_neg (by omega), if_neg (by omega), mgn, if_neg (by omega)])), hx2, S8f⟩
      · refine g_iconst hΓ dX0_lifted_41 ?_
        exact x_iret hΓ dX0_lifted_42 (Nat.zero_le _) (Nat.zero_le _) ⟨ri (by rw [sp_lifted]; first | (rw [if_neg (by omega)]; done) | (rw [if_pos (by omega), if_pos (by omega)]; done) | (rw [if_pos (by omega), if_neg (by omega), if_pos (by omega)]; done) | (rw [if_pos (by omega), if_neg (by omega), if_neg (by omega), mgn, if_pos (by omega)]; done) | (rw [if_pos (by omega), if_neg (by omega), if_neg (by omega), mgn, if_neg (by omega)])), hx, (fun q h => rfl)⟩
set_option maxHeartbeats 4000000 in
theorem x_X0_weakest {l : Launch} {E : gE} {X : State → Prop} {Z : Nat → Nat} {Y : Nat → Option Nat} (hE : E.2.1 = clsX) (hX : xOK l E X Z Y) (hL : xLam l E X (Z 20) (Z 21)) (S : xS) (D : xD) (R : xR) (P : xPk) (σ : mS)  (hx : Rx E Z S D R P σ) : xC l E X yX0_weakest cX0_weakest 4 (some .int) 15 64 3840 [.ref (P.1)] S D R (fun rv S' D' R' => rv = some (.int (iI (sp_weakest σ))) ∧ (Rx E Z S' D' R' P σ) ∧ sle S S') := by
  refine xC.of hX.1 (by decide) [some (.ref (P.1)), none, none, none] (Nat.le_of_ble_eq_true rfl) rfl rfl (fun Γ hΓ => ?_)
  obtain ⟨hg, hp, hki, hro, hnw, hbh, hsa, hpd⟩ := id hx
  obtain ⟨N, NI, NM, NV, hN⟩ := (hx).now
  have hAw := hg.2.2.2.2.2.2
  have hG : GS S D R := hg.1
  obtain ⟨h1000, h1009, h1042, h1043, h1044, h1045, h1046, h1047, hms, hsi, hsm, hnm⟩ := id hro
  have eN := hN.2.2.2.2.2.2.2.2.2.2.2.2
  have kNV : (S NV).1 = 45 := by rw [hN.2.2.2.1.2]
  have nNV : (S NV).2.1 = 6 := by rw [hN.2.2.2.1.2]
  refine g_aload_n hΓ rfl dX0_weakest_0 ?_
  refine x_callV (As := []) (rest := []) (c := 0) hE hΓ (x_X0_models hE hX S D R P σ  hx  ) hp.1 ⟨by decide, rfl⟩ rfl rfl q841 q843 qs21 q123 q844 ndX0_models rfl (by decide) (by decide) (Nat.zero_le _) (Nat.zero_le _) rfl (Nat.le_of_ble_eq_true rfl) dX0_weakest_1 rfl (fun v1 S1 τ1 ρ1 h1 => ?_)
  obtain ⟨rfl, S1e, τ1e, ρ1e⟩ := h1
  have S1e := S1e.symm; subst S1e
  have τ1e := τ1e.symm; subst τ1e
  have ρ1e := ρ1e.symm; subst ρ1e
  show gW Γ E (xM E S D R) _ _ _ _ (.int (iI (σ 0 1000)) :: _)
  refine g_if_eq (tgt := 20) hΓ (by omega) dX0_weakest_4 (by decide) (fun c2 => ?_) (fun c2 => ?_)
  · refine g_iconst hΓ dX0_weakest_20 ?_
    exact x_iret hΓ dX0_weakest_21 (Nat.zero_le _) (Nat.zero_le _) ⟨ri (by rw [sp_weakest]; first | (rw [if_pos (by omega)]; done) | (rw [if_neg (by omega), show (σ 0 1009).toNat = 0 by omega, weF])), hx, (fun q h => rfl)⟩
  · refine g_aload_n hΓ rfl dX0_weakest_7 ?_
    refine x_geta (r := some N) (c := 0) hE hΓ in_X0 rfl hp.1 ⟨by decide, rfl⟩ 4 (ji := 4) rfl (by decide) (by decide) rfl q250 rfl rfl hN.1.1 dX0_weakest_8 ?_
    show gW Γ E (xM E S D R) 0 0 _ _ (.ref N :: _)
    refine x_geta (r := some NI) (c := 1) hE hΓ in_X1 rfl hN.1.2 ⟨by decide, rfl⟩ 1 (ji := 1) rfl (by decide) (by decide) rfl q200 rfl rfl hN.2.2.1.1 dX0_weakest_11 ?_
    show gW Γ E (xM E S D R) 0 0 _ _ (.ref NI :: _)
    have hz4 : D NI 2 = σ 0 1009 := hN.2.2.2.2.1
    refine x_callV (As := []) (rest := []) (c := 10) hE hΓ (x_J2_isEmpty hE hX S D R NI 10 hN.2.2.1.2 (by decide) (by omega) ) hN.2.2.1.2 ⟨by decide, rfl⟩ rfl rfl q1143 q1144 q1145 q127 q1146 ndJ2_isEmpty rfl (by decide) (by decide) (Nat.zero_le _) (Nat.zero_le _) rfl (Nat.le_of_ble_eq_true rfl) dX0_weakest_14 rfl (fun v3 S3 τ3 ρ3 h3 => ?_)
    obtain ⟨rfl, S3e, τ3e, ρ3e⟩ := h3
    have S3e := S3e.symm; subst S3e
    have τ3e := τ3e.symm; subst τ3e
    have ρ3e := ρ3e.symm; subst ρ3e
    refine g_topi (show (if D NI 2 = 0 then 1 else 0 : Int) = (if σ 0 1009 = 0 then 1 else 0) by rw [hN.2.2.2.2.1]) ?_
    show gW Γ E (xM E S D R) _ _ _ _ (.int (iI (if σ 0 1009 = 0 then 1 else 0)) :: _)
    refine g_ifB_eq (tgt := 22) hΓ  dX0_weakest_17 (by decide) (fun c5 => ?_) (fun c5 => ?_)
    · refine g_iconst hΓ dX0_weakest_22 ?_
      refine g_istore_n hΓ dX0_weakest_23 rfl (Nat.le_of_ble_eq_true rfl) (lv' := [some (.ref (P.1)), some (.int (iI (-1))), none, none]) rfl ?_
      refine g_ldcw (n := 100000) hΓ rfl q1002 (by decide) dX0_weakest_24 ?_
      refine g_istore_n hΓ dX0_weakest_27 rfl (Nat.le_of_ble_eq_true rfl) (lv' := [some (.ref (P.1)), some (.int (iI (-1))), some (.int (iI 100000)), none]) rfl ?_
      have loop : ∀ (fu : Nat) (S1 : xS) (D1 : xD) (R1 : xR) (b : Int) (f : Int) (k : Int), (σ 0 1009 - k).toNat < fu → (sle S S1) → (Rx E Z S1 D1 R1 P σ) → (0 ≤ k ∧ k ≤ σ 0 1009) → (-1 ≤ b ∧ b ≤ 8) → (0 ≤ f ∧ f ≤ 100000) → (∃ f9, f = min 100000 f9 ∧ 0 ≤ f9 ∧ weF (fun k => sp_lifted σ k 1) (σ 0 1009 - k).toNat k (b, f9) = (weF (fun k => sp_lifted σ k 1) (σ 0 1009).toNat 0 (-1, 100000000))) → gW Γ E (xM E S1 D1 R1) (8 * k.toNat) (480 * k.toNat) 30 [some (.ref (P.1)), some (.int (iI b)), some (.int (iI f)), some (.int (iI k))] [] := by
        intro fu
        induction fu with
        | zero => intro S1 D1 R1 b f k hn; exact absurd hn (Nat.not_lt_zero _)
        | succ fu ih_loop =>
          intro S1 D1 R1 b f k hn hsl hx1 hk hb hf hv
          obtain ⟨hg, hp, hki, hro, hnw, hbh, hsa, hpd⟩ := id hx1
          obtain ⟨N, NI, NM, NV, hN⟩ := (hx1).now
          have hAw := hg.2.2.2.2.2.2
          have hG : GS S1 D1 R1 := hg.1
          obtain ⟨h1000, h1009, h1042, h1043, h1044, h1045, h1046, h1047, hms, hsi, hsm, hnm⟩ := id hro
          have eN := hN.2.2.2.2.2.2.2.2.2.2.2.2
          have kNV : (S1 NV).1 = 45 := by rw [hN.2.2.2.1.2]
          have nNV : (S1 NV).2.1 = 6 := by rw [hN.2.2.2.1.2]
          have eNI : NI = rf R1 (rf R1 P.1 4) 1 := by rw [eN.2.2.1, eN.1]
          refine g_iload_n hΓ rfl dX0_weakest_30 ?_
          refine g_aload_n hΓ rfl dX0_weakest_31 ?_
          refine x_geta (r := some N) (c := 0) hE hΓ in_X0 rfl hp.1 ⟨by decide, rfl⟩ 4 (ji := 4) rfl (by decide) (by decide) rfl q250 rfl rfl hN.1.1 dX0_weakest_32 ?_
          show gW Γ E (xM E S1 D1 R1) (8 * k.toNat) (480 * k.toNat) _ _ (.ref N :: _)
          refine x_geta (r := some NI) (c := 1) hE hΓ in_X1 rfl hN.1.2 ⟨by decide, rfl⟩ 1 (ji := 1) rfl (by decide) (by decide) rfl q200 rfl rfl hN.2.2.1.1 dX0_weakest_35 ?_
          show gW Γ E (xM E S1 D1 R1) (8 * k.toNat) (480 * k.toNat) _ _ (.ref NI :: _)
          refine x_callV (As := []) (rest := [.int (iI k)]) (c := 10) hE hΓ (x_J2_size hE hX S1 D1 R1 NI 10 hN.2.2.1.2 (by decide) ) hN.2.2.1.2 ⟨by decide, rfl⟩ rfl rfl q845 q662 q663 q127 q664 ndJ2_size rfl (by decide) (by decide) (by omega) (by omega) rfl (Nat.le_of_ble_eq_true rfl) dX0_weakest_38 rfl (fun v6 S6 τ6 ρ6 h6 => ?_)
          obtain ⟨rfl, S6e, τ6e, ρ6e⟩ := h6
          have S6e := S6e.symm; subst S6e
          have τ6e := τ6e.symm; subst τ6e
          have ρ6e := ρ6e.symm; subst ρ6e
          refine g_topi (hN.2.2.2.2.1) ?_
          show gW Γ E (xM E S1 D1 R1) _ _ _ _ (.int (iI (σ 0 1009)) :: _)
          refine g_icmp_ge (tgt := 87) hΓ (by omega) (by omega) dX0_weakest_41 (by decide) (fun c7 => ?_) (fun c7 => ?_)
          · refine g_iload_n hΓ rfl dX0_weakest_87 ?_
            exact x_iret hΓ dX0_weakest_88 (by omega) (by omega) ⟨ri (by obtain ⟨f9, e9, n9, v9⟩ := hv; rw [show (σ 0 1009 - k).toNat = 0 by omega, weF] at v9; rw [sp_weakest, if_neg (by omega), ← v9]), hx1, hsl⟩
          · refine g_aload_n hΓ rfl dX0_weakest_44 ?_
            refine g_iload_n hΓ rfl dX0_weakest_45 ?_
            refine x_callV (As := [.int (iI k)]) (rest := []) (c := 0) hE hΓ (x_X0_ranksBut hE hX hL S1 D1 R1 P σ k hx1 (by first | assumption | omega) ) hp.1 ⟨by decide, rfl⟩ rfl rfl q1134 q1136 qs43 q123 q1137 ndX0_ranksBut rfl (by decide) (by decide) (by omega) (by omega) rfl (Nat.le_of_ble_eq_true rfl) dX0_weakest_46 rfl (fun v8 S8 τ8 ρ8 h8 => ?_)
            obtain ⟨rfl, h8, S8f⟩ := h8
            have kd9 : (S8 (P.1)).1 = 1 := kup hp.1 (by decide) S8f
            have kd10 : (S8 N).1 = 2 := kup hN.1.2 (by decide) S8f
            have kd11 : (S8 NI).1 = 10 := kup hN.2.2.1.2 (by decide) S8f
            have kd12 : (S8 NM).1 = 11 := kup hN.2.1.2 (by decide) S8f
            have kd13 : (S8 NV).1 = 45 := kup kNV (by decide) S8f
            have ln13 : (S8 NV).2.1 = 6 := nup kNV (by decide) nNV S8f
            have hx2 := h8.1
            have hrk := h8.2
            obtain ⟨hg, hp, hki, hro0, hnw, hbh, hsa, hpd⟩ := id hx2
            have hro : rowOK (σ 0) := hro0
            obtain ⟨N, NI, NM, NV, hN0⟩ := (hx2).now
            have hN : nowF S8 τ8 ρ8 P σ N NI NM NV := hN0
            have hAw := hg.2.2.2.2.2.2
            have hG : GS S8 τ8 ρ8 := hg.1
            obtain ⟨h1000, h1009, h1042, h1043, h1044, h1045, h1046, h1047, hms, hsi, hsm, hnm⟩ := id hro
            have eN := hN.2.2.2.2.2.2.2.2.2.2.2.2
            have kNV : (S8 NV).1 = 45 := by rw [hN.2.2.2.1.2]
            have nNV : (S8 NV).2.1 = 6 := by rw [hN.2.2.2.1.2]
            have eNI : NI = rf ρ8 (rf ρ8 P.1 4) 1 := by rw [eN.2.2.1, eN.1]
            have eNM : NM = rf ρ8 (rf ρ8 P.1 4) 0 := by rw [eN.2.1, eN.1]
            have eNV : NV = rf ρ8 (rf ρ8 P.1 4) 2 := by rw [eN.2.2.2, eN.1]
            have hnM := nMod_c (σ := σ) (by omega)
            have hm0 := moA_in (f := lfM σ k) (N := nMod σ) (p := 0) (by omega) (by omega)
            have hl0 := lfM_r hro (k := k) (by omega) (by omega) hm0.1 (by omega)
            refine g_aload_n hΓ rfl dX0_weakest_49 ?_
            refine x_geta (r := some (P.2.1 23)) (c := 0) hE hΓ in_X0 rfl hp.1 ⟨by decide, rfl⟩ 23 (ji := 23) rfl (by decide) (by decide) rfl q269 rfl rfl (pA_r hp 23 rfl rfl) dX0_weakest_50 ?_
            show gW Γ E (xM E S8 τ8 ρ8) ((8 * k.toNat) + 0 + 8) ((480 * k.toNat) + 0 + 480) _ _ (.ref (P.2.1 23) :: _)
            refine g_aload_n hΓ rfl dX0_weakest_53 ?_
            refine x_geta (r := some (P.2.1 24)) (c := 0) hE hΓ in_X0 rfl hp.1 ⟨by decide, rfl⟩ 24 (ji := 24) rfl (by decide) (by decide) rfl q270 rfl rfl (pA_r hp 24 rfl rfl) dX0_weakest_54 ?_
            show gW Γ E (xM E S8 τ8 ρ8) ((8 * k.toNat) + 0 + 8) ((480 * k.toNat) + 0 + 480) _ _ (.ref (P.2.1 24) :: _)
            refine g_iconst hΓ dX0_weakest_57 ?_
            refine x_iald hΓ (pA_k hp 24 rfl (n := 74) rfl) (pA_n hp 24 rfl (n := 8) rfl) ⟨by decide, rfl⟩ (by omega) (by omega) dX0_weakest_58 ?_
            refine g_topi ((hrk.2 0 (by omega) (by omega)).2) ?_
            refine x_iald hΓ (pA_k hp 23 rfl (n := 73) rfl) (pA_n hp 23 rfl (n := 8) rfl) ⟨by decide, rfl⟩ (by omega) (by omega) dX0_weakest_59 ?_
            refine g_topi ((hrk.1 _ hm0.1 (by omega))) ?_
            refine g_iload_n hΓ rfl dX0_weakest_60 ?_
            refine g_icmp_lt (tgt := 67) hΓ (by omega) (by omega) dX0_weakest_61 (by decide) (fun c14 => ?_) (fun c14 => ?_)
            · refine g_iload_n hΓ rfl dX0_weakest_67 ?_
              refine g_istore_n hΓ dX0_weakest_68 rfl (Nat.le_of_ble_eq_true rfl) (lv' := [some (.ref (P.1)), some (.int (iI k)), some (.int (iI f)), some (.int (iI k))]) rfl ?_
              refine g_aload_n hΓ rfl dX0_weakest_69 ?_
              refine x_geta (r := some (P.2.1 23)) (c := 0) hE hΓ in_X0 rfl hp.1 ⟨by decide, rfl⟩ 23 (ji := 23) rfl (by decide) (by decide) rfl q269 rfl rfl (pA_r hp 23 rfl rfl) dX0_weakest_70 ?_
              show gW Γ E (xM E S8 τ8 ρ8) ((8 * k.toNat) + 0 + 8) ((480 * k.toNat) + 0 + 480) _ _ (.ref (P.2.1 23) :: _)
              refine g_aload_n hΓ rfl dX0_weakest_73 ?_
              refine x_geta (r := some (P.2.1 24)) (c := 0) hE hΓ in_X0 rfl hp.1 ⟨by decide, rfl⟩ 24 (ji := 24) rfl (by decide) (by decide) rfl q270 rfl rfl (pA_r hp 24 rfl rfl) dX0_weakest_74 ?_
              show gW Γ E (xM E S8 τ8 ρ8) ((8 * k.toNat) + 0 + 8) ((480 * k.toNat) + 0 + 480) _ _ (.ref (P.2.1 24) :: _)
              refine g_iconst hΓ dX0_weakest_77 ?_
              refine x_iald hΓ (pA_k hp 24 rfl (n := 74) rfl) (pA_n hp 24 rfl (n := 8) rfl) ⟨by decide, rfl⟩ (by omega) (by omega) dX0_weakest_78 ?_
              refine g_topi ((hrk.2 0 (by omega) (by omega)).2) ?_
              refine x_iald hΓ (pA_k hp 23 rfl (n := 73) rfl) (pA_n hp 23 rfl (n := 8) rfl) ⟨by decide, rfl⟩ (by omega) (by omega) dX0_weakest_79 ?_
              refine g_topi ((hrk.1 _ hm0.1 (by omega))) ?_
              obtain ⟨x15, ex15⟩ : ∃ z9 : Int, z9 = lfM σ k (moA (lfM σ k) (nMod σ) 0) := ⟨_, rfl⟩
              refine g_topi ex15.symm ?_
              refine g_istore_n hΓ dX0_weakest_80 rfl (Nat.le_of_ble_eq_true rfl) (lv' := [some (.ref (P.1)), some (.int (iI k)), some (.int (iI x15)), some (.int (iI k))]) rfl ?_
              obtain ⟨x16, ex16⟩ : ∃ z9 : Int, z9 = k + 1 := ⟨_, rfl⟩
              refine g_iinc hΓ dX0_weakest_81 rfl rfl (lv' := [some (.ref (P.1)), some (.int (iI k)), some (.int (iI x15)), some (.int (iI x16))]) (by rw [ex16]; rfl) ?_
              refine g_goto (tgt := 30) hΓ dX0_weakest_84 (by decide) ?_
              obtain ⟨f9, e9, n9, v9⟩ := hv
              rw [show (σ 0 1009 - k).toNat = (σ 0 1009 - x16).toNat + 1 by omega, weF] at v9
              have h91 : sp_lifted σ k 1 = lfM σ k (moA (lfM σ k) (nMod σ) 0) := by rw [sp_lifted, if_pos ⟨by omega, ⟨by omega, by omega⟩, by omega, by omega⟩, if_neg (by omega), if_pos rfl]
              refine g_wid (c' := 8 * x16.toNat) (s' := 480 * x16.toNat) (by omega) (by omega) ?_
              exact ih_loop S8 τ8 ρ8 k x15 x16 (by omega) (sle_t hsl S8f) hx2 (by omega) (by omega) (by omega) ⟨sp_lifted σ k 1, by rw [h91]; omega, by rw [h91]; omega, by rw [if_neg (by rw [h91]; omega)] at v9; rw [show x16 = k + 1 by omega]; rw [show (σ 0 1009 - (k + 1)).toNat = (σ 0 1009 - x16).toNat by omega]; rw [show k = k by omega]; exact v9⟩
            · refine g_goto (tgt := 81) hΓ dX0_weakest_64 (by decide) ?_
              obtain ⟨x17, ex17⟩ : ∃ z9 : Int, z9 = k + 1 := ⟨_, rfl⟩
              refine g_iinc hΓ dX0_weakest_81 rfl rfl (lv' := [some (.ref (P.1)), some (.int (iI b)), some (.int (iI f)), some (.int (iI x17))]) (by rw [ex17]; rfl) ?_
              refine g_goto (tgt := 30) hΓ dX0_weakest_84 (by decide) ?_
              obtain ⟨f9, e9, n9, v9⟩ := hv
              rw [show (σ 0 1009 - k).toNat = (σ 0 1009 - x17).toNat + 1 by omega, weF] at v9
              have h91 : sp_lifted σ k 1 = lfM σ k (moA (lfM σ k) (nMod σ) 0) := by rw [sp_lifted, if_pos ⟨by omega, ⟨by omega, by omega⟩, by omega, by omega⟩, if_neg (by omega), if_pos rfl]
              refine g_wid (c' := 8 * x17.toNat) (s' := 480 * x17.toNat) (by omega) (by omega) ?_
              exact ih_loop S8 τ8 ρ8 b f x17 (by omega) (sle_t hsl S8f) hx2 (by omega) (by omega) (by omega) ⟨f9, e9, n9, by rw [if_pos (by rw [h91]; omega)] at v9; rw [show x17 = k + 1 by omega]; rw [show (σ 0 1009 - (k + 1)).toNat = (σ 0 1009 - x17).toNat by omega]; exact v9⟩
      refine g_iconst hΓ dX0_weakest_28 ?_
      refine g_istore_n hΓ dX0_weakest_29 rfl (Nat.le_of_ble_eq_true rfl) (lv' := [some (.ref (P.1)), some (.int (iI (-1))), some (.int (iI 100000)), some (.int (iI 0))]) rfl ?_
      refine g_wid (c' := 8 * (0 : Int).toNat) (s' := 480 * (0 : Int).toNat) (by omega) (by omega) ?_
      exact loop 9 S D R (-1) 100000 0 (by omega) (fun q9 h9 => rfl) hx (by omega) (by omega) (by omega) ⟨100000000, by omega, by omega, by rw [Int.sub_zero]⟩
    · refine g_iconst hΓ dX0_weakest_20 ?_
      exact x_iret hΓ dX0_weakest_21 (Nat.zero_le _) (Nat.zero_le _) ⟨ri (by rw [sp_weakest]; first | (rw [if_pos (by omega)]; done) | (rw [if_neg (by omega), show (σ 0 1009).toNat = 0 by omega, weF])), hx, (fun q h => rfl)⟩
