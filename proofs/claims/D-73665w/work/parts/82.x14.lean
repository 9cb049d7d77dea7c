set_option maxRecDepth 100000
set_option maxHeartbeats 4000000 in
theorem x_X0_length {l : Launch} {E : gE} {X : State → Prop} {Z : Nat → Nat} {Y : Nat → Option Nat} (hE : E.2.1 = clsX) (hX : xOK l E X Z Y) (S : xS) (D : xD) (R : xR) (P : xPk) (σ : mS) (m k : Int) (hx : Rx E Z S D R P σ) (hm : r32 m) (hk : r32 k) : xC l E X yX0_length cX0_length 4 (some .int) 6 0 0 [.ref (P.1), .int (iI m), .int (iI k)] S D R (fun rv S' D' R' => rv = some (.int (iI (sp_length σ m k))) ∧ (Rx E Z S D' R P σ) ∧ S' = S ∧ fr S D D' [8003, 42, 43, 44] ∧ R' = R) := by
  refine xC.of hX.1 (by decide) [some (.ref (P.1)), some (.int (iI m)), some (.int (iI k)), none] (Nat.le_of_ble_eq_true rfl) rfl rfl (fun Γ hΓ => ?_)
  obtain ⟨hg, hp, hki, hro, hnw, hbh, hsa, hpd⟩ := id hx
  obtain ⟨N, NI, NM, NV, hN⟩ := (hx).now
  have hAw := hg.2.2.2.2.2.2
  have hG : GS S D R := hg.1
  obtain ⟨h1000, h1009, h1042, h1043, h1044, h1045, h1046, h1047, hms, hsi, hsm, hnm⟩ := id hro
  have eN := hN.2.2.2.2.2.2.2.2.2.2.2.2
  have kNV : (S NV).1 = 45 := by rw [hN.2.2.2.1.2]
  have nNV : (S NV).2.1 = 6 := by rw [hN.2.2.2.1.2]
  refine g_aload_n hΓ rfl dX0_length_0 ?_
  refine g_iload_n hΓ rfl dX0_length_1 ?_
  refine g_iload_n hΓ rfl dX0_length_2 ?_
  refine x_callV (As := [.int (iI m), .int (iI k)]) (rest := []) (c := 0) hE hΓ (x_X0_strokeOf hE hX S D R P σ m k hx (by first | assumption | omega) (by first | assumption | omega) ) hp.1 ⟨by decide, rfl⟩ rfl rfl q911 q913 qs25 q123 q914 ndX0_strokeOf rfl (by decide) (by decide) (Nat.zero_le _) (Nat.zero_le _) rfl (Nat.le_of_ble_eq_true rfl) dX0_length_3 rfl (fun v1 S1 τ1 ρ1 h1 => ?_)
  obtain ⟨rfl, h1, S1e, τ1f, ρ1e⟩ := h1
  have S1e := S1e.symm; subst S1e
  have ρ1e := ρ1e.symm; subst ρ1e
  show gW Γ E (xM E S τ1 R) _ _ _ _ (va_rf (if stO σ m k = -1 then none else some (lE R (lsA R (rf R P.1 4) m) k)) :: _)
  by_cases cs2 : stO σ m k = -1
  · rw [if_pos cs2]
    show gW Γ E (xM E S τ1 R) _ _ _ _ (.null :: _)
    refine g_astore_nN hΓ dX0_length_6 rfl (Nat.le_of_ble_eq_true rfl) (lv' := [some (.ref (P.1)), some (.int (iI m)), some (.int (iI k)), some (.null)]) rfl ?_
    refine g_aload_nN hΓ rfl dX0_length_7 ?_
    refine g_ifnonnullN hΓ dX0_length_8 ?_
    refine g_iconst hΓ dX0_length_11 ?_
    refine g_goto (tgt := 19) hΓ dX0_length_12 (by decide) ?_
    exact x_iret hΓ dX0_length_19 (Nat.zero_le _) (Nat.zero_le _) ⟨ri (by rw [sp_length]; first | (rw [if_pos (by assumption)]; done) | (rw [if_neg (by assumption)]; done) | (rw [if_pos (by omega)]; done) | (rw [if_neg (by omega)]; done)), h1.1, rfl, (fun q9 j9 hk9 => by exact (τ1f q9 j9 (fun e9 => hk9 ((show ∀ x ∈ [8003, 42, 43, 44], x ∈ [8003, 42, 43, 44] by decide) _ e9)))), rfl⟩
  · rw [if_neg cs2]
    obtain ⟨s2, es2⟩ : ∃ z : Nat, z = lE R (lsA R (rf R P.1 4) m) k := ⟨_, rfl⟩
    rw [← es2]
    show gW Γ E (xM E S τ1 R) _ _ _ _ (.ref s2 :: _)
    rcases stO_ok hro m k with h9 | ⟨hm2, hk02, hk12, hse2, hs02, hs402, hso2⟩
    · exact absurd h9 cs2
    have hsr2 := (h1.1).letter hm2
    have hsd2 := hsr2.1.2 k hk02 hk12
    rw [← hse2, ← es2] at hsd2
    have hca2 := h1.2 cs2
    rw [← es2] at hca2
    obtain ⟨hsf3, hsk3, hsp3, hsl3⟩ := id (((h1.1).1.1 s2 hsd2.1).1)
    have kd4 : (S (rf R s2 4)).1 = 42 := by rw [hsf3.2.2.2.2.2.2.2.1]
    have ln4 : (S (rf R s2 4)).2.1 = 34 := by rw [hsf3.2.2.2.2.2.2.2.1]
    have kd5 : (S (rf R s2 5)).1 = 43 := by rw [hsf3.2.2.2.2.2.2.2.2.2.1]
    have ln5 : (S (rf R s2 5)).2.1 = 16 := by rw [hsf3.2.2.2.2.2.2.2.2.2.1]
    have kd6 : (S (rf R s2 6)).1 = 44 := by rw [hsf3.2.2.2.2.2.2.2.2.2.2.2]
    have ln6 : (S (rf R s2 6)).2.1 = 16 := by rw [hsf3.2.2.2.2.2.2.2.2.2.2.2]
    have hsn3 := hsf3.2.2.1
    have hsm3 := hsf3.2.2.2.2.2.1
    have hs13 := hsk3.1
    have hs23 := hsk3.2.1
    have hsc2 := sk_cds (e := σ 0 1042) ((h1.1).1.1 s2 hsd2.1).1 hsd2
    have hsn2 := hsc2.1
    have hcc2 := hsc2.2.2 hca2
    refine g_astore_n hΓ dX0_length_6 rfl (Nat.le_of_ble_eq_true rfl) (lv' := [some (.ref (P.1)), some (.int (iI m)), some (.int (iI k)), some (.ref s2)]) rfl ?_
    refine g_aload_n hΓ rfl dX0_length_7 ?_
    refine g_ifnonnull (tgt := 15) hΓ dX0_length_8 (by decide) ?_
    refine g_aload_n hΓ rfl dX0_length_15 ?_
    refine x_getiN (c := 8) hE hΓ in_X8 rfl hsd2.1 ⟨by decide, rfl⟩ 2 (ji := 2) rfl (by decide) (by decide) rfl (xn_806 hX) rfl rfl dX0_length_16 ?_
    refine g_topi (hsc2.2.1) ?_
    exact x_iret hΓ dX0_length_19 (Nat.zero_le _) (Nat.zero_le _) ⟨ri (by rw [sp_length]; first | (rw [if_pos (by assumption)]; done) | (rw [if_neg (by assumption)]; done) | (rw [if_pos (by omega)]; done) | (rw [if_neg (by omega)]; done)), h1.1, rfl, (fun q9 j9 hk9 => by exact (τ1f q9 j9 (fun e9 => hk9 ((show ∀ x ∈ [8003, 42, 43, 44], x ∈ [8003, 42, 43, 44] by decide) _ e9)))), rfl⟩
set_option maxHeartbeats 4000000 in
theorem x_X0_point {l : Launch} {E : gE} {X : State → Prop} {Z : Nat → Nat} {Y : Nat → Option Nat} (hE : E.2.1 = clsX) (hX : xOK l E X Z Y) (S : xS) (D : xD) (R : xR) (P : xPk) (σ : mS) (m k i u : Int) (hx : Rx E Z S D R P σ) (hm : r32 m) (hk : r32 k) (hi : r32 i) (hu : r32 u) : xC l E X yX0_point cX0_point 6 (some .int) 6 0 0 [.ref (P.1), .int (iI m), .int (iI k), .int (iI i), .int (iI u)] S D R (fun rv S' D' R' => rv = some (.int (iI (sp_point σ m k i u))) ∧ (Rx E Z S D' R P σ) ∧ S' = S ∧ fr S D D' [8003, 42, 43, 44] ∧ R' = R) := by
  refine xC.of hX.1 (by decide) [some (.ref (P.1)), some (.int (iI m)), some (.int (iI k)), some (.int (iI i)), some (.int (iI u)), none] (Nat.le_of_ble_eq_true rfl) rfl rfl (fun Γ hΓ => ?_)
  obtain ⟨hg, hp, hki, hro, hnw, hbh, hsa, hpd⟩ := id hx
  obtain ⟨N, NI, NM, NV, hN⟩ := (hx).now
  have hAw := hg.2.2.2.2.2.2
  have hG : GS S D R := hg.1
  obtain ⟨h1000, h1009, h1042, h1043, h1044, h1045, h1046, h1047, hms, hsi, hsm, hnm⟩ := id hro
  have eN := hN.2.2.2.2.2.2.2.2.2.2.2.2
  have kNV : (S NV).1 = 45 := by rw [hN.2.2.2.1.2]
  have nNV : (S NV).2.1 = 6 := by rw [hN.2.2.2.1.2]
  refine g_aload_n hΓ rfl dX0_point_0 ?_
  refine g_iload_n hΓ rfl dX0_point_1 ?_
  refine g_iload_n hΓ rfl dX0_point_2 ?_
  refine x_callV (As := [.int (iI m), .int (iI k)]) (rest := []) (c := 0) hE hΓ (x_X0_strokeOf hE hX S D R P σ m k hx (by first | assumption | omega) (by first | assumption | omega) ) hp.1 ⟨by decide, rfl⟩ rfl rfl q911 q913 qs25 q123 q914 ndX0_strokeOf rfl (by decide) (by decide) (Nat.zero_le _) (Nat.zero_le _) rfl (Nat.le_of_ble_eq_true rfl) dX0_point_3 rfl (fun v1 S1 τ1 ρ1 h1 => ?_)
  obtain ⟨rfl, h1, S1e, τ1f, ρ1e⟩ := h1
  have S1e := S1e.symm; subst S1e
  have ρ1e := ρ1e.symm; subst ρ1e
  show gW Γ E (xM E S τ1 R) _ _ _ _ (va_rf (if stO σ m k = -1 then none else some (lE R (lsA R (rf R P.1 4) m) k)) :: _)
  by_cases cs2 : stO σ m k = -1
  · rw [if_pos cs2]
    show gW Γ E (xM E S τ1 R) _ _ _ _ (.null :: _)
    refine g_astoreN hΓ dX0_point_6 rfl (Nat.le_of_ble_eq_true rfl) (lv' := [some (.ref (P.1)), some (.int (iI m)), some (.int (iI k)), some (.int (iI i)), some (.int (iI u)), some (.null)]) rfl ?_
    refine g_aloadN hΓ rfl dX0_point_8 ?_
    refine g_ifnonnullN hΓ dX0_point_10 ?_
    refine g_iconst hΓ dX0_point_13 ?_
    exact x_iret hΓ dX0_point_14 (Nat.zero_le _) (Nat.zero_le _) ⟨ri (by rw [sp_point]; first | (rw [if_pos (by assumption)]; done) | (rw [if_neg (by assumption), if_pos (by omega)]; omega) | (rw [if_neg (by assumption), if_neg (by omega), if_pos (by omega)]) | (rw [if_neg (by assumption), if_neg (by omega), if_neg (by omega)])), h1.1, rfl, (fun q9 j9 hk9 => by exact (τ1f q9 j9 (fun e9 => hk9 ((show ∀ x ∈ [8003, 42, 43, 44], x ∈ [8003, 42, 43, 44] by decide) _ e9)))), rfl⟩
  · rw [if_neg cs2]
    obtain ⟨s2, es2⟩ : ∃ z : Nat, z = lE R (lsA R (rf R P.1 4) m) k := ⟨_, rfl⟩
    rw [← es2]
    show gW Γ E (xM E S τ1 R) _ _ _ _ (.ref s2 :: _)
    rcases stO_ok hro m k with h9 | ⟨hm2, hk02, hk12, hse2, hs02, hs402, hso2⟩
    · exact absurd h9 cs2
    have hsr2 := (h1.1).letter hm2
    have hsd2 := hsr2.1.2 k hk02 hk12
    rw [← hse2, ← es2] at hsd2
    have hca2 := h1.2 cs2
    rw [← es2] at hca2
    obtain ⟨hsf3, hsk3, hsp3, hsl3⟩ := id (((h1.1).1.1 s2 hsd2.1).1)
    have kd4 : (S (rf R s2 4)).1 = 42 := by rw [hsf3.2.2.2.2.2.2.2.1]
    have ln4 : (S (rf R s2 4)).2.1 = 34 := by rw [hsf3.2.2.2.2.2.2.2.1]
    have kd5 : (S (rf R s2 5)).1 = 43 := by rw [hsf3.2.2.2.2.2.2.2.2.2.1]
    have ln5 : (S (rf R s2 5)).2.1 = 16 := by rw [hsf3.2.2.2.2.2.2.2.2.2.1]
    have kd6 : (S (rf R s2 6)).1 = 44 := by rw [hsf3.2.2.2.2.2.2.2.2.2.2.2]
    have ln6 : (S (rf R s2 6)).2.1 = 16 := by rw [hsf3.2.2.2.2.2.2.2.2.2.2.2]
    have hsn3 := hsf3.2.2.1
    have hsm3 := hsf3.2.2.2.2.2.1
    have hs13 := hsk3.1
    have hs23 := hsk3.2.1
    have hsc2 := sk_cds (e := σ 0 1042) ((h1.1).1.1 s2 hsd2.1).1 hsd2
    have hsn2 := hsc2.1
    have hcc2 := hsc2.2.2 hca2
    refine g_astore hΓ dX0_point_6 rfl (Nat.le_of_ble_eq_true rfl) (lv' := [some (.ref (P.1)), some (.int (iI m)), some (.int (iI k)), some (.int (iI i)), some (.int (iI u)), some (.ref s2)]) rfl ?_
    refine g_aload hΓ rfl dX0_point_8 ?_
    refine g_ifnonnull (tgt := 15) hΓ dX0_point_10 (by decide) ?_
    refine g_iload_n hΓ rfl dX0_point_15 ?_
    refine g_iconst hΓ dX0_point_16 ?_
    refine g_icmp_ne (tgt := 26) hΓ (by omega) (by omega) dX0_point_17 (by decide) (fun c7 => ?_) (fun c7 => ?_)
    · refine g_iload_n hΓ rfl dX0_point_26 ?_
      refine g_i2l hΓ (by omega) dX0_point_27 ?_
      refine g_lconst (a := 0) hΓ rfl dX0_point_28 ?_
      refine g_aload hΓ rfl dX0_point_29 ?_
      refine x_callV (As := []) (rest := [.long (lI 0), .long (lI i)]) (c := 8) hE hΓ (x_X8_many hE hX S τ1 R s2 hsd2.1 ((h1.1).1.1 s2 hsd2.1).1 ) hsd2.1 ⟨by decide, rfl⟩ rfl rfl q929 q930 q931 q144 q932 ndX8_many rfl (by decide) (by decide) (Nat.zero_le _) (Nat.zero_le _) rfl (Nat.le_of_ble_eq_true rfl) dX0_point_31 rfl (fun v8 S8 τ8 ρ8 h8 => ?_)
      obtain ⟨rfl, S8e, τ8e, ρ8e⟩ := h8
      have S8e := S8e.symm; subst S8e
      have τ8e := τ8e.symm; subst τ8e
      have ρ8e := ρ8e.symm; subst ρ8e
      show gW Γ E (xM E S τ1 R) _ _ _ _ (.int (iI (strN S R s2)) :: _)
      refine g_iconst hΓ dX0_point_34 ?_
      refine g_isub hΓ dX0_point_35 ?_
      refine g_i2l hΓ (by omega) dX0_point_36 ?_
      refine x_callS (As := [.long (lI i), .long (lI 0), .long (lI ((strN S R s2) - 1))]) (rest := []) hΓ (x_X0_isIn hE hX S τ1 R i 0 ((strN S R s2) - 1) (by first | assumption | omega) (by first | assumption | omega) (by first | assumption | omega)) rfl q387 q388 q123 q389 ndX0_isIn rfl (by decide) (by decide) (Nat.zero_le _) (Nat.zero_le _) rfl (Nat.le_of_ble_eq_true rfl) dX0_point_37 rfl (fun v9 S9 τ9 ρ9 h9 => ?_)
      obtain ⟨rfl, S9e, τ9e, ρ9e⟩ := h9
      have S9e := S9e.symm; subst S9e
      have τ9e := τ9e.symm; subst τ9e
      have ρ9e := ρ9e.symm; subst ρ9e
      show gW Γ E (xM E S τ1 R) _ _ _ _ (.int (iI (if 0 ≤ i ∧ i ≤ ((strN S R s2) - 1) then 1 else 0)) :: _)
      refine g_ifB_eq (tgt := 69) hΓ  dX0_point_40 (by decide) (fun c10 => ?_) (fun c10 => ?_)
      · refine g_iconst hΓ dX0_point_69 ?_
        exact x_iret hΓ dX0_point_70 (Nat.zero_le _) (Nat.zero_le _) ⟨ri (by rw [sp_point]; first | (rw [if_pos (by assumption)]; done) | (rw [if_neg (by assumption), if_pos (by omega)]; omega) | (rw [if_neg (by assumption), if_neg (by omega), if_pos (by omega)]) | (rw [if_neg (by assumption), if_neg (by omega), if_neg (by omega)])), h1.1, rfl, (fun q9 j9 hk9 => by exact (τ1f q9 j9 (fun e9 => hk9 ((show ∀ x ∈ [8003, 42, 43, 44], x ∈ [8003, 42, 43, 44] by decide) _ e9)))), rfl⟩
      · refine g_iload hΓ rfl dX0_point_43 ?_
        refine g_i2l hΓ (by omega) dX0_point_45 ?_
        refine g_lconst (a := 0) hΓ rfl dX0_point_46 ?_
        refine g_lconst (a := 1) hΓ rfl dX0_point_47 ?_
        refine x_callS (As := [.long (lI u), .long (lI 0), .long (lI 1)]) (rest := []) hΓ (x_X0_isIn hE hX S τ1 R u 0 1 (by first | assumption | omega) (by first | assumption | omega) (by first | assumption | omega)) rfl q387 q388 q123 q389 ndX0_isIn rfl (by decide) (by decide) (Nat.zero_le _) (Nat.zero_le _) rfl (Nat.le_of_ble_eq_true rfl) dX0_point_48 rfl (fun v11 S11 τ11 ρ11 h11 => ?_)
        obtain ⟨rfl, S11e, τ11e, ρ11e⟩ := h11
        have S11e := S11e.symm; subst S11e
        have τ11e := τ11e.symm; subst τ11e
        have ρ11e := ρ11e.symm; subst ρ11e
        show gW Γ E (xM E S τ1 R) _ _ _ _ (.int (iI (if 0 ≤ u ∧ u ≤ 1 then 1 else 0)) :: _)
        refine g_ifB_eq (tgt := 69) hΓ  dX0_point_51 (by decide) (fun c12 => ?_) (fun c12 => ?_)
        · refine g_iconst hΓ dX0_point_69 ?_
          exact x_iret hΓ dX0_point_70 (Nat.zero_le _) (Nat.zero_le _) ⟨ri (by rw [sp_point]; first | (rw [if_pos (by assumption)]; done) | (rw [if_neg (by assumption), if_pos (by omega)]; omega) | (rw [if_neg (by assumption), if_neg (by omega), if_pos (by omega)]) | (rw [if_neg (by assumption), if_neg (by omega), if_neg (by omega)])), h1.1, rfl, (fun q9 j9 hk9 => by exact (τ1f q9 j9 (fun e9 => hk9 ((show ∀ x ∈ [8003, 42, 43, 44], x ∈ [8003, 42, 43, 44] by decide) _ e9)))), rfl⟩
        · refine g_aload hΓ rfl dX0_point_54 ?_
          refine x_getaN (r := some (rf R s2 0)) (c := 8) hE hΓ in_X8 rfl hsd2.1 ⟨by decide, rfl⟩ 0 (ji := 0) rfl (by decide) (by decide) rfl (xn_803 hX) rfl rfl hsf3.1 dX0_point_56 ?_
          show gW Γ E (xM E S τ1 R) 0 0 _ _ (.ref (rf R s2 0) :: _)
          refine g_iconst hΓ dX0_point_59 ?_
          refine g_iload_n hΓ rfl dX0_point_60 ?_
          refine g_imul hΓ dX0_point_61 ?_
          refine g_iload hΓ rfl dX0_point_62 ?_
          refine g_iadd hΓ dX0_point_64 ?_
          refine x_iald hΓ hsf3.2.1 rfl ⟨by decide, rfl⟩ (by omega) (by omega) dX0_point_65 ?_
          refine g_topi ((hsd2.2.2 _ (by omega) (by omega))) ?_
          refine g_goto (tgt := 70) hΓ dX0_point_66 (by decide) ?_
          exact x_iret hΓ dX0_point_70 (Nat.zero_le _) (Nat.zero_le _) ⟨ri (by rw [sp_point]; first | (rw [if_pos (by assumption)]; done) | (rw [if_neg (by assumption), if_pos (by omega)]; omega) | (rw [if_neg (by assumption), if_neg (by omega), if_pos (by omega)]) | (rw [if_neg (by assumption), if_neg (by omega), if_neg (by omega)])), h1.1, rfl, (fun q9 j9 hk9 => by exact (τ1f q9 j9 (fun e9 => hk9 ((show ∀ x ∈ [8003, 42, 43, 44], x ∈ [8003, 42, 43, 44] by decide) _ e9)))), rfl⟩
    · refine g_aload hΓ rfl dX0_point_20 ?_
      refine x_callV (As := []) (rest := []) (c := 8) hE hΓ (x_X8_many hE hX S τ1 R s2 hsd2.1 ((h1.1).1.1 s2 hsd2.1).1 ) hsd2.1 ⟨by decide, rfl⟩ rfl rfl q929 q930 q931 q144 q932 ndX8_many rfl (by decide) (by decide) (Nat.zero_le _) (Nat.zero_le _) rfl (Nat.le_of_ble_eq_true rfl) dX0_point_22 rfl (fun v13 S13 τ13 ρ13 h13 => ?_)
      obtain ⟨rfl, S13e, τ13e, ρ13e⟩ := h13
      have S13e := S13e.symm; subst S13e
      have τ13e := τ13e.symm; subst τ13e
      have ρ13e := ρ13e.symm; subst ρ13e
      show gW Γ E (xM E S τ1 R) _ _ _ _ (.int (iI (strN S R s2)) :: _)
      exact x_iret hΓ dX0_point_25 (Nat.zero_le _) (Nat.zero_le _) ⟨ri (by rw [sp_point]; first | (rw [if_pos (by assumption)]; done) | (rw [if_neg (by assumption), if_pos (by omega)]; omega) | (rw [if_neg (by assumption), if_neg (by omega), if_pos (by omega)]) | (rw [if_neg (by assumption), if_neg (by omega), if_neg (by omega)])), h1.1, rfl, (fun q9 j9 hk9 => by exact (τ1f q9 j9 (fun e9 => hk9 ((show ∀ x ∈ [8003, 42, 43, 44], x ∈ [8003, 42, 43, 44] by decide) _ e9)))), rfl⟩
set_option maxHeartbeats 4000000 in
theorem x_X0_sample {l : Launch} {E : gE} {X : State → Prop} {Z : Nat → Nat} {Y : Nat → Option Nat} (hE : E.2.1 = clsX) (hX : xOK l E X Z Y) (S : xS) (D : xD) (R : xR) (P : xPk) (σ : mS) (m k i u : Int) (hx : Rx E Z S D R P σ) (hm : r32 m) (hk : r32 k) (hi : r32 i) (hu : r32 u) : xC l E X yX0_sample cX0_sample 6 (some .int) 6 0 0 [.ref (P.1), .int (iI m), .int (iI k), .int (iI i), .int (iI u)] S D R (fun rv S' D' R' => rv = some (.int (iI (sp_sample σ m k i u))) ∧ (Rx E Z S D' R P σ) ∧ S' = S ∧ fr S D D' [8003, 42, 43, 44] ∧ R' = R) := by
  refine xC.of hX.1 (by decide) [some (.ref (P.1)), some (.int (iI m)), some (.int (iI k)), some (.int (iI i)), some (.int (iI u)), none] (Nat.le_of_ble_eq_true rfl) rfl rfl (fun Γ hΓ => ?_)
  obtain ⟨hg, hp, hki, hro, hnw, hbh, hsa, hpd⟩ := id hx
  obtain ⟨N, NI, NM, NV, hN⟩ := (hx).now
  have hAw := hg.2.2.2.2.2.2
  have hG : GS S D R := hg.1
  obtain ⟨h1000, h1009, h1042, h1043, h1044, h1045, h1046, h1047, hms, hsi, hsm, hnm⟩ := id hro
  have eN := hN.2.2.2.2.2.2.2.2.2.2.2.2
  have kNV : (S NV).1 = 45 := by rw [hN.2.2.2.1.2]
  have nNV : (S NV).2.1 = 6 := by rw [hN.2.2.2.1.2]
  refine g_aload_n hΓ rfl dX0_sample_0 ?_
  refine g_iload_n hΓ rfl dX0_sample_1 ?_
  refine g_iload_n hΓ rfl dX0_sample_2 ?_
  refine x_callV (As := [.int (iI m), .int (iI k)]) (rest := []) (c := 0) hE hΓ (x_X0_strokeOf hE hX S D R P σ m k hx (by first | assumption | omega) (by first | assumption | omega) ) hp.1 ⟨by decide, rfl⟩ rfl rfl q911 q913 qs25 q123 q914 ndX0_strokeOf rfl (by decide) (by decide) (Nat.zero_le _) (Nat.zero_le _) rfl (Nat.le_of_ble_eq_true rfl) dX0_sample_3 rfl (fun v1 S1 τ1 ρ1 h1 => ?_)
  obtain ⟨rfl, h1, S1e, τ1f, ρ1e⟩ := h1
  have S1e := S1e.symm; subst S1e
  have ρ1e := ρ1e.symm; subst ρ1e
  show gW Γ E (xM E S τ1 R) _ _ _ _ (va_rf (if stO σ m k = -1 then none else some (lE R (lsA R (rf R P.1 4) m) k)) :: _)
  by_cases cs2 : stO σ m k = -1
  · rw [if_pos cs2]
    show gW Γ E (xM E S τ1 R) _ _ _ _ (.null :: _)
    refine g_astoreN hΓ dX0_sample_6 rfl (Nat.le_of_ble_eq_true rfl) (lv' := [some (.ref (P.1)), some (.int (iI m)), some (.int (iI k)), some (.int (iI i)), some (.int (iI u)), some (.null)]) rfl ?_
    refine g_aloadN hΓ rfl dX0_sample_8 ?_
    refine g_ifnullN (tgt := 58) hΓ dX0_sample_10 (by decide) ?_
    refine g_iconst hΓ dX0_sample_58 ?_
    exact x_iret hΓ dX0_sample_59 (Nat.zero_le _) (Nat.zero_le _) ⟨ri (by rw [sp_sample]; first | (rw [if_pos ⟨by assumption, by omega, by omega, by omega⟩]; done) | (rw [if_neg (fun h9 => h9.1 (by assumption))]; done) | (rw [if_neg (by omega)])), h1.1, rfl, (fun q9 j9 hk9 => by exact (τ1f q9 j9 (fun e9 => hk9 ((show ∀ x ∈ [8003, 42, 43, 44], x ∈ [8003, 42, 43, 44] by decide) _ e9)))), rfl⟩
  · rw [if_neg cs2]
    obtain ⟨s2, es2⟩ : ∃ z : Nat, z = lE R (lsA R (rf R P.1 4) m) k := ⟨_, rfl⟩
    rw [← es2]
    show gW Γ E (xM E S τ1 R) _ _ _ _ (.ref s2 :: _)
    rcases stO_ok hro m k with h9 | ⟨hm2, hk02, hk12, hse2, hs02, hs402, hso2⟩
    · exact absurd h9 cs2
    have hsr2 := (h1.1).letter hm2
    have hsd2 := hsr2.1.2 k hk02 hk12
    rw [← hse2, ← es2] at hsd2
    have hca2 := h1.2 cs2
    rw [← es2] at hca2
    obtain ⟨hsf3, hsk3, hsp3, hsl3⟩ := id (((h1.1).1.1 s2 hsd2.1).1)
    have kd4 : (S (rf R s2 4)).1 = 42 := by rw [hsf3.2.2.2.2.2.2.2.1]
    have ln4 : (S (rf R s2 4)).2.1 = 34 := by rw [hsf3.2.2.2.2.2.2.2.1]
    have kd5 : (S (rf R s2 5)).1 = 43 := by rw [hsf3.2.2.2.2.2.2.2.2.2.1]
    have ln5 : (S (rf R s2 5)).2.1 = 16 := by rw [hsf3.2.2.2.2.2.2.2.2.2.1]
    have kd6 : (S (rf R s2 6)).1 = 44 := by rw [hsf3.2.2.2.2.2.2.2.2.2.2.2]
    have ln6 : (S (rf R s2 6)).2.1 = 16 := by rw [hsf3.2.2.2.2.2.2.2.2.2.2.2]
    have hsn3 := hsf3.2.2.1
    have hsm3 := hsf3.2.2.2.2.2.1
    have hs13 := hsk3.1
    have hs23 := hsk3.2.1
    have hsc2 := sk_cds (e := σ 0 1042) ((h1.1).1.1 s2 hsd2.1).1 hsd2
    have hsn2 := hsc2.1
    have hcc2 := hsc2.2.2 hca2
    refine g_astore hΓ dX0_sample_6 rfl (Nat.le_of_ble_eq_true rfl) (lv' := [some (.ref (P.1)), some (.int (iI m)), some (.int (iI k)), some (.int (iI i)), some (.int (iI u)), some (.ref s2)]) rfl ?_
    refine g_aload hΓ rfl dX0_sample_8 ?_
    refine g_ifnull hΓ dX0_sample_10 ?_
    refine g_iload_n hΓ rfl dX0_sample_13 ?_
    refine g_i2l hΓ (by omega) dX0_sample_14 ?_
    refine g_lconst (a := 0) hΓ rfl dX0_sample_15 ?_
    refine g_aload_n hΓ rfl dX0_sample_16 ?_
    refine x_geta (r := some N) (c := 0) hE hΓ in_X0 rfl hp.1 ⟨by decide, rfl⟩ 4 (ji := 4) rfl (by decide) (by decide) rfl q250 rfl rfl hN.1.1 dX0_sample_17 ?_
    show gW Γ E (xM E S τ1 R) 0 0 _ _ (.ref N :: _)
    refine x_geta (r := some NV) (c := 1) hE hΓ in_X1 rfl hN.1.2 ⟨by decide, rfl⟩ 2 (ji := 2) rfl (by decide) (by decide) rfl q203 rfl rfl hN.2.2.2.1.1 dX0_sample_20 ?_
    show gW Γ E (xM E S τ1 R) 0 0 _ _ (.ref NV :: _)
    refine g_iconst hΓ dX0_sample_23 ?_
    refine x_iald hΓ kNV nNV ⟨by decide, rfl⟩ (by omega) (by omega) dX0_sample_24 ?_
    refine g_topi (((τ1f NV 0 (by rw [kNV, mdN _ (by decide)]; decide)).trans hN.2.2.2.2.2.2.1)) ?_
    refine g_i2l hΓ (by omega) dX0_sample_25 ?_
    refine x_callS (As := [.long (lI i), .long (lI 0), .long (lI (σ 0 1042))]) (rest := []) hΓ (x_X0_isIn hE hX S τ1 R i 0 (σ 0 1042) (by first | assumption | omega) (by first | assumption | omega) (by first | assumption | omega)) rfl q387 q388 q123 q389 ndX0_isIn rfl (by decide) (by decide) (Nat.zero_le _) (Nat.zero_le _) rfl (Nat.le_of_ble_eq_true rfl) dX0_sample_26 rfl (fun v7 S7 τ7 ρ7 h7 => ?_)
    obtain ⟨rfl, S7e, τ7e, ρ7e⟩ := h7
    have S7e := S7e.symm; subst S7e
    have τ7e := τ7e.symm; subst τ7e
    have ρ7e := ρ7e.symm; subst ρ7e
    show gW Γ E (xM E S τ1 R) _ _ _ _ (.int (iI (if 0 ≤ i ∧ i ≤ (σ 0 1042) then 1 else 0)) :: _)
    refine g_ifB_eq (tgt := 58) hΓ  dX0_sample_29 (by decide) (fun c8 => ?_) (fun c8 => ?_)
    · refine g_iconst hΓ dX0_sample_58 ?_
      exact x_iret hΓ dX0_sample_59 (Nat.zero_le _) (Nat.zero_le _) ⟨ri (by rw [sp_sample]; first | (rw [if_pos ⟨by assumption, by omega, by omega, by omega⟩]; done) | (rw [if_neg (fun h9 => h9.1 (by assumption))]; done) | (rw [if_neg (by omega)])), h1.1, rfl, (fun q9 j9 hk9 => by exact (τ1f q9 j9 (fun e9 => hk9 ((show ∀ x ∈ [8003, 42, 43, 44], x ∈ [8003, 42, 43, 44] by decide) _ e9)))), rfl⟩
    · refine g_iload hΓ rfl dX0_sample_32 ?_
      refine g_i2l hΓ (by omega) dX0_sample_34 ?_
      refine g_lconst (a := 0) hΓ rfl dX0_sample_35 ?_
      refine g_lconst (a := 1) hΓ rfl dX0_sample_36 ?_
      refine x_callS (As := [.long (lI u), .long (lI 0), .long (lI 1)]) (rest := []) hΓ (x_X0_isIn hE hX S τ1 R u 0 1 (by first | assumption | omega) (by first | assumption | omega) (by first | assumption | omega)) rfl q387 q388 q123 q389 ndX0_isIn rfl (by decide) (by decide) (Nat.zero_le _) (Nat.zero_le _) rfl (Nat.le_of_ble_eq_true rfl) dX0_sample_37 rfl (fun v9 S9 τ9 ρ9 h9 => ?_)
      obtain ⟨rfl, S9e, τ9e, ρ9e⟩ := h9
      have S9e := S9e.symm; subst S9e
      have τ9e := τ9e.symm; subst τ9e
      have ρ9e := ρ9e.symm; subst ρ9e
      show gW Γ E (xM E S τ1 R) _ _ _ _ (.int (iI (if 0 ≤ u ∧ u ≤ 1 then 1 else 0)) :: _)
      refine g_ifB_eq (tgt := 58) hΓ  dX0_sample_40 (by decide) (fun c10 => ?_) (fun c10 => ?_)
      · refine g_iconst hΓ dX0_sample_58 ?_
        exact x_iret hΓ dX0_sample_59 (Nat.zero_le _) (Nat.zero_le _) ⟨ri (by rw [sp_sample]; first | (rw [if_pos ⟨by assumption, by omega, by omega, by omega⟩]; done) | (rw [if_neg (fun h9 => h9.1 (by assumption))]; done) | (rw [if_neg (by omega)])), h1.1, rfl, (fun q9 j9 hk9 => by exact (τ1f q9 j9 (fun e9 => hk9 ((show ∀ x ∈ [8003, 42, 43, 44], x ∈ [8003, 42, 43, 44] by decide) _ e9)))), rfl⟩
      · refine g_aload hΓ rfl dX0_sample_43 ?_
        refine x_getaN (r := some (rf R s2 4)) (c := 8) hE hΓ in_X8 rfl hsd2.1 ⟨by decide, rfl⟩ 4 (ji := 4) rfl (by decide) (by decide) rfl (xn_809 hX) rfl rfl hsf3.2.2.2.2.2.2.1 dX0_sample_45 ?_
        show gW Γ E (xM E S τ1 R) 0 0 _ _ (.ref (rf R s2 4) :: _)
        refine g_iconst hΓ dX0_sample_48 ?_
        refine g_iload_n hΓ rfl dX0_sample_49 ?_
        refine g_imul hΓ dX0_sample_50 ?_
        refine g_iload hΓ rfl dX0_sample_51 ?_
        refine g_iadd hΓ dX0_sample_53 ?_
        refine x_iald hΓ kd4 ln4 ⟨by decide, rfl⟩ (by omega) (by omega) dX0_sample_54 ?_
        refine g_topi ((hcc2.1 i u (by omega) (by omega) (by omega))) ?_
        refine g_goto (tgt := 59) hΓ dX0_sample_55 (by decide) ?_
        exact x_iret hΓ dX0_sample_59 (Nat.zero_le _) (Nat.zero_le _) ⟨ri (by rw [sp_sample]; first | (rw [if_pos ⟨by assumption, by omega, by omega, by omega⟩]; done) | (rw [if_neg (fun h9 => h9.1 (by assumption))]; done) | (rw [if_neg (by omega)])), h1.1, rfl, (fun q9 j9 hk9 => by exact (τ1f q9 j9 (fun e9 => hk9 ((show ∀ x ∈ [8003, 42, 43, 44], x ∈ [8003, 42, 43, 44] by decide) _ e9)))), rfl⟩
set_option maxHeartbeats 4000000 in
theorem x_X0_code {l : Launch} {E : gE} {X : State → Prop} {Z : Nat → Nat} {Y : Nat → Option Nat} (hE : E.2.1 = clsX) (hX : xOK l E X Z Y) (S : xS) (D : xD) (R : xR) (P : xPk) (σ : mS) (m k i : Int) (hx : Rx E Z S D R P σ) (hm : r32 m) (hk : r32 k) (hi : r32 i) : xC l E X yX0_code cX0_code 5 (some .int) 6 0 0 [.ref (P.1), .int (iI m), .int (iI k), .int (iI i)] S D R (fun rv S' D' R' => rv = some (.int (iI (sp_code σ m k i))) ∧ (Rx E Z S D' R P σ) ∧ S' = S ∧ fr S D D' [8003, 42, 43, 44] ∧ R' = R) := by
  refine xC.of hX.1 (by decide) [some (.ref (P.1)), some (.int (iI m)), some (.int (iI k)), some (.int (iI i)), none] (Nat.le_of_ble_eq_true rfl) rfl rfl (fun Γ hΓ => ?_)
  obtain ⟨hg, hp, hki, hro, hnw, hbh, hsa, hpd⟩ := id hx
  obtain ⟨N, NI, NM, NV, hN⟩ := (hx).now
  have hAw := hg.2.2.2.2.2.2
  have hG : GS S D R := hg.1
  obtain ⟨h1000, h1009, h1042, h1043, h1044, h1045, h1046, h1047, hms, hsi, hsm, hnm⟩ := id hro
  have eN := hN.2.2.2.2.2.2.2.2.2.2.2.2
  have kNV : (S NV).1 = 45 := by rw [hN.2.2.2.1.2]
  have nNV : (S NV).2.1 = 6 := by rw [hN.2.2.2.1.2]
  refine g_aload_n hΓ rfl dX0_code_0 ?_
  refine g_iload_n hΓ rfl dX0_code_1 ?_
  refine g_iload_n hΓ rfl dX0_code_2 ?_
  refine x_callV (As := [.int (iI m), .int (iI k)]) (rest := []) (c := 0) hE hΓ (x_X0_strokeOf hE hX S D R P σ m k hx (by first | assumption | omega) (by first | assumption | omega) ) hp.1 ⟨by decide, rfl⟩ rfl rfl q911 q913 qs25 q123 q914 ndX0_strokeOf rfl (by decide) (by decide) (Nat.zero_le _) (Nat.zero_le _) rfl (Nat.le_of_ble_eq_true rfl) dX0_code_3 rfl (fun v1 S1 τ1 ρ1 h1 => ?_)
  obtain ⟨rfl, h1, S1e, τ1f, ρ1e⟩ := h1
  have S1e := S1e.symm; subst S1e
  have ρ1e := ρ1e.symm; subst ρ1e
  show gW Γ E (xM E S τ1 R) _ _ _ _ (va_rf (if stO σ m k = -1 then none else some (lE R (lsA R (rf R P.1 4) m) k)) :: _)
  by_cases cs2 : stO σ m k = -1
  · rw [if_pos cs2]
    show gW Γ E (xM E S τ1 R) _ _ _ _ (.null :: _)
    refine g_astoreN hΓ dX0_code_6 rfl (Nat.le_of_ble_eq_true rfl) (lv' := [some (.ref (P.1)), some (.int (iI m)), some (.int (iI k)), some (.int (iI i)), some (.null)]) rfl ?_
    refine g_aloadN hΓ rfl dX0_code_8 ?_
    refine g_ifnullN (tgt := 44) hΓ dX0_code_10 (by decide) ?_
    refine g_iconst hΓ dX0_code_44 ?_
    exact x_iret hΓ dX0_code_45 (Nat.zero_le _) (Nat.zero_le _) ⟨ri (by rw [sp_code]; first | (rw [if_pos (Or.inl (by assumption))]; done) | (rw [if_pos (by omega)]; done) | (rw [if_neg (by omega)]; done) | (rw [if_neg (by omega)]; rfl)), h1.1, rfl, (fun q9 j9 hk9 => by exact (τ1f q9 j9 (fun e9 => hk9 ((show ∀ x ∈ [8003, 42, 43, 44], x ∈ [8003, 42, 43, 44] by decide) _ e9)))), rfl⟩
  · rw [if_neg cs2]
    obtain ⟨s2, es2⟩ : ∃ z : Nat, z = lE R (lsA R (rf R P.1 4) m) k := ⟨_, rfl⟩
    rw [← es2]
    show gW Γ E (xM E S τ1 R) _ _ _ _ (.ref s2 :: _)
    rcases stO_ok hro m k with h9 | ⟨hm2, hk02, hk12, hse2, hs02, hs402, hso2⟩
    · exact absurd h9 cs2
    have hsr2 := (h1.1).letter hm2
    have hsd2 := hsr2.1.2 k hk02 hk12
    rw [← hse2, ← es2] at hsd2
    have hca2 := h1.2 cs2
    rw [← es2] at hca2
    obtain ⟨hsf3, hsk3, hsp3, hsl3⟩ := id (((h1.1).1.1 s2 hsd2.1).1)
    have kd4 : (S (rf R s2 4)).1 = 42 := by rw [hsf3.2.2.2.2.2.2.2.1]
    have ln4 : (S (rf R s2 4)).2.1 = 34 := by rw [hsf3.2.2.2.2.2.2.2.1]
    have kd5 : (S (rf R s2 5)).1 = 43 := by rw [hsf3.2.2.2.2.2.2.2.2.2.1]
    have ln5 : (S (rf R s2 5)).2.1 = 16 := by rw [hsf3.2.2.2.2.2.2.2.2.2.1]
    have kd6 : (S (rf R s2 6)).1 = 44 := by rw [hsf3.2.2.2.2.2.2.2.2.2.2.2]
    have ln6 : (S (rf R s2 6)).2.1 = 16 := by rw [hsf3.2.2.2.2.2.2.2.2.2.2.2]
    have hsn3 := hsf3.2.2.1
    have hsm3 := hsf3.2.2.2.2.2.1
    have hs13 := hsk3.1
    have hs23 := hsk3.2.1
    have hsc2 := sk_cds (e := σ 0 1042) ((h1.1).1.1 s2 hsd2.1).1 hsd2
    have hsn2 := hsc2.1
    have hcc2 := hsc2.2.2 hca2
    refine g_astore hΓ dX0_code_6 rfl (Nat.le_of_ble_eq_true rfl) (lv' := [some (.ref (P.1)), some (.int (iI m)), some (.int (iI k)), some (.int (iI i)), some (.ref s2)]) rfl ?_
    refine g_aload hΓ rfl dX0_code_8 ?_
    refine g_ifnull hΓ dX0_code_10 ?_
    refine g_iload_n hΓ rfl dX0_code_13 ?_
    refine g_i2l hΓ (by omega) dX0_code_14 ?_
    refine g_lconst (a := 0) hΓ rfl dX0_code_15 ?_
    refine g_aload_n hΓ rfl dX0_code_16 ?_
    refine x_geta (r := some N) (c := 0) hE hΓ in_X0 rfl hp.1 ⟨by decide, rfl⟩ 4 (ji := 4) rfl (by decide) (by decide) rfl q250 rfl rfl hN.1.1 dX0_code_17 ?_
    show gW Γ E (xM E S τ1 R) 0 0 _ _ (.ref N :: _)
    refine x_geta (r := some NV) (c := 1) hE hΓ in_X1 rfl hN.1.2 ⟨by decide, rfl⟩ 2 (ji := 2) rfl (by decide) (by decide) rfl q203 rfl rfl hN.2.2.2.1.1 dX0_code_20 ?_
    show gW Γ E (xM E S τ1 R) 0 0 _ _ (.ref NV :: _)
    refine g_iconst hΓ dX0_code_23 ?_
    refine x_iald hΓ kNV nNV ⟨by decide, rfl⟩ (by omega) (by omega) dX0_code_24 ?_
    refine g_topi (((τ1f NV 0 (by rw [kNV, mdN _ (by decide)]; decide)).trans hN.2.2.2.2.2.2.1)) ?_
    refine g_iconst hΓ dX0_code_25 ?_
    refine g_isub hΓ dX0_code_26 ?_
    refine g_i2l hΓ (by omega) dX0_code_27 ?_
    refine x_callS (As := [.long (lI i), .long (lI 0), .long (lI ((σ 0 1042) - 1))]) (rest := []) hΓ (x_X0_isIn hE hX S τ1 R i 0 ((σ 0 1042) - 1) (by first | assumption | omega) (by first | assumption | omega) (by first | assumption | omega)) rfl q387 q388 q123 q389 ndX0_isIn rfl (by decide) (by decide) (Nat.zero_le _) (Nat.zero_le _) rfl (Nat.le_of_ble_eq_true rfl) dX0_code_28 rfl (fun v7 S7 τ7 ρ7 h7 => ?_)
    obtain ⟨rfl, S7e, τ7e, ρ7e⟩ := h7
    have S7e := S7e.symm; subst S7e
    have τ7e := τ7e.symm; subst τ7e
    have ρ7e := ρ7e.symm; subst ρ7e
    show gW Γ E (xM E S τ1 R) _ _ _ _ (.int (iI (if 0 ≤ i ∧ i ≤ ((σ 0 1042) - 1) then 1 else 0)) :: _)
    refine g_ifB_eq (tgt := 44) hΓ  dX0_code_31 (by decide) (fun c8 => ?_) (fun c8 => ?_)
    · refine g_iconst hΓ dX0_code_44 ?_
      exact x_iret hΓ dX0_code_45 (Nat.zero_le _) (Nat.zero_le _) ⟨ri (by rw [sp_code]; first | (rw [if_pos (Or.inl (by assumption))]; done) | (rw [if_pos (by omega)]; done) | (rw [if_neg (by omega)]; done) | (rw [if_neg (by omega)]; rfl)), h1.1, rfl, (fun q9 j9 hk9 => by exact (τ1f q9 j9 (fun e9 => hk9 ((show ∀ x ∈ [8003, 42, 43, 44], x ∈ [8003, 42, 43, 44] by decide) _ e9)))), rfl⟩
    · refine g_aload hΓ rfl dX0_code_34 ?_
      refine x_getaN (r := some (rf R s2 5)) (c := 8) hE hΓ in_X8 rfl hsd2.1 ⟨by decide, rfl⟩ 5 (ji := 5) rfl (by decide) (by decide) rfl (xn_811 hX) rfl rfl hsf3.2.2.2.2.2.2.2.2.1 dX0_code_36 ?_
      show gW Γ E (xM E S τ1 R) 0 0 _ _ (.ref (rf R s2 5) :: _)
      refine g_iload_n hΓ rfl dX0_code_39 ?_
      refine x_iald hΓ kd5 ln5 ⟨by decide, rfl⟩ (by omega) (by omega) dX0_code_40 ?_
      refine g_topi ((hcc2.2.1 i (by omega) (by omega))) ?_
      refine g_goto (tgt := 45) hΓ dX0_code_41 (by decide) ?_
      exact x_iret hΓ dX0_code_45 (Nat.zero_le _) (Nat.zero_le _) ⟨ri (by rw [sp_code]; first | (rw [if_pos (Or.inl (by assumption))]; done) | (rw [if_pos (by omega)]; done) | (rw [if_neg (by omega)]; done) | (rw [if_neg (by omega)]; rfl)), h1.1, rfl, (fun q9 j9 hk9 => by exact (τ1f q9 j9 (fun e9 => hk9 ((show ∀ x ∈ [8003, 42, 43, 44], x ∈ [8003, 42, 43, 44] by decide) _ e9)))), rfl⟩
set_option maxHeartbeats 4000000 in
theorem x_X0_bends {l : Launch} {E : gE} {X : State → Prop} {Z : Nat → Nat} {Y : Nat → Option Nat} (hE : E.2.1 = clsX) (hX : xOK l E X Z Y) (S : xS) (D : xD) (R : xR) (P : xPk) (σ : mS) (m k : Int) (hx : Rx E Z S D R P σ) (hm : r32 m) (hk : r32 k) : xC l E X yX0_bends cX0_bends 4 (some .int) 6 0 0 [.ref (P.1), .int (iI m), .int (iI k)] S D R (fun rv S' D' R' => rv = some (.int (iI (sp_bends σ m k))) ∧ (Rx E Z S D' R P σ) ∧ S' = S ∧ fr S D D' [8003, 42, 43, 44] ∧ R' = R) := by
  refine xC.of hX.1 (by decide) [some (.ref (P.1)), some (.int (iI m)), some (.int (iI k)), none] (Nat.le_of_ble_eq_true rfl) rfl rfl (fun Γ hΓ => ?_)
  obtain ⟨hg, hp, hki, hro, hnw, hbh, hsa, hpd⟩ := id hx
  obtain ⟨N, NI, NM, NV, hN⟩ := (hx).now
  have hAw := hg.2.2.2.2.2.2
  have hG : GS S D R := hg.1
  obtain ⟨h1000, h1009, h1042, h1043, h1044, h1045, h1046, h1047, hms, hsi, hsm, hnm⟩ := id hro
  have eN := hN.2.2.2.2.2.2.2.2.2.2.2.2
  have kNV : (S NV).1 = 45 := by rw [hN.2.2.2.1.2]
  have nNV : (S NV).2.1 = 6 := by rw [hN.2.2.2.1.2]
  refine g_aload_n hΓ rfl dX0_bends_0 ?_
  refine g_iload_n hΓ rfl dX0_bends_1 ?_
  refine g_iload_n hΓ rfl dX0_bends_2 ?_
  refine x_callV (As := [.int (iI m), .int (iI k)]) (rest := []) (c := 0) hE hΓ (x_X0_strokeOf hE hX S D R P σ m k hx (by first | assumption | omega) (by first | assumption | omega) ) hp.1 ⟨by decide, rfl⟩ rfl rfl q911 q913 qs25 q123 q914 ndX0_strokeOf rfl (by decide) (by decide) (Nat.zero_le _) (Nat.zero_le _) rfl (Nat.le_of_ble_eq_true rfl) dX0_bends_3 rfl (fun v1 S1 τ1 ρ1 h1 => ?_)
  obtain ⟨rfl, h1, S1e, τ1f, ρ1e⟩ := h1
  have S1e := S1e.symm; subst S1e
  have ρ1e := ρ1e.symm; subst ρ1e
  show gW Γ E (xM E S τ1 R) _ _ _ _ (va_rf (if stO σ m k = -1 then none else some (lE R (lsA R (rf R P.1 4) m) k)) :: _)
  by_cases cs2 : stO σ m k = -1
  · rw [if_pos cs2]
    show gW Γ E (xM E S τ1 R) _ _ _ _ (.null :: _)
    refine g_astore_nN hΓ dX0_bends_6 rfl (Nat.le_of_ble_eq_true rfl) (lv' := [some (.ref (P.1)), some (.int (iI m)), some (.int (iI k)), some (.null)]) rfl ?_
    refine g_aload_nN hΓ rfl dX0_bends_7 ?_
    refine g_ifnonnullN hΓ dX0_bends_8 ?_
    refine g_iconst hΓ dX0_bends_11 ?_
    refine g_goto (tgt := 28) hΓ dX0_bends_12 (by decide) ?_
    exact x_iret hΓ dX0_bends_28 (Nat.zero_le _) (Nat.zero_le _) ⟨ri (by rw [sp_bends, if_pos (by assumption)]), h1.1, rfl, (fun q9 j9 hk9 => by exact (τ1f q9 j9 (fun e9 => hk9 ((show ∀ x ∈ [8003, 42, 43, 44], x ∈ [8003, 42, 43, 44] by decide) _ e9)))), rfl⟩
  · rw [if_neg cs2]
    obtain ⟨s2, es2⟩ : ∃ z : Nat, z = lE R (lsA R (rf R P.1 4) m) k := ⟨_, rfl⟩
    rw [← es2]
    show gW Γ E (xM E S τ1 R) _ _ _ _ (.ref s2 :: _)
    rcases stO_ok hro m k with h9 | ⟨hm2, hk02, hk12, hse2, hs02, hs402, hso2⟩
    · exact absurd h9 cs2
    have hsr2 := (h1.1).letter hm2
    have hsd2 := hsr2.1.2 k hk02 hk12
    rw [← hse2, ← es2] at hsd2
    have hca2 := h1.2 cs2
    rw [← es2] at hca2
    obtain ⟨hsf3, hsk3, hsp3, hsl3⟩ := id (((h1.1).1.1 s2 hsd2.1).1)
    have kd4 : (S (rf R s2 4)).1 = 42 := by rw [hsf3.2.2.2.2.2.2.2.1]
    have ln4 : (S (rf R s2 4)).2.1 = 34 := by rw [hsf3.2.2.2.2.2.2.2.1]
    have kd5 : (S (rf R s2 5)).1 = 43 := by rw [hsf3.2.2.2.2.2.2.2.2.2.1]
    have ln5 : (S (rf R s2 5)).2.1 = 16 := by rw [hsf3.2.2.2.2.2.2.2.2.2.1]
    have kd6 : (S (rf R s2 6)).1 = 44 := by rw [hsf3.2.2.2.2.2.2.2.2.2.2.2]
    have ln6 : (S (rf R s2 6)).2.1 = 16 := by rw [hsf3.2.2.2.2.2.2.2.2.2.2.2]
    have hsn3 := hsf3.2.2.1
    have hsm3 := hsf3.2.2.2.2.2.1
    have hs13 := hsk3.1
    have hs23 := hsk3.2.1
    have hsc2 := sk_cds (e := σ 0 1042) ((h1.1).1.1 s2 hsd2.1).1 hsd2
    have hsn2 := hsc2.1
    have hcc2 := hsc2.2.2 hca2
    refine g_astore_n hΓ dX0_bends_6 rfl (Nat.le_of_ble_eq_true rfl) (lv' := [some (.ref (P.1)), some (.int (iI m)), some (.int (iI k)), some (.ref s2)]) rfl ?_
    refine g_aload_n hΓ rfl dX0_bends_7 ?_
    refine g_ifnonnull (tgt := 15) hΓ dX0_bends_8 (by decide) ?_
    refine g_aload_n hΓ rfl dX0_bends_15 ?_
    refine g_aload_n hΓ rfl dX0_bends_16 ?_
    refine x_geta (r := some N) (c := 0) hE hΓ in_X0 rfl hp.1 ⟨by decide, rfl⟩ 4 (ji := 4) rfl (by decide) (by decide) rfl q250 rfl rfl hN.1.1 dX0_bends_17 ?_
    show gW Γ E (xM E S τ1 R) 0 0 _ _ (.ref N :: _)
    refine x_geta (r := some NV) (c := 1) hE hΓ in_X1 rfl hN.1.2 ⟨by decide, rfl⟩ 2 (ji := 2) rfl (by decide) (by decide) rfl q203 rfl rfl hN.2.2.2.1.1 dX0_bends_20 ?_
    show gW Γ E (xM E S τ1 R) 0 0 _ _ (.ref NV :: _)
    refine g_iconst hΓ dX0_bends_23 ?_
    refine x_iald hΓ kNV nNV ⟨by decide, rfl⟩ (by omega) (by omega) dX0_bends_24 ?_
    refine g_topi (((τ1f NV 0 (by rw [kNV, mdN _ (by decide)]; decide)).trans hN.2.2.2.2.2.2.1)) ?_
    refine x_callV (As := [.int (iI (σ 0 1042))]) (rest := []) (c := 8) hE hΓ (x_X8_turns hE hX S τ1 R s2 (σ 0 1042) hsd2.1 ((h1.1).1.1) (by omega) hAw ) hsd2.1 ⟨by decide, rfl⟩ rfl rfl q980 q981 q982 q144 q983 ndX8_turns rfl (by decide) (by decide) (Nat.zero_le _) (Nat.zero_le _) rfl (Nat.le_of_ble_eq_true rfl) dX0_bends_25 rfl (fun v7 S7 τ7 ρ7 h7 => ?_)
    obtain ⟨rfl, h7, S7e, τ7f, ρ7e⟩ := h7
    have S7e := S7e.symm; subst S7e
    have ρ7e := ρ7e.symm; subst ρ7e
    show gW Γ E (xM E S τ7 R) _ _ _ _ (.int (iI (bndF (cdk (strN S R s2) (τ1 (rf R s2 0)) (σ 0 1042)) ((σ 0 1042) - 1).toNat)) :: _)
    exact x_iret hΓ dX0_bends_28 (Nat.zero_le _) (Nat.zero_le _) ⟨ri (by rw [sp_bends, if_neg (by assumption), hsn2]; exact bndF_congr (fun k9 a9 b9 => cdk_congr (by have h9 := ((h1.1).1.1 s2 hsd2.1).1.2.1; rw [hsn2] at h9; exact h9) hsd2.2.2 h1042 ⟨a9, b9⟩) _ (by omega)), (Rx_scr h1.1 (fr_w τ7f (by decide)) fr_rfl h7), rfl, (fun q9 j9 hk9 => by exact ((τ7f q9 j9 (fun e9 => hk9 ((show ∀ x ∈ [8003, 42, 43, 44], x ∈ [8003, 42, 43, 44] by decide) _ e9))).trans (τ1f q9 j9 (fun e9 => hk9 ((show ∀ x ∈ [8003, 42, 43, 44], x ∈ [8003, 42, 43, 44] by decide) _ e9))))), rfl⟩
set_option maxHeartbeats 4000000 in
theorem x_X0_corner {l : Launch} {E : gE} {X : State → Prop} {Z : Nat → Nat} {Y : Nat → Option Nat} (hE : E.2.1 = clsX) (hX : xOK l E X Z Y) (S : xS) (D : xD) (R : xR) (P : xPk) (σ : mS) (m k i : Int) (hx : Rx E Z S D R P σ) (hm : r32 m) (hk : r32 k) (hi : r32 i) : xC l E X yX0_corner cX0_corner 7 (some .int) 6 0 0 [.ref (P.1), .int (iI m), .int (iI k), .int (iI i)] S D R (fun rv S' D' R' => rv = some (.int (iI (sp_corner σ m k i))) ∧ (Rx E Z S D' R P σ) ∧ S' = S ∧ fr S D D' [8003, 42, 43, 44] ∧ R' = R) := by
  refine xC.of hX.1 (by decide) [some (.ref (P.1)), some (.int (iI m)), some (.int (iI k)), some (.int (iI i)), none, none, none] (Nat.le_of_ble_eq_true rfl) rfl rfl (fun Γ hΓ => ?_)
  obtain ⟨hg, hp, hki, hro, hnw, hbh, hsa, hpd⟩ := id hx
  obtain ⟨N, NI, NM, NV, hN⟩ := (hx).now
  have hAw := hg.2.2.2.2.2.2
  have hG : GS S D R := hg.1
  obtain ⟨h1000, h1009, h1042, h1043, h1044, h1045, h1046, h1047, hms, hsi, hsm, hnm⟩ := id hro
  have eN := hN.2.2.2.2.2.2.2.2.2.2.2.2
  have kNV : (S NV).1 = 45 := by rw [hN.2.2.2.1.2]
  have nNV : (S NV).2.1 = 6 := by rw [hN.2.2.2.1.2]
  refine g_aload_n hΓ rfl dX0_corner_0 ?_
  refine g_iload_n hΓ rfl dX0_corner_1 ?_
  refine g_iload_n hΓ rfl dX0_corner_2 ?_
  refine x_callV (As := [.int (iI m), .int (iI k)]) (rest := []) (c := 0) hE hΓ (x_X0_strokeOf hE hX S D R P σ m k hx (by first | assumption | omega) (by first | assumption | omega) ) hp.1 ⟨by decide, rfl⟩ rfl rfl q911 q913 qs25 q123 q914 ndX0_strokeOf rfl (by decide) (by decide) (Nat.zero_le _) (Nat.zero_le _) rfl (Nat.le_of_ble_eq_true rfl) dX0_corner_3 rfl (fun v1 S1 τ1 ρ1 h1 => ?_)
  obtain ⟨rfl, h1, S1e, τ1f, ρ1e⟩ := h1
  have S1e := S1e.symm; subst S1e
  have ρ1e := ρ1e.symm; subst ρ1e
  show gW Γ E (xM E S τ1 R) _ _ _ _ (va_rf (if stO σ m k = -1 then none else some (lE R (lsA R (rf R P.1 4) m) k)) :: _)
  by_cases cs2 : stO σ m k = -1
  · rw [if_pos cs2]
    show gW Γ E (xM E S τ1 R) _ _ _ _ (.null :: _)
    refine g_astoreN hΓ dX0_corner_6 rfl (Nat.le_of_ble_eq_true rfl) (lv' := [some (.ref (P.1)), some (.int (iI m)), some (.int (iI k)), some (.int (iI i)), some (.null), none, none]) rfl ?_
    refine g_aloadN hΓ rfl dX0_corner_8 ?_
    refine g_ifnullN (tgt := 18) hΓ dX0_corner_10 (by decide) ?_
    refine g_iconst hΓ dX0_corner_18 ?_
    exact x_iret hΓ dX0_corner_19 (Nat.zero_le _) (Nat.zero_le _) ⟨ri (by rw [sp_corner]; first | (rw [if_pos (Or.inl (by assumption))]; done) | (rw [if_pos (by omega)])), h1.1, rfl, (fun q9 j9 hk9 => by exact (τ1f q9 j9 (fun e9 => hk9 ((show ∀ x ∈ [8003, 42, 43, 44], x ∈ [8003, 42, 43, 44] by decide) _ e9)))), rfl⟩
  · rw [if_neg cs2]
    obtain ⟨s2, es2⟩ : ∃ z : Nat, z = lE R (lsA R (rf R P.1 4) m) k := ⟨_, rfl⟩
    rw [← es2]
    show gW Γ E (xM E S τ1 R) _ _ _ _ (.ref s2 :: _)
    rcases stO_ok hro m k with h9 | ⟨hm2, hk02, hk12, hse2, hs02, hs402, hso2⟩
    · exact absurd h9 cs2
    have hsr2 := (h1.1).letter hm2
    have hsd2 := hsr2.1.2 k hk02 hk12
    rw [← hse2, ← es2] at hsd2
    have hca2 := h1.2 cs2
    rw [← es2] at hca2
    obtain ⟨hsf3, hsk3, hsp3, hsl3⟩ := id (((h1.1).1.1 s2 hsd2.1).1)
    have kd4 : (S (rf R s2 4)).1 = 42 := by rw [hsf3.2.2.2.2.2.2.2.1]
    have ln4 : (S (rf R s2 4)).2.1 = 34 := by rw [hsf3.2.2.2.2.2.2.2.1]
    have kd5 : (S (rf R s2 5)).1 = 43 := by rw [hsf3.2.2.2.2.2.2.2.2.2.1]
    have ln5 : (S (rf R s2 5)).2.1 = 16 := by rw [hsf3.2.2.2.2.2.2.2.2.2.1]
    have kd6 : (S (rf R s2 6)).1 = 44 := by rw [hsf3.2.2.2.2.2.2.2.2.2.2.2]
    have ln6 : (S (rf R s2 6)).2.1 = 16 := by rw [hsf3.2.2.2.2.2.2.2.2.2.2.2]
    have hsn3 := hsf3.2.2.1
    have hsm3 := hsf3.2.2.2.2.2.1
    have hs13 := hsk3.1
    have hs23 := hsk3.2.1
    have hsc2 := sk_cds (e := σ 0 1042) ((h1.1).1.1 s2 hsd2.1).1 hsd2
    have hsn2 := hsc2.1
    have hcc2 := hsc2.2.2 hca2
    refine g_astore hΓ dX0_corner_6 rfl (Nat.le_of_ble_eq_true rfl) (lv' := [some (.ref (P.1)), some (.int (iI m)), some (.int (iI k)), some (.int (iI i)), some (.ref s2), none, none]) rfl ?_
    refine g_aload hΓ rfl dX0_corner_8 ?_
    refine g_ifnull hΓ dX0_corner_10 ?_
    refine g_iload_n hΓ rfl dX0_corner_13 ?_
    refine g_iconst hΓ dX0_corner_14 ?_
    refine g_icmp_ge (tgt := 20) hΓ (by omega) (by omega) dX0_corner_15 (by decide) (fun c7 => ?_) (fun c7 => ?_)
    · have hcd := fun k (a : 0 ≤ k) (b : k < σ 0 1042) => hcc2.2.1 k a b
      have loop : ∀ (fu : Nat) (q : Int) (j : Int), (σ 0 1042 - j).toNat < fu → (1 ≤ j ∧ j ≤ σ 0 1042 ∧ 0 ≤ q ∧ q ≤ j) → (sp_corner σ m k i = crnF (cds σ (stO σ m k)) i (σ 0 1042 - j).toNat j q) → gW Γ E (xM E S τ1 R) 0 0 26 [some (.ref (P.1)), some (.int (iI m)), some (.int (iI k)), some (.int (iI i)), some (.ref s2), some (.int (iI q)), some (.int (iI j))] [] := by
        intro fu
        induction fu with
        | zero => intro q j hn; exact absurd hn (Nat.not_lt_zero _)
        | succ fu ih_loop =>
          intro q j hn hj hres
          refine g_iload hΓ rfl dX0_corner_26 ?_
          refine g_aload_n hΓ rfl dX0_corner_28 ?_
          refine x_geta (r := some N) (c := 0) hE hΓ in_X0 rfl hp.1 ⟨by decide, rfl⟩ 4 (ji := 4) rfl (by decide) (by decide) rfl q250 rfl rfl hN.1.1 dX0_corner_29 ?_
          show gW Γ E (xM E S τ1 R) 0 0 _ _ (.ref N :: _)
          refine x_geta (r := some NV) (c := 1) hE hΓ in_X1 rfl hN.1.2 ⟨by decide, rfl⟩ 2 (ji := 2) rfl (by decide) (by decide) rfl q203 rfl rfl hN.2.2.2.1.1 dX0_corner_32 ?_
          show gW Γ E (xM E S τ1 R) 0 0 _ _ (.ref NV :: _)
          refine g_iconst hΓ dX0_corner_35 ?_
          refine x_iald hΓ kNV nNV ⟨by decide, rfl⟩ (by omega) (by omega) dX0_corner_36 ?_
          refine g_topi (((τ1f NV 0 (by rw [kNV, mdN _ (by decide)]; decide)).trans hN.2.2.2.2.2.2.1)) ?_
          refine g_icmp_ge (tgt := 86) hΓ (by omega) (by omega) dX0_corner_37 (by decide) (fun c8 => ?_) (fun c8 => ?_)
          · refine g_iload_n hΓ rfl dX0_corner_86 ?_
            refine g_iconst hΓ dX0_corner_87 ?_
            refine g_icmp_ne (tgt := 96) hΓ (by omega) (by omega) dX0_corner_88 (by decide) (fun c9 => ?_) (fun c9 => ?_)
            · refine g_iconst hΓ dX0_corner_96 ?_
              exact x_iret hΓ dX0_corner_97 (Nat.zero_le _) (Nat.zero_le _) ⟨ri (by rw [hres]; first | (rw [show (σ 0 1042 - j).toNat = (σ 0 1042 - j - 1).toNat + 1 by omega, crnF, if_neg (by omega), if_pos (by omega)]; done) | (rw [show (σ 0 1042 - j).toNat = 0 by omega, crnF]; first | (rw [if_pos (by omega)]; done) | (rw [if_neg (by omega)]; done))), h1.1, rfl, (fun q9 j9 hk9 => by exact (τ1f q9 j9 (fun e9 => hk9 ((show ∀ x ∈ [8003, 42, 43, 44], x ∈ [8003, 42, 43, 44] by decide) _ e9)))), rfl⟩
            · refine g_iload hΓ rfl dX0_corner_91 ?_
              refine g_goto (tgt := 97) hΓ dX0_corner_93 (by decide) ?_
              exact x_iret hΓ dX0_corner_97 (Nat.zero_le _) (Nat.zero_le _) ⟨ri (by rw [hres]; first | (rw [show (σ 0 1042 - j).toNat = (σ 0 1042 - j - 1).toNat + 1 by omega, crnF, if_neg (by omega), if_pos (by omega)]; done) | (rw [show (σ 0 1042 - j).toNat = 0 by omega, crnF]; first | (rw [if_pos (by omega)]; done) | (rw [if_neg (by omega)]; done))), h1.1, rfl, (fun q9 j9 hk9 => by exact (τ1f q9 j9 (fun e9 => hk9 ((show ∀ x ∈ [8003, 42, 43, 44], x ∈ [8003, 42, 43, 44] by decide) _ e9)))), rfl⟩
          · refine g_aload hΓ rfl dX0_corner_40 ?_
            refine x_getaN (r := some (rf R s2 5)) (c := 8) hE hΓ in_X8 rfl hsd2.1 ⟨by decide, rfl⟩ 5 (ji := 5) rfl (by decide) (by decide) rfl (xn_811 hX) rfl rfl hsf3.2.2.2.2.2.2.2.2.1 dX0_corner_42 ?_
            show gW Γ E (xM E S τ1 R) 0 0 _ _ (.ref (rf R s2 5) :: _)
            refine g_iload hΓ rfl dX0_corner_45 ?_
            refine g_iconst hΓ dX0_corner_47 ?_
            refine g_isub hΓ dX0_corner_48 ?_
            refine x_iald hΓ kd5 ln5 ⟨by decide, rfl⟩ (by omega) (by omega) dX0_corner_49 ?_
            refine g_topi ((hcd (j - 1) (by omega) (by omega))) ?_
            refine g_aload hΓ rfl dX0_corner_50 ?_
            refine x_getaN (r := some (rf R s2 5)) (c := 8) hE hΓ in_X8 rfl hsd2.1 ⟨by decide, rfl⟩ 5 (ji := 5) rfl (by decide) (by decide) rfl (xn_811 hX) rfl rfl hsf3.2.2.2.2.2.2.2.2.1 dX0_corner_52 ?_
            show gW Γ E (xM E S τ1 R) 0 0 _ _ (.ref (rf R s2 5) :: _)
            refine g_iload hΓ rfl dX0_corner_55 ?_
            refine x_iald hΓ kd5 ln5 ⟨by decide, rfl⟩ (by omega) (by omega) dX0_corner_57 ?_
            refine g_topi ((hcd (j) (by omega) (by omega))) ?_
            have hc1 := hcd (j - 1) (by omega) (by omega)
            have hc2 := hcd j (by omega) (by omega)
            have hr1 := cds_r σ (stO σ m k) (j - 1)
            have hr2 := cds_r σ (stO σ m k) j
            have hr3 := apt_r hr1 hr2
            refine x_callS (As := [.int (iI (cds σ (stO σ m k) (j - 1))), .int (iI (cds σ (stO σ m k) (j)))]) (rest := []) hΓ (x_X0_apart hE hX S τ1 R (cds σ (stO σ m k) (j - 1)) (cds σ (stO σ m k) (j)) (by first | assumption | omega) (by first | assumption | omega)) rfl q216 q217 q123 q218 ndX0_apart rfl (by decide) (by decide) (Nat.zero_le _) (Nat.zero_le _) rfl (Nat.le_of_ble_eq_true rfl) dX0_corner_58 rfl (fun v10 S10 τ10 ρ10 h10 => ?_)
            obtain ⟨rfl, S10e, τ10e, ρ10e⟩ := h10
            have S10e := S10e.symm; subst S10e
            have τ10e := τ10e.symm; subst τ10e
            have ρ10e := ρ10e.symm; subst ρ10e
            show gW Γ E (xM E S τ1 R) _ _ _ _ (.int (iI (apt (cds σ (stO σ m k) (j - 1)) (cds σ (stO σ m k) (j)))) :: _)
            refine g_iconst hΓ dX0_corner_61 ?_
            refine g_icmp_ge (tgt := 68) hΓ (by omega) (by omega) dX0_corner_62 (by decide) (fun c11 => ?_) (fun c11 => ?_)
            · refine g_iload hΓ rfl dX0_corner_68 ?_
              refine g_iload_n hΓ rfl dX0_corner_70 ?_
              refine g_icmp_ne (tgt := 77) hΓ (by omega) (by omega) dX0_corner_71 (by decide) (fun c12 => ?_) (fun c12 => ?_)
              · obtain ⟨x13, ex13⟩ : ∃ z9 : Int, z9 = q + 1 := ⟨_, rfl⟩
                refine g_iinc hΓ dX0_corner_77 rfl rfl (lv' := [some (.ref (P.1)), some (.int (iI m)), some (.int (iI k)), some (.int (iI i)), some (.ref s2), some (.int (iI x13)), some (.int (iI j))]) (by rw [ex13]; rfl) ?_
                obtain ⟨x14, ex14⟩ : ∃ z9 : Int, z9 = j + 1 := ⟨_, rfl⟩
                refine g_iinc hΓ dX0_corner_80 rfl rfl (lv' := [some (.ref (P.1)), some (.int (iI m)), some (.int (iI k)), some (.int (iI i)), some (.ref s2), some (.int (iI x13)), some (.int (iI x14))]) (by rw [ex14]; rfl) ?_
                refine g_goto (tgt := 26) hΓ dX0_corner_83 (by decide) ?_
                exact ih_loop x13 x14 (by omega) (by omega) (by rw [hres, show (σ 0 1042 - j).toNat = (σ 0 1042 - x14).toNat + 1 by omega, crnF, show j + 1 = x14 by omega]; first | (rw [if_pos (by omega)]; done) | (rw [if_neg (by omega), if_neg (by omega), show q + 1 = x13 by omega]))
              · refine g_iload hΓ rfl dX0_corner_74 ?_
                exact x_iret hΓ dX0_corner_76 (Nat.zero_le _) (Nat.zero_le _) ⟨ri (by rw [hres]; first | (rw [show (σ 0 1042 - j).toNat = (σ 0 1042 - j - 1).toNat + 1 by omega, crnF, if_neg (by omega), if_pos (by omega)]; done) | (rw [show (σ 0 1042 - j).toNat = 0 by omega, crnF]; first | (rw [if_pos (by omega)]; done) | (rw [if_neg (by omega)]; done))), h1.1, rfl, (fun q9 j9 hk9 => by exact (τ1f q9 j9 (fun e9 => hk9 ((show ∀ x ∈ [8003, 42, 43, 44], x ∈ [8003, 42, 43, 44] by decide) _ e9)))), rfl⟩
            · refine g_goto (tgt := 80) hΓ dX0_corner_65 (by decide) ?_
              obtain ⟨x15, ex15⟩ : ∃ z9 : Int, z9 = j + 1 := ⟨_, rfl⟩
              refine g_iinc hΓ dX0_corner_80 rfl rfl (lv' := [some (.ref (P.1)), some (.int (iI m)), some (.int (iI k)), some (.int (iI i)), some (.ref s2), some (.int (iI q)), some (.int (iI x15))]) (by rw [ex15]; rfl) ?_
              refine g_goto (tgt := 26) hΓ dX0_corner_83 (by decide) ?_
              exact ih_loop q x15 (by omega) (by omega) (by rw [hres, show (σ 0 1042 - j).toNat = (σ 0 1042 - x15).toNat + 1 by omega, crnF, show j + 1 = x15 by omega]; first | (rw [if_pos (by omega)]; done) | (rw [if_neg (by omega), if_neg (by omega), show q + 1 = q by omega]))
      refine g_iconst hΓ dX0_corner_20 ?_
      refine g_istore hΓ dX0_corner_21 rfl (Nat.le_of_ble_eq_true rfl) (lv' := [some (.ref (P.1)), some (.int (iI m)), some (.int (iI k)), some (.int (iI i)), some (.ref s2), some (.int (iI 0)), none]) rfl ?_
      refine g_iconst hΓ dX0_corner_23 ?_
      refine g_istore hΓ dX0_corner_24 rfl (Nat.le_of_ble_eq_true rfl) (lv' := [some (.ref (P.1)), some (.int (iI m)), some (.int (iI k)), some (.int (iI i)), some (.ref s2), some (.int (iI 0)), some (.int (iI 1))]) rfl ?_
      exact loop 17 0 1 (by omega) (by omega) (by rw [sp_corner, if_neg (by omega)])
    · refine g_iconst hΓ dX0_corner_18 ?_
      exact x_iret hΓ dX0_corner_19 (Nat.zero_le _) (Nat.zero_le _) ⟨ri (by rw [sp_corner]; first | (rw [if_pos (Or.inl (by assumption))]; done) | (rw [if_pos (by omega)])), h1.1, rfl, (fun q9 j9 hk9 => by exact (τ1f q9 j9 (fun e9 => hk9 ((show ∀ x ∈ [8003, 42, 43, 44], x ∈ [8003, 42, 43, 44] by decide) _ e9)))), rfl⟩
