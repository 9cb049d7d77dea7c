set_option maxRecDepth 100000
set_option maxHeartbeats 4000000 in
theorem x_X0_elastic {l : Launch} {E : gE} {X : State → Prop} {Z : Nat → Nat} {Y : Nat → Option Nat} (hE : E.2.1 = clsX) (hX : xOK l E X Z Y) (hL : xLam l E X (Z 20) (Z 21)) (S : xS) (D : xD) (R : xR) (P : xPk) (σ : mS) (a b k : Int) (hx : Rx E Z S D R P σ) (ha : r32 a) (hb : r32 b) (hk : k = 0 ∨ k = 1) : xC l E X yX0_elastic cX0_elastic 6 (some .int) 7 0 0 [.ref (P.1), .int (iI a), .int (iI b), .int (iI k)] S D R (fun rv S' D' R' => rv = some (.int (iI (sp_elastic σ a b k))) ∧ (Rx E Z S D' R' P σ) ∧ S' = S ∧ fr S D D' [8003, 42, 43, 44, 112] ∧ fr S R R' [1009, 1010]) := by
  refine xC.of hX.1 (by decide) [some (.ref (P.1)), some (.int (iI a)), some (.int (iI b)), some (.int (iI k)), none, none] (Nat.le_of_ble_eq_true rfl) rfl rfl (fun Γ hΓ => ?_)
  obtain ⟨hg, hp, hki, hro, hnw, hbh, hsa, hpd⟩ := id hx
  obtain ⟨N, NI, NM, NV, hN⟩ := (hx).now
  have hAw := hg.2.2.2.2.2.2
  have hG : GS S D R := hg.1
  obtain ⟨h1000, h1009, h1042, h1043, h1044, h1045, h1046, h1047, hms, hsi, hsm, hnm⟩ := id hro
  have eN := hN.2.2.2.2.2.2.2.2.2.2.2.2
  have kNV : (S NV).1 = 45 := by rw [hN.2.2.2.1.2]
  have nNV : (S NV).2.1 = 6 := by rw [hN.2.2.2.1.2]
  refine g_aload_n hΓ rfl dX0_elastic_0 ?_
  refine g_iload_n hΓ rfl dX0_elastic_1 ?_
  refine x_callV (As := [.int (iI a)]) (rest := []) (c := 0) hE hΓ (x_X0_told hE hX S D R P σ a hx (by first | assumption | omega) ) hp.1 ⟨by decide, rfl⟩ rfl rfl q990 q992 qs28 q123 q993 ndX0_told rfl (by decide) (by decide) (Nat.zero_le _) (Nat.zero_le _) rfl (Nat.le_of_ble_eq_true rfl) dX0_elastic_2 rfl (fun v1 S1 τ1 ρ1 h1 => ?_)
  obtain ⟨rfl, h1, S1e, τ1f, ρ1e⟩ := h1
  have S1e := S1e.symm; subst S1e
  have ρ1e := ρ1e.symm; subst ρ1e
  show gW Γ E (xM E S τ1 R) _ _ _ _ (va_rf (if tol σ a = -1 then none else some (tolA R (rf R P.1 4) a)) :: _)
  by_cases ct2 : tol σ a = -1
  · rw [if_pos ct2]
    show gW Γ E (xM E S τ1 R) _ _ _ _ (.null :: _)
    refine g_astoreN hΓ dX0_elastic_5 rfl (Nat.le_of_ble_eq_true rfl) (lv' := [some (.ref (P.1)), some (.int (iI a)), some (.int (iI b)), some (.int (iI k)), some (.null), none]) rfl ?_
    refine g_aload_n hΓ rfl dX0_elastic_7 ?_
    refine g_iload_n hΓ rfl dX0_elastic_8 ?_
    refine x_callV (As := [.int (iI b)]) (rest := []) (c := 0) hE hΓ (x_X0_told hE hX S τ1 R P σ b h1.1 (by first | assumption | omega) ) hp.1 ⟨by decide, rfl⟩ rfl rfl q990 q992 qs28 q123 q993 ndX0_told rfl (by decide) (by decide) (Nat.zero_le _) (Nat.zero_le _) rfl (Nat.le_of_ble_eq_true rfl) dX0_elastic_9 rfl (fun v3 S3 τ3 ρ3 h3 => ?_)
    obtain ⟨rfl, h3, S3e, τ3f, ρ3e⟩ := h3
    have S3e := S3e.symm; subst S3e
    have ρ3e := ρ3e.symm; subst ρ3e
    show gW Γ E (xM E S τ3 R) _ _ _ _ (va_rf (if tol σ b = -1 then none else some (tolA R (rf R P.1 4) b)) :: _)
    by_cases ct4 : tol σ b = -1
    · rw [if_pos ct4]
      show gW Γ E (xM E S τ3 R) _ _ _ _ (.null :: _)
      refine g_astoreN hΓ dX0_elastic_12 rfl (Nat.le_of_ble_eq_true rfl) (lv' := [some (.ref (P.1)), some (.int (iI a)), some (.int (iI b)), some (.int (iI k)), some (.null), some (.null)]) rfl ?_
      refine g_aloadN hΓ rfl dX0_elastic_14 ?_
      refine g_ifnullN (tgt := 24) hΓ dX0_elastic_16 (by decide) ?_
      refine g_iconst hΓ dX0_elastic_24 ?_
      refine g_goto (tgt := 46) hΓ dX0_elastic_25 (by decide) ?_
      exact x_iret hΓ dX0_elastic_46 (Nat.zero_le _) (Nat.zero_le _) ⟨ri (by rw [sp_elastic]; first | (rw [if_neg (fun h9 => h9.1 (by assumption))]; done) | (rw [if_neg (fun h9 => h9.2 (by assumption))]; done) | (rw [if_pos ⟨by assumption, by assumption⟩]; done)), h3.1, rfl, (fun q9 j9 hk9 => by exact ((τ3f q9 j9 (fun e9 => hk9 ((show ∀ x ∈ [8003, 42, 43, 44], x ∈ [8003, 42, 43, 44, 112] by decide) _ e9))).trans (τ1f q9 j9 (fun e9 => hk9 ((show ∀ x ∈ [8003, 42, 43, 44], x ∈ [8003, 42, 43, 44, 112] by decide) _ e9))))), (fun q9 j9 hk9 => rfl)⟩
    · rw [if_neg ct4]
      obtain ⟨s4, es4⟩ : ∃ z : Nat, z = tolA R (rf R P.1 4) b := ⟨_, rfl⟩
      rw [← es4]
      show gW Γ E (xM E S τ3 R) _ _ _ _ (.ref s4 :: _)
      have hts4 := h3.2 ct4
      rw [← es4] at hts4
      refine g_astore hΓ dX0_elastic_12 rfl (Nat.le_of_ble_eq_true rfl) (lv' := [some (.ref (P.1)), some (.int (iI a)), some (.int (iI b)), some (.int (iI k)), some (.null), some (.ref s4)]) rfl ?_
      refine g_aloadN hΓ rfl dX0_elastic_14 ?_
      refine g_ifnullN (tgt := 24) hΓ dX0_elastic_16 (by decide) ?_
      refine g_iconst hΓ dX0_elastic_24 ?_
      refine g_goto (tgt := 46) hΓ dX0_elastic_25 (by decide) ?_
      exact x_iret hΓ dX0_elastic_46 (Nat.zero_le _) (Nat.zero_le _) ⟨ri (by rw [sp_elastic]; first | (rw [if_neg (fun h9 => h9.1 (by assumption))]; done) | (rw [if_neg (fun h9 => h9.2 (by assumption))]; done) | (rw [if_pos ⟨by assumption, by assumption⟩]; done)), h3.1, rfl, (fun q9 j9 hk9 => by exact ((τ3f q9 j9 (fun e9 => hk9 ((show ∀ x ∈ [8003, 42, 43, 44], x ∈ [8003, 42, 43, 44, 112] by decide) _ e9))).trans (τ1f q9 j9 (fun e9 => hk9 ((show ∀ x ∈ [8003, 42, 43, 44], x ∈ [8003, 42, 43, 44, 112] by decide) _ e9))))), (fun q9 j9 hk9 => rfl)⟩
  · rw [if_neg ct2]
    obtain ⟨s2, es2⟩ : ∃ z : Nat, z = tolA R (rf R P.1 4) a := ⟨_, rfl⟩
    rw [← es2]
    show gW Γ E (xM E S τ1 R) _ _ _ _ (.ref s2 :: _)
    have hts2 := h1.2 ct2
    rw [← es2] at hts2
    refine g_astore hΓ dX0_elastic_5 rfl (Nat.le_of_ble_eq_true rfl) (lv' := [some (.ref (P.1)), some (.int (iI a)), some (.int (iI b)), some (.int (iI k)), some (.ref s2), none]) rfl ?_
    refine g_aload_n hΓ rfl dX0_elastic_7 ?_
    refine g_iload_n hΓ rfl dX0_elastic_8 ?_
    refine x_callV (As := [.int (iI b)]) (rest := []) (c := 0) hE hΓ (x_X0_told hE hX S τ1 R P σ b h1.1 (by first | assumption | omega) ) hp.1 ⟨by decide, rfl⟩ rfl rfl q990 q992 qs28 q123 q993 ndX0_told rfl (by decide) (by decide) (Nat.zero_le _) (Nat.zero_le _) rfl (Nat.le_of_ble_eq_true rfl) dX0_elastic_9 rfl (fun v5 S5 τ5 ρ5 h5 => ?_)
    obtain ⟨rfl, h5, S5e, τ5f, ρ5e⟩ := h5
    have S5e := S5e.symm; subst S5e
    have ρ5e := ρ5e.symm; subst ρ5e
    show gW Γ E (xM E S τ5 R) _ _ _ _ (va_rf (if tol σ b = -1 then none else some (tolA R (rf R P.1 4) b)) :: _)
    by_cases ct6 : tol σ b = -1
    · rw [if_pos ct6]
      show gW Γ E (xM E S τ5 R) _ _ _ _ (.null :: _)
      refine g_astoreN hΓ dX0_elastic_12 rfl (Nat.le_of_ble_eq_true rfl) (lv' := [some (.ref (P.1)), some (.int (iI a)), some (.int (iI b)), some (.int (iI k)), some (.ref s2), some (.null)]) rfl ?_
      refine g_aload hΓ rfl dX0_elastic_14 ?_
      refine g_ifnull hΓ dX0_elastic_16 ?_
      refine g_aloadN hΓ rfl dX0_elastic_19 ?_
      refine g_ifnonnullN hΓ dX0_elastic_21 ?_
      refine g_iconst hΓ dX0_elastic_24 ?_
      refine g_goto (tgt := 46) hΓ dX0_elastic_25 (by decide) ?_
      exact x_iret hΓ dX0_elastic_46 (Nat.zero_le _) (Nat.zero_le _) ⟨ri (by rw [sp_elastic]; first | (rw [if_neg (fun h9 => h9.1 (by assumption))]; done) | (rw [if_neg (fun h9 => h9.2 (by assumption))]; done) | (rw [if_pos ⟨by assumption, by assumption⟩]; done)), h5.1, rfl, (fun q9 j9 hk9 => by exact ((τ5f q9 j9 (fun e9 => hk9 ((show ∀ x ∈ [8003, 42, 43, 44], x ∈ [8003, 42, 43, 44, 112] by decide) _ e9))).trans (τ1f q9 j9 (fun e9 => hk9 ((show ∀ x ∈ [8003, 42, 43, 44], x ∈ [8003, 42, 43, 44, 112] by decide) _ e9))))), (fun q9 j9 hk9 => rfl)⟩
    · rw [if_neg ct6]
      obtain ⟨s6, es6⟩ : ∃ z : Nat, z = tolA R (rf R P.1 4) b := ⟨_, rfl⟩
      rw [← es6]
      show gW Γ E (xM E S τ5 R) _ _ _ _ (.ref s6 :: _)
      have hts6 := h5.2 ct6
      rw [← es6] at hts6
      refine g_astore hΓ dX0_elastic_12 rfl (Nat.le_of_ble_eq_true rfl) (lv' := [some (.ref (P.1)), some (.int (iI a)), some (.int (iI b)), some (.int (iI k)), some (.ref s2), some (.ref s6)]) rfl ?_
      refine g_aload hΓ rfl dX0_elastic_14 ?_
      refine g_ifnull hΓ dX0_elastic_16 ?_
      refine g_aload hΓ rfl dX0_elastic_19 ?_
      refine g_ifnonnull (tgt := 28) hΓ dX0_elastic_21 (by decide) ?_
      refine g_aload_n hΓ rfl dX0_elastic_28 ?_
      refine g_aload hΓ rfl dX0_elastic_29 ?_
      refine g_aload hΓ rfl dX0_elastic_31 ?_
      refine g_iload_n hΓ rfl dX0_elastic_33 ?_
      refine g_aload_n hΓ rfl dX0_elastic_34 ?_
      refine x_geta (r := some N) (c := 0) hE hΓ in_X0 rfl hp.1 ⟨by decide, rfl⟩ 4 (ji := 4) rfl (by decide) (by decide) rfl q250 rfl rfl hN.1.1 dX0_elastic_35 ?_
      show gW Γ E (xM E S τ5 R) 0 0 _ _ (.ref N :: _)
      refine x_geta (r := some NV) (c := 1) hE hΓ in_X1 rfl hN.1.2 ⟨by decide, rfl⟩ 2 (ji := 2) rfl (by decide) (by decide) rfl q203 rfl rfl hN.2.2.2.1.1 dX0_elastic_38 ?_
      show gW Γ E (xM E S τ5 R) 0 0 _ _ (.ref NV :: _)
      refine g_iconst hΓ dX0_elastic_41 ?_
      refine x_iald hΓ kNV nNV ⟨by decide, rfl⟩ (by omega) (by omega) dX0_elastic_42 ?_
      refine g_topi ((((τ5f NV 1 (by rw [kNV, mdN _ (by decide)]; decide)).trans (τ1f NV 1 (by rw [kNV, mdN _ (by decide)]; decide))).trans hN.2.2.2.2.2.2.2.1)) ?_
      refine x_callV (As := [.ref s2, .ref s6, .int (iI k), .int (iI (σ 0 1043))]) (rest := []) (c := 0) hE hΓ (x_X0_elasticOf hE hX hL S τ5 R P σ s2 s6 k (σ 0 1043) a b h5.1 (skR_scr (h1.1).1.1 (fun q9 j9 hk9 => by exact (τ5f q9 j9 (fun e9 => hk9 ((show ∀ x ∈ [8003, 42, 43, 44], x ∈ SCR by decide) _ e9)))) fr_rfl hts2) hts6 (by omega) (by omega) ) hp.1 ⟨by decide, rfl⟩ rfl rfl q994 q996 qs29 q123 q997 ndX0_elasticOf rfl (by decide) (by decide) (Nat.zero_le _) (Nat.zero_le _) rfl (Nat.le_of_ble_eq_true rfl) dX0_elastic_43 rfl (fun v7 S7 τ7 ρ7 h7 => ?_)
      obtain ⟨rfl, h7, S7e, τ7f, ρ7f⟩ := h7
      have S7e := S7e.symm; subst S7e
      show gW Γ E (xM E S τ7 ρ7) _ _ _ _ (.int (iI (els σ a b k (σ 0 1043))) :: _)
      exact x_iret hΓ dX0_elastic_46 (Nat.zero_le _) (Nat.zero_le _) ⟨ri (by rw [sp_elastic]; first | (rw [if_neg (fun h9 => h9.1 (by assumption))]; done) | (rw [if_neg (fun h9 => h9.2 (by assumption))]; done) | (rw [if_pos ⟨by assumption, by assumption⟩]; done)), h7.1, rfl, (fun q9 j9 hk9 => by exact (((τ7f q9 j9 (fun e9 => hk9 ((show ∀ x ∈ [8003, 42, 43, 44, 112], x ∈ [8003, 42, 43, 44, 112] by decide) _ e9))).trans (τ5f q9 j9 (fun e9 => hk9 ((show ∀ x ∈ [8003, 42, 43, 44], x ∈ [8003, 42, 43, 44, 112] by decide) _ e9)))).trans (τ1f q9 j9 (fun e9 => hk9 ((show ∀ x ∈ [8003, 42, 43, 44], x ∈ [8003, 42, 43, 44, 112] by decide) _ e9))))), (fun q9 j9 hk9 => by exact (ρ7f q9 j9 (fun e9 => hk9 ((show ∀ x ∈ [1009, 1010], x ∈ [1009, 1010] by decide) _ e9))))⟩
set_option maxHeartbeats 4000000 in
theorem x_X0_wide {l : Launch} {E : gE} {X : State → Prop} {Z : Nat → Nat} {Y : Nat → Option Nat} (hE : E.2.1 = clsX) (hX : xOK l E X Z Y) (hL : xLam l E X (Z 20) (Z 21)) (S : xS) (D : xD) (R : xR) (P : xPk) (σ : mS) (a b : Int) (hx : Rx E Z S D R P σ) (ha : r32 a) (hb : r32 b) : xC l E X yX0_wide cX0_wide 7 (some .int) 7 0 0 [.ref (P.1), .int (iI a), .int (iI b)] S D R (fun rv S' D' R' => rv = some (.int (iI (sp_wide σ a b))) ∧ (Rx E Z S D' R' P σ) ∧ S' = S ∧ fr S D D' [8003, 42, 43, 44, 112] ∧ fr S R R' [1009, 1010]) := by
  refine xC.of hX.1 (by decide) [some (.ref (P.1)), some (.int (iI a)), some (.int (iI b)), none, none, none, none] (Nat.le_of_ble_eq_true rfl) rfl rfl (fun Γ hΓ => ?_)
  obtain ⟨hg, hp, hki, hro, hnw, hbh, hsa, hpd⟩ := id hx
  obtain ⟨N, NI, NM, NV, hN⟩ := (hx).now
  have hAw := hg.2.2.2.2.2.2
  have hG : GS S D R := hg.1
  obtain ⟨h1000, h1009, h1042, h1043, h1044, h1045, h1046, h1047, hms, hsi, hsm, hnm⟩ := id hro
  have eN := hN.2.2.2.2.2.2.2.2.2.2.2.2
  have kNV : (S NV).1 = 45 := by rw [hN.2.2.2.1.2]
  have nNV : (S NV).2.1 = 6 := by rw [hN.2.2.2.1.2]
  refine g_aload_n hΓ rfl dX0_wide_0 ?_
  refine g_iload_n hΓ rfl dX0_wide_1 ?_
  refine x_callV (As := [.int (iI a)]) (rest := []) (c := 0) hE hΓ (x_X0_told hE hX S D R P σ a hx (by first | assumption | omega) ) hp.1 ⟨by decide, rfl⟩ rfl rfl q990 q992 qs28 q123 q993 ndX0_told rfl (by decide) (by decide) (Nat.zero_le _) (Nat.zero_le _) rfl (Nat.le_of_ble_eq_true rfl) dX0_wide_2 rfl (fun v1 S1 τ1 ρ1 h1 => ?_)
  obtain ⟨rfl, h1, S1e, τ1f, ρ1e⟩ := h1
  have S1e := S1e.symm; subst S1e
  have ρ1e := ρ1e.symm; subst ρ1e
  show gW Γ E (xM E S τ1 R) _ _ _ _ (va_rf (if tol σ a = -1 then none else some (tolA R (rf R P.1 4) a)) :: _)
  by_cases ct2 : tol σ a = -1
  · rw [if_pos ct2]
    show gW Γ E (xM E S τ1 R) _ _ _ _ (.null :: _)
    refine g_astore_nN hΓ dX0_wide_5 rfl (Nat.le_of_ble_eq_true rfl) (lv' := [some (.ref (P.1)), some (.int (iI a)), some (.int (iI b)), some (.null), none, none, none]) rfl ?_
    refine g_aload_n hΓ rfl dX0_wide_6 ?_
    refine g_iload_n hΓ rfl dX0_wide_7 ?_
    refine x_callV (As := [.int (iI b)]) (rest := []) (c := 0) hE hΓ (x_X0_told hE hX S τ1 R P σ b h1.1 (by first | assumption | omega) ) hp.1 ⟨by decide, rfl⟩ rfl rfl q990 q992 qs28 q123 q993 ndX0_told rfl (by decide) (by decide) (Nat.zero_le _) (Nat.zero_le _) rfl (Nat.le_of_ble_eq_true rfl) dX0_wide_8 rfl (fun v3 S3 τ3 ρ3 h3 => ?_)
    obtain ⟨rfl, h3, S3e, τ3f, ρ3e⟩ := h3
    have S3e := S3e.symm; subst S3e
    have ρ3e := ρ3e.symm; subst ρ3e
    show gW Γ E (xM E S τ3 R) _ _ _ _ (va_rf (if tol σ b = -1 then none else some (tolA R (rf R P.1 4) b)) :: _)
    by_cases ct4 : tol σ b = -1
    · rw [if_pos ct4]
      show gW Γ E (xM E S τ3 R) _ _ _ _ (.null :: _)
      refine g_astoreN hΓ dX0_wide_11 rfl (Nat.le_of_ble_eq_true rfl) (lv' := [some (.ref (P.1)), some (.int (iI a)), some (.int (iI b)), some (.null), some (.null), none, none]) rfl ?_
      refine g_aload_nN hΓ rfl dX0_wide_13 ?_
      refine g_ifnullN (tgt := 22) hΓ dX0_wide_14 (by decide) ?_
      refine g_iconst hΓ dX0_wide_22 ?_
      exact x_iret hΓ dX0_wide_23 (Nat.zero_le _) (Nat.zero_le _) ⟨ri (by rw [sp_wide]; first | (rw [if_neg (fun h9 => h9.1 (by assumption))]; done) | (rw [if_neg (fun h9 => h9.2 (by assumption))]; done) | (rw [if_pos ⟨by assumption, by assumption⟩]; done)), h3.1, rfl, (fun q9 j9 hk9 => by exact ((τ3f q9 j9 (fun e9 => hk9 ((show ∀ x ∈ [8003, 42, 43, 44], x ∈ [8003, 42, 43, 44, 112] by decide) _ e9))).trans (τ1f q9 j9 (fun e9 => hk9 ((show ∀ x ∈ [8003, 42, 43, 44], x ∈ [8003, 42, 43, 44, 112] by decide) _ e9))))), (fun q9 j9 hk9 => rfl)⟩
    · rw [if_neg ct4]
      obtain ⟨s4, es4⟩ : ∃ z : Nat, z = tolA R (rf R P.1 4) b := ⟨_, rfl⟩
      rw [← es4]
      show gW Γ E (xM E S τ3 R) _ _ _ _ (.ref s4 :: _)
      have hts4 := h3.2 ct4
      rw [← es4] at hts4
      refine g_astore hΓ dX0_wide_11 rfl (Nat.le_of_ble_eq_true rfl) (lv' := [some (.ref (P.1)), some (.int (iI a)), some (.int (iI b)), some (.null), some (.ref s4), none, none]) rfl ?_
      refine g_aload_nN hΓ rfl dX0_wide_13 ?_
      refine g_ifnullN (tgt := 22) hΓ dX0_wide_14 (by decide) ?_
      refine g_iconst hΓ dX0_wide_22 ?_
      exact x_iret hΓ dX0_wide_23 (Nat.zero_le _) (Nat.zero_le _) ⟨ri (by rw [sp_wide]; first | (rw [if_neg (fun h9 => h9.1 (by assumption))]; done) | (rw [if_neg (fun h9 => h9.2 (by assumption))]; done) | (rw [if_pos ⟨by assumption, by assumption⟩]; done)), h3.1, rfl, (fun q9 j9 hk9 => by exact ((τ3f q9 j9 (fun e9 => hk9 ((show ∀ x ∈ [8003, 42, 43, 44], x ∈ [8003, 42, 43, 44, 112] by decide) _ e9))).trans (τ1f q9 j9 (fun e9 => hk9 ((show ∀ x ∈ [8003, 42, 43, 44], x ∈ [8003, 42, 43, 44, 112] by decide) _ e9))))), (fun q9 j9 hk9 => rfl)⟩
  · rw [if_neg ct2]
    obtain ⟨s2, es2⟩ : ∃ z : Nat, z = tolA R (rf R P.1 4) a := ⟨_, rfl⟩
    rw [← es2]
    show gW Γ E (xM E S τ1 R) _ _ _ _ (.ref s2 :: _)
    have hts2 := h1.2 ct2
    rw [← es2] at hts2
    refine g_astore_n hΓ dX0_wide_5 rfl (Nat.le_of_ble_eq_true rfl) (lv' := [some (.ref (P.1)), some (.int (iI a)), some (.int (iI b)), some (.ref s2), none, none, none]) rfl ?_
    refine g_aload_n hΓ rfl dX0_wide_6 ?_
    refine g_iload_n hΓ rfl dX0_wide_7 ?_
    refine x_callV (As := [.int (iI b)]) (rest := []) (c := 0) hE hΓ (x_X0_told hE hX S τ1 R P σ b h1.1 (by first | assumption | omega) ) hp.1 ⟨by decide, rfl⟩ rfl rfl q990 q992 qs28 q123 q993 ndX0_told rfl (by decide) (by decide) (Nat.zero_le _) (Nat.zero_le _) rfl (Nat.le_of_ble_eq_true rfl) dX0_wide_8 rfl (fun v5 S5 τ5 ρ5 h5 => ?_)
    obtain ⟨rfl, h5, S5e, τ5f, ρ5e⟩ := h5
    have S5e := S5e.symm; subst S5e
    have ρ5e := ρ5e.symm; subst ρ5e
    show gW Γ E (xM E S τ5 R) _ _ _ _ (va_rf (if tol σ b = -1 then none else some (tolA R (rf R P.1 4) b)) :: _)
    by_cases ct6 : tol σ b = -1
    · rw [if_pos ct6]
      show gW Γ E (xM E S τ5 R) _ _ _ _ (.null :: _)
      refine g_astoreN hΓ dX0_wide_11 rfl (Nat.le_of_ble_eq_true rfl) (lv' := [some (.ref (P.1)), some (.int (iI a)), some (.int (iI b)), some (.ref s2), some (.null), none, none]) rfl ?_
      refine g_aload_n hΓ rfl dX0_wide_13 ?_
      refine g_ifnull hΓ dX0_wide_14 ?_
      refine g_aloadN hΓ rfl dX0_wide_17 ?_
      refine g_ifnonnullN hΓ dX0_wide_19 ?_
      refine g_iconst hΓ dX0_wide_22 ?_
      exact x_iret hΓ dX0_wide_23 (Nat.zero_le _) (Nat.zero_le _) ⟨ri (by rw [sp_wide]; first | (rw [if_neg (fun h9 => h9.1 (by assumption))]; done) | (rw [if_neg (fun h9 => h9.2 (by assumption))]; done) | (rw [if_pos ⟨by assumption, by assumption⟩]; done)), h5.1, rfl, (fun q9 j9 hk9 => by exact ((τ5f q9 j9 (fun e9 => hk9 ((show ∀ x ∈ [8003, 42, 43, 44], x ∈ [8003, 42, 43, 44, 112] by decide) _ e9))).trans (τ1f q9 j9 (fun e9 => hk9 ((show ∀ x ∈ [8003, 42, 43, 44], x ∈ [8003, 42, 43, 44, 112] by decide) _ e9))))), (fun q9 j9 hk9 => rfl)⟩
    · rw [if_neg ct6]
      obtain ⟨s6, es6⟩ : ∃ z : Nat, z = tolA R (rf R P.1 4) b := ⟨_, rfl⟩
      rw [← es6]
      show gW Γ E (xM E S τ5 R) _ _ _ _ (.ref s6 :: _)
      have hts6 := h5.2 ct6
      rw [← es6] at hts6
      refine g_astore hΓ dX0_wide_11 rfl (Nat.le_of_ble_eq_true rfl) (lv' := [some (.ref (P.1)), some (.int (iI a)), some (.int (iI b)), some (.ref s2), some (.ref s6), none, none]) rfl ?_
      refine g_aload_n hΓ rfl dX0_wide_13 ?_
      refine g_ifnull hΓ dX0_wide_14 ?_
      refine g_aload hΓ rfl dX0_wide_17 ?_
      refine g_ifnonnull (tgt := 24) hΓ dX0_wide_19 (by decide) ?_
      refine g_aload_n hΓ rfl dX0_wide_24 ?_
      refine g_aload_n hΓ rfl dX0_wide_25 ?_
      refine g_aload hΓ rfl dX0_wide_26 ?_
      refine g_iconst hΓ dX0_wide_28 ?_
      refine g_bipush hΓ (by decide) dX0_wide_29 ?_
      refine x_callV (As := [.ref s2, .ref s6, .int (iI 0), .int (iI 16)]) (rest := []) (c := 0) hE hΓ (x_X0_elasticOf hE hX hL S τ5 R P σ s2 s6 0 16 a b h5.1 (skR_scr (h1.1).1.1 (fun q9 j9 hk9 => by exact (τ5f q9 j9 (fun e9 => hk9 ((show ∀ x ∈ [8003, 42, 43, 44], x ∈ SCR by decide) _ e9)))) fr_rfl hts2) hts6 (by omega) (by omega) ) hp.1 ⟨by decide, rfl⟩ rfl rfl q994 q996 qs29 q123 q997 ndX0_elasticOf rfl (by decide) (by decide) (Nat.zero_le _) (Nat.zero_le _) rfl (Nat.le_of_ble_eq_true rfl) dX0_wide_31 rfl (fun v7 S7 τ7 ρ7 h7 => ?_)
      obtain ⟨rfl, h7, S7e, τ7f, ρ7f⟩ := h7
      have S7e := S7e.symm; subst S7e
      show gW Γ E (xM E S τ7 ρ7) _ _ _ _ (.int (iI (els σ a b 0 16)) :: _)
      obtain ⟨x8, ex8⟩ : ∃ z9 : Int, z9 = els σ a b 0 16 := ⟨_, rfl⟩
      refine g_topi ex8.symm ?_
      refine g_istore hΓ dX0_wide_34 rfl (Nat.le_of_ble_eq_true rfl) (lv' := [some (.ref (P.1)), some (.int (iI a)), some (.int (iI b)), some (.ref s2), some (.ref s6), some (.int (iI x8)), none]) rfl ?_
      refine g_iconst hΓ dX0_wide_36 ?_
      refine g_istore hΓ dX0_wide_37 rfl (Nat.le_of_ble_eq_true rfl) (lv' := [some (.ref (P.1)), some (.int (iI a)), some (.int (iI b)), some (.ref s2), some (.ref s6), some (.int (iI x8)), some (.int (iI 0))]) rfl ?_
      have hwr := fun w (h : 0 ≤ w) => els_64 h1042 a b 0 h
      have loop : ∀ (fu : Nat) (t : xD) (ρ : xR) (bd : Int), (17 - bd).toNat < fu → (Rx E Z S t ρ P σ) → (fr S D t [8003, 42, 43, 44, 112]) → (fr S R ρ [1009, 1010]) → (skR S t ρ s2 (np σ a) (nu σ a)) → (skR S t ρ s6 (np σ b) (nu σ b)) → (0 ≤ bd ∧ bd ≤ 16) → (sp_wide σ a b = widF (els σ a b 0) (els σ a b 0 16) (16 - bd).toNat bd) → gW Γ E (xM E S t ρ) 0 0 39 [some (.ref (P.1)), some (.int (iI a)), some (.int (iI b)), some (.ref s2), some (.ref s6), some (.int (iI x8)), some (.int (iI bd))] [] := by
        intro fu
        induction fu with
        | zero => intro t ρ bd hn; exact absurd hn (Nat.not_lt_zero _)
        | succ fu ih_loop =>
          intro t ρ bd hn hx1 ht hr hsa1 hsb1 hbd hwd
          obtain ⟨hg, hp, hki, hro, hnw, hbh, hsa, hpd⟩ := id hx1
          obtain ⟨N, NI, NM, NV, hN⟩ := (hx1).now
          have hAw := hg.2.2.2.2.2.2
          have hG : GS S t ρ := hg.1
          obtain ⟨h1000, h1009, h1042, h1043, h1044, h1045, h1046, h1047, hms, hsi, hsm, hnm⟩ := id hro
          have eN := hN.2.2.2.2.2.2.2.2.2.2.2.2
          have kNV : (S NV).1 = 45 := by rw [hN.2.2.2.1.2]
          have nNV : (S NV).2.1 = 6 := by rw [hN.2.2.2.1.2]
          have htsa1 := hsa1
          have htsb1 := hsb1
          refine g_aload_n hΓ rfl dX0_wide_39 ?_
          refine g_aload_n hΓ rfl dX0_wide_40 ?_
          refine g_aload hΓ rfl dX0_wide_41 ?_
          refine g_iconst hΓ dX0_wide_43 ?_
          refine g_iload hΓ rfl dX0_wide_44 ?_
          refine x_callV (As := [.ref s2, .ref s6, .int (iI 0), .int (iI bd)]) (rest := []) (c := 0) hE hΓ (x_X0_elasticOf hE hX hL S t ρ P σ s2 s6 0 bd a b hx1 htsa1 htsb1 (by omega) (by omega) ) hp.1 ⟨by decide, rfl⟩ rfl rfl q994 q996 qs29 q123 q997 ndX0_elasticOf rfl (by decide) (by decide) (Nat.zero_le _) (Nat.zero_le _) rfl (Nat.le_of_ble_eq_true rfl) dX0_wide_46 rfl (fun v9 S9 τ9 ρ9 h9 => ?_)
          obtain ⟨rfl, h9, S9e, τ9f, ρ9f⟩ := h9
          have S9e := S9e.symm; subst S9e
          show gW Γ E (xM E S τ9 ρ9) _ _ _ _ (.int (iI (els σ a b 0 bd)) :: _)
          refine g_iload hΓ rfl dX0_wide_49 ?_
          refine g_icmp_eq (tgt := 60) hΓ (by first | omega | (have h9 := hwr bd (by omega); have h8 := hwr 16 (by omega); omega)) (by first | omega | (have h9 := hwr bd (by omega); have h8 := hwr 16 (by omega); omega)) dX0_wide_51 (by decide) (fun c10 => ?_) (fun c10 => ?_)
          · refine g_iload hΓ rfl dX0_wide_60 ?_
            have hfin : bd = sp_wide σ a b := by
              rw [hwd]
              by_cases c9 : bd = 16
              · rw [c9]; rfl
              · rw [show (16 - bd).toNat = (16 - bd - 1).toNat + 1 by omega, widF, if_pos (by omega)]
            exact x_iret hΓ dX0_wide_62 (Nat.zero_le _) (Nat.zero_le _) ⟨ri hfin, h9.1, rfl, fr_t ht τ9f, fr_t hr ρ9f⟩
          · obtain ⟨x11, ex11⟩ : ∃ z9 : Int, z9 = bd + 1 := ⟨_, rfl⟩
            refine g_iinc hΓ dX0_wide_54 rfl rfl (lv' := [some (.ref (P.1)), some (.int (iI a)), some (.int (iI b)), some (.ref s2), some (.ref s6), some (.int (iI x8)), some (.int (iI x11))]) (by rw [ex11]; rfl) ?_
            refine g_goto (tgt := 39) hΓ dX0_wide_57 (by decide) ?_
            have hne : bd ≠ 16 := fun e9 => (show ¬ els σ a b 0 bd = x8 by assumption) (by rw [e9, ex8])
            exact ih_loop τ9 ρ9 x11 (by omega) h9.1 (fr_t ht τ9f) (fr_t hr ρ9f) (skR_scr (hx1).1.1 (fun q9 j9 hk9 => by exact (τ9f q9 j9 (fun e9 => hk9 ((show ∀ x ∈ [8003, 42, 43, 44, 112], x ∈ SCR by decide) _ e9)))) (fun q9 j9 hk9 => by exact (ρ9f q9 j9 (fun e9 => hk9 ((show ∀ x ∈ [1009, 1010], x ∈ SCQ by decide) _ e9)))) htsa1) (skR_scr (hx1).1.1 (fun q9 j9 hk9 => by exact (τ9f q9 j9 (fun e9 => hk9 ((show ∀ x ∈ [8003, 42, 43, 44, 112], x ∈ SCR by decide) _ e9)))) (fun q9 j9 hk9 => by exact (ρ9f q9 j9 (fun e9 => hk9 ((show ∀ x ∈ [1009, 1010], x ∈ SCQ by decide) _ e9)))) htsb1) (by omega) (by rw [hwd, show (16 - bd).toNat = (16 - x11).toNat + 1 by omega, widF, if_neg (by omega), show bd + 1 = x11 by omega])
      exact loop 18 τ7 ρ7 0 (by omega) h7.1 (fun q9 j9 hk9 => by exact (((τ7f q9 j9 (fun e9 => hk9 ((show ∀ x ∈ [8003, 42, 43, 44, 112], x ∈ [8003, 42, 43, 44, 112] by decide) _ e9))).trans (τ5f q9 j9 (fun e9 => hk9 ((show ∀ x ∈ [8003, 42, 43, 44], x ∈ [8003, 42, 43, 44, 112] by decide) _ e9)))).trans (τ1f q9 j9 (fun e9 => hk9 ((show ∀ x ∈ [8003, 42, 43, 44], x ∈ [8003, 42, 43, 44, 112] by decide) _ e9))))) (fun q9 j9 hk9 => by exact (ρ7f q9 j9 (fun e9 => hk9 ((show ∀ x ∈ [1009, 1010], x ∈ [1009, 1010] by decide) _ e9)))) (skR_scr (h1.1).1.1 (fun q9 j9 hk9 => by exact ((τ7f q9 j9 (fun e9 => hk9 ((show ∀ x ∈ [8003, 42, 43, 44, 112], x ∈ SCR by decide) _ e9))).trans (τ5f q9 j9 (fun e9 => hk9 ((show ∀ x ∈ [8003, 42, 43, 44], x ∈ SCR by decide) _ e9))))) (fun q9 j9 hk9 => by exact (ρ7f q9 j9 (fun e9 => hk9 ((show ∀ x ∈ [1009, 1010], x ∈ SCQ by decide) _ e9)))) hts2) (skR_scr (h5.1).1.1 (fun q9 j9 hk9 => by exact (τ7f q9 j9 (fun e9 => hk9 ((show ∀ x ∈ [8003, 42, 43, 44, 112], x ∈ SCR by decide) _ e9)))) (fun q9 j9 hk9 => by exact (ρ7f q9 j9 (fun e9 => hk9 ((show ∀ x ∈ [1009, 1010], x ∈ SCQ by decide) _ e9)))) hts6) (by omega) (by rw [sp_wide, if_pos ⟨by assumption, by assumption⟩]; rfl)
