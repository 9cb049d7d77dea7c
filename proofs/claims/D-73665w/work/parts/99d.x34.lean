set_option maxRecDepth 100000
set_option maxHeartbeats 4000000 in
theorem x_X0_paired {l : Launch} {E : gE} {X : State → Prop} {Z : Nat → Nat} {Y : Nat → Option Nat} (hE : E.2.1 = clsX) (hX : xOK l E X Z Y) (hL : xLam l E X (Z 20) (Z 21)) (S : xS) (D : xD) (R : xR) (P : xPk) (σ : mS) (a b : Int) (hx : Rx E Z S D R P σ) (ha : r32 a) (hb : r32 b) : xC l E X yX0_paired cX0_paired 5 (some .int) 8 1 2 [.ref (P.1), .int (iI a), .int (iI b)] S D R (fun rv S' D' R' => rv = some (.int (iI (sp_paired σ a b))) ∧ (Rx E Z S' D' R' P σ) ∧ sle S S' ∧ fr S D D' [0, 8003, 42, 43, 44, 112, 120] ∧ fr S R R' [0, 1009, 1010]) := by
  refine xC.of hX.1 (by decide) [some (.ref (P.1)), some (.int (iI a)), some (.int (iI b)), none, none] (Nat.le_of_ble_eq_true rfl) rfl rfl (fun Γ hΓ => ?_)
  obtain ⟨hg, hp, hki, hro, hnw, hbh, hsa, hpd⟩ := id hx
  obtain ⟨N, NI, NM, NV, hN⟩ := (hx).now
  have hAw := hg.2.2.2.2.2.2
  have hG : GS S D R := hg.1
  obtain ⟨h1000, h1009, h1042, h1043, h1044, h1045, h1046, h1047, hms, hsi, hsm, hnm⟩ := id hro
  have eN := hN.2.2.2.2.2.2.2.2.2.2.2.2
  have kNV : (S NV).1 = 45 := by rw [hN.2.2.2.1.2]
  have nNV : (S NV).2.1 = 6 := by rw [hN.2.2.2.1.2]
  refine g_aload_n hΓ rfl dX0_paired_0 ?_
  refine g_iload_n hΓ rfl dX0_paired_1 ?_
  refine x_callV (As := [.int (iI a)]) (rest := []) (c := 0) hE hΓ (x_X0_told hE hX S D R P σ a hx (by first | assumption | omega) ) hp.1 ⟨by decide, rfl⟩ rfl rfl q990 q992 qs28 q123 q993 ndX0_told rfl (by decide) (by decide) (Nat.zero_le _) (Nat.zero_le _) rfl (Nat.le_of_ble_eq_true rfl) dX0_paired_2 rfl (fun v1 S1 τ1 ρ1 h1 => ?_)
  obtain ⟨rfl, h1, S1e, τ1f, ρ1e⟩ := h1
  have S1e := S1e.symm; subst S1e
  have ρ1e := ρ1e.symm; subst ρ1e
  show gW Γ E (xM E S τ1 R) _ _ _ _ (va_rf (if tol σ a = -1 then none else some (tolA R (rf R P.1 4) a)) :: _)
  by_cases ct2 : tol σ a = -1
  · rw [if_pos ct2]
    show gW Γ E (xM E S τ1 R) _ _ _ _ (.null :: _)
    refine g_astore_nN hΓ dX0_paired_5 rfl (Nat.le_of_ble_eq_true rfl) (lv' := [some (.ref (P.1)), some (.int (iI a)), some (.int (iI b)), some (.null), none]) rfl ?_
    refine g_aload_n hΓ rfl dX0_paired_6 ?_
    refine g_iload_n hΓ rfl dX0_paired_7 ?_
    refine x_callV (As := [.int (iI b)]) (rest := []) (c := 0) hE hΓ (x_X0_told hE hX S τ1 R P σ b h1.1 (by first | assumption | omega) ) hp.1 ⟨by decide, rfl⟩ rfl rfl q990 q992 qs28 q123 q993 ndX0_told rfl (by decide) (by decide) (Nat.zero_le _) (Nat.zero_le _) rfl (Nat.le_of_ble_eq_true rfl) dX0_paired_8 rfl (fun v3 S3 τ3 ρ3 h3 => ?_)
    obtain ⟨rfl, h3, S3e, τ3f, ρ3e⟩ := h3
    have S3e := S3e.symm; subst S3e
    have ρ3e := ρ3e.symm; subst ρ3e
    show gW Γ E (xM E S τ3 R) _ _ _ _ (va_rf (if tol σ b = -1 then none else some (tolA R (rf R P.1 4) b)) :: _)
    by_cases ct4 : tol σ b = -1
    · rw [if_pos ct4]
      show gW Γ E (xM E S τ3 R) _ _ _ _ (.null :: _)
      refine g_astoreN hΓ dX0_paired_11 rfl (Nat.le_of_ble_eq_true rfl) (lv' := [some (.ref (P.1)), some (.int (iI a)), some (.int (iI b)), some (.null), some (.null)]) rfl ?_
      refine g_aload_nN hΓ rfl dX0_paired_13 ?_
      refine g_ifnullN (tgt := 22) hΓ dX0_paired_14 (by decide) ?_
      refine g_iconst hΓ dX0_paired_22 ?_
      refine g_goto (tgt := 33) hΓ dX0_paired_23 (by decide) ?_
      exact x_iret hΓ dX0_paired_33 (Nat.zero_le _) (Nat.zero_le _) ⟨ri (by rw [sp_paired]; first | (rw [if_neg (fun h9 => h9.1 (by assumption))]; done) | (rw [if_neg (fun h9 => h9.2 (by assumption))]; done) | (rw [if_pos ⟨by assumption, by assumption⟩]; rfl)), h3.1, (fun q9 h9 => rfl), (fun q9 j9 hk9 => by exact ((τ3f q9 j9 (fun e9 => hk9 ((show ∀ x ∈ [8003, 42, 43, 44], x ∈ [0, 8003, 42, 43, 44, 112, 120] by decide) _ e9))).trans (τ1f q9 j9 (fun e9 => hk9 ((show ∀ x ∈ [8003, 42, 43, 44], x ∈ [0, 8003, 42, 43, 44, 112, 120] by decide) _ e9))))), (fun q9 j9 hk9 => rfl)⟩
    · rw [if_neg ct4]
      obtain ⟨s4, es4⟩ : ∃ z : Nat, z = tolA R (rf R P.1 4) b := ⟨_, rfl⟩
      rw [← es4]
      show gW Γ E (xM E S τ3 R) _ _ _ _ (.ref s4 :: _)
      have hts4 := h3.2 ct4
      rw [← es4] at hts4
      refine g_astore hΓ dX0_paired_11 rfl (Nat.le_of_ble_eq_true rfl) (lv' := [some (.ref (P.1)), some (.int (iI a)), some (.int (iI b)), some (.null), some (.ref s4)]) rfl ?_
      refine g_aload_nN hΓ rfl dX0_paired_13 ?_
      refine g_ifnullN (tgt := 22) hΓ dX0_paired_14 (by decide) ?_
      refine g_iconst hΓ dX0_paired_22 ?_
      refine g_goto (tgt := 33) hΓ dX0_paired_23 (by decide) ?_
      exact x_iret hΓ dX0_paired_33 (Nat.zero_le _) (Nat.zero_le _) ⟨ri (by rw [sp_paired]; first | (rw [if_neg (fun h9 => h9.1 (by assumption))]; done) | (rw [if_neg (fun h9 => h9.2 (by assumption))]; done) | (rw [if_pos ⟨by assumption, by assumption⟩]; rfl)), h3.1, (fun q9 h9 => rfl), (fun q9 j9 hk9 => by exact ((τ3f q9 j9 (fun e9 => hk9 ((show ∀ x ∈ [8003, 42, 43, 44], x ∈ [0, 8003, 42, 43, 44, 112, 120] by decide) _ e9))).trans (τ1f q9 j9 (fun e9 => hk9 ((show ∀ x ∈ [8003, 42, 43, 44], x ∈ [0, 8003, 42, 43, 44, 112, 120] by decide) _ e9))))), (fun q9 j9 hk9 => rfl)⟩
  · rw [if_neg ct2]
    obtain ⟨s2, es2⟩ : ∃ z : Nat, z = tolA R (rf R P.1 4) a := ⟨_, rfl⟩
    rw [← es2]
    show gW Γ E (xM E S τ1 R) _ _ _ _ (.ref s2 :: _)
    have hts2 := h1.2 ct2
    rw [← es2] at hts2
    refine g_astore_n hΓ dX0_paired_5 rfl (Nat.le_of_ble_eq_true rfl) (lv' := [some (.ref (P.1)), some (.int (iI a)), some (.int (iI b)), some (.ref s2), none]) rfl ?_
    refine g_aload_n hΓ rfl dX0_paired_6 ?_
    refine g_iload_n hΓ rfl dX0_paired_7 ?_
    refine x_callV (As := [.int (iI b)]) (rest := []) (c := 0) hE hΓ (x_X0_told hE hX S τ1 R P σ b h1.1 (by first | assumption | omega) ) hp.1 ⟨by decide, rfl⟩ rfl rfl q990 q992 qs28 q123 q993 ndX0_told rfl (by decide) (by decide) (Nat.zero_le _) (Nat.zero_le _) rfl (Nat.le_of_ble_eq_true rfl) dX0_paired_8 rfl (fun v5 S5 τ5 ρ5 h5 => ?_)
    obtain ⟨rfl, h5, S5e, τ5f, ρ5e⟩ := h5
    have S5e := S5e.symm; subst S5e
    have ρ5e := ρ5e.symm; subst ρ5e
    show gW Γ E (xM E S τ5 R) _ _ _ _ (va_rf (if tol σ b = -1 then none else some (tolA R (rf R P.1 4) b)) :: _)
    by_cases ct6 : tol σ b = -1
    · rw [if_pos ct6]
      show gW Γ E (xM E S τ5 R) _ _ _ _ (.null :: _)
      refine g_astoreN hΓ dX0_paired_11 rfl (Nat.le_of_ble_eq_true rfl) (lv' := [some (.ref (P.1)), some (.int (iI a)), some (.int (iI b)), some (.ref s2), some (.null)]) rfl ?_
      refine g_aload_n hΓ rfl dX0_paired_13 ?_
      refine g_ifnull hΓ dX0_paired_14 ?_
      refine g_aloadN hΓ rfl dX0_paired_17 ?_
      refine g_ifnonnullN hΓ dX0_paired_19 ?_
      refine g_iconst hΓ dX0_paired_22 ?_
      refine g_goto (tgt := 33) hΓ dX0_paired_23 (by decide) ?_
      exact x_iret hΓ dX0_paired_33 (Nat.zero_le _) (Nat.zero_le _) ⟨ri (by rw [sp_paired]; first | (rw [if_neg (fun h9 => h9.1 (by assumption))]; done) | (rw [if_neg (fun h9 => h9.2 (by assumption))]; done) | (rw [if_pos ⟨by assumption, by assumption⟩]; rfl)), h5.1, (fun q9 h9 => rfl), (fun q9 j9 hk9 => by exact ((τ5f q9 j9 (fun e9 => hk9 ((show ∀ x ∈ [8003, 42, 43, 44], x ∈ [0, 8003, 42, 43, 44, 112, 120] by decide) _ e9))).trans (τ1f q9 j9 (fun e9 => hk9 ((show ∀ x ∈ [8003, 42, 43, 44], x ∈ [0, 8003, 42, 43, 44, 112, 120] by decide) _ e9))))), (fun q9 j9 hk9 => rfl)⟩
    · rw [if_neg ct6]
      obtain ⟨s6, es6⟩ : ∃ z : Nat, z = tolA R (rf R P.1 4) b := ⟨_, rfl⟩
      rw [← es6]
      show gW Γ E (xM E S τ5 R) _ _ _ _ (.ref s6 :: _)
      have hts6 := h5.2 ct6
      rw [← es6] at hts6
      refine g_astore hΓ dX0_paired_11 rfl (Nat.le_of_ble_eq_true rfl) (lv' := [some (.ref (P.1)), some (.int (iI a)), some (.int (iI b)), some (.ref s2), some (.ref s6)]) rfl ?_
      refine g_aload_n hΓ rfl dX0_paired_13 ?_
      refine g_ifnull hΓ dX0_paired_14 ?_
      refine g_aload hΓ rfl dX0_paired_17 ?_
      refine g_ifnonnull (tgt := 26) hΓ dX0_paired_19 (by decide) ?_
      refine g_aload_n hΓ rfl dX0_paired_26 ?_
      refine g_aload_n hΓ rfl dX0_paired_27 ?_
      refine g_aload hΓ rfl dX0_paired_28 ?_
      refine x_callV (As := [.ref s2, .ref s6]) (rest := []) (c := 0) hE hΓ (x_X0_pairedOf hE hX hL S τ5 R P σ s2 s6 a b h5.1 (skR_scr (h1.1).1.1 (fun q9 j9 hk9 => by exact (τ5f q9 j9 (fun e9 => hk9 ((show ∀ x ∈ [8003, 42, 43, 44], x ∈ SCR by decide) _ e9)))) fr_rfl hts2) hts6 ) hp.1 ⟨by decide, rfl⟩ rfl rfl q1024 q1026 qs32 q123 q1027 ndX0_pairedOf rfl (by decide) (by decide) (by omega) (by omega) rfl (Nat.le_of_ble_eq_true rfl) dX0_paired_30 rfl (fun v7 S7 τ7 ρ7 h7 => ?_)
      obtain ⟨rfl, h7, S7f, τ7f, ρ7f⟩ := h7
      have kd8 : (S7 (P.1)).1 = 1 := kup hp.1 (by decide) S7f
      have kd9 : (S7 N).1 = 2 := kup hN.1.2 (by decide) S7f
      have kd10 : (S7 NI).1 = 10 := kup hN.2.2.1.2 (by decide) S7f
      have kd11 : (S7 NM).1 = 11 := kup hN.2.1.2 (by decide) S7f
      have kd12 : (S7 NV).1 = 45 := kup kNV (by decide) S7f
      have ln12 : (S7 NV).2.1 = 6 := nup kNV (by decide) nNV S7f
      have kd13 : (S7 s2).1 = 8 := kup hts2.1 (by decide) S7f
      have kd14 : (S7 s6).1 = 8 := kup hts6.1 (by decide) S7f
      show gW Γ E (xM E S7 τ7 ρ7) _ _ _ _ (.int (iI (min (els σ a b 0 (σ 0 1043)) (els σ a b 1 (σ 0 1043) + σ 0 1045))) :: _)
      exact x_iret hΓ dX0_paired_33 (by omega) (by omega) ⟨ri (by rw [sp_paired]; first | (rw [if_neg (fun h9 => h9.1 (by assumption))]; done) | (rw [if_neg (fun h9 => h9.2 (by assumption))]; done) | (rw [if_pos ⟨by assumption, by assumption⟩]; rfl)), h7, S7f, (fun q9 j9 hk9 => by exact (((τ7f q9 j9 (fun e9 => hk9 ((show ∀ x ∈ [0, 8003, 42, 43, 44, 112, 120], x ∈ [0, 8003, 42, 43, 44, 112, 120] by decide) _ e9))).trans (τ5f q9 j9 (fun e9 => hk9 ((show ∀ x ∈ [8003, 42, 43, 44], x ∈ [0, 8003, 42, 43, 44, 112, 120] by decide) _ e9)))).trans (τ1f q9 j9 (fun e9 => hk9 ((show ∀ x ∈ [8003, 42, 43, 44], x ∈ [0, 8003, 42, 43, 44, 112, 120] by decide) _ e9))))), (fun q9 j9 hk9 => by exact (ρ7f q9 j9 (fun e9 => hk9 ((show ∀ x ∈ [0, 1009, 1010], x ∈ [0, 1009, 1010] by decide) _ e9))))⟩
