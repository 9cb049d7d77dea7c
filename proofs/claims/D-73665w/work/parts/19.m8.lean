set_option maxRecDepth 100000
set_option maxHeartbeats 4000000 in
theorem m_pairedOf {l : Launch} {E : gE} {h : Nat} {ad : Nat → Nat} (hok : mOK E h ad) (σ : mS)  (a : Int) (b : Int) (ha : 0 ≤ a ∧ a < 104) (hb : 0 ≤ b ∧ b < 104) (hr : rowOK (σ 0)) (hla : ∀ j, 0 ≤ j → j < σ 0 1042 → σ 22 (16 * a + j) = cds σ a j) (hlb : ∀ j, 0 ≤ j → j < σ 0 1042 → σ 22 (16 * b + j) = cds σ b j) : mC l E h ad yX3_pairedOf cX3_pairedOf 3 (some .int) 3 [.ref h, .int (iI a), .int (iI b)] σ (fun rv σ' => rv = some (.int (iI (prd σ a b))) ∧ (True) ∧ ∀ (k : Nat) (j : Int), k ∉ [23] → σ' k j = σ k j) := by
  refine mC.of (by decide) [some (.ref h), some (.int (iI a)), some (.int (iI b))] (Nat.le_of_ble_eq_true rfl) rfl rfl (fun Γ hΓ => ?_)
  obtain ⟨h1000, h1009, h1042, h1043, h1044, h1045, h1046, h1047, hms, hsi, hsm, hnm⟩ := id hr
  refine g_aload_n hΓ rfl dX3_pairedOf_0 ?_
  refine g_iload_n hΓ rfl dX3_pairedOf_1 ?_
  refine g_iload_n hΓ rfl dX3_pairedOf_2 ?_
  refine g_iconst hΓ dX3_pairedOf_3 ?_
  refine g_aload_n hΓ rfl dX3_pairedOf_4 ?_
  refine m_geta hok hΓ 0 (by decide) rfl rfl q1357 rfl dX3_pairedOf_5 ?_
  refine g_sipush hΓ (by decide) dX3_pairedOf_8 ?_
  refine m_ald hok hΓ 0 (by decide) rfl (n := 1048) rfl (by omega) (by decide) dX3_pairedOf_11 ?_
  refine m_callV (As := [.int (iI a), .int (iI b), .int (iI 0), .int (iI (σ 0 1043))]) (rest := []) hok hΓ (m_elasticOf hok σ a b 0 (σ 0 1043) (by first | assumption | omega) (by first | assumption | omega) (by first | assumption | omega) (by first | assumption | omega) (by first | assumption | omega) (by first | assumption | omega) (by first | assumption | omega)) rfl q1708 q1710 qs91 q131 q1711 ndX3_elasticOf rfl (by decide) (by decide) rfl rfl (Nat.le_of_ble_eq_true rfl) dX3_pairedOf_12 rfl (fun v1 τ1 τ1h => ?_)
  obtain ⟨rfl, τ1h, τ1f⟩ := τ1h
  show gW Γ E (mM E h ad τ1) 0 0 _ _ (.int (iI (els σ a b 0 (σ 0 1043))) :: _)
  have τ10 : τ1 0 = σ 0 := funext fun j => (τ1f 0 j (by decide))
  have τ17 : τ1 7 = σ 7 := funext fun j => (τ1f 7 j (by decide))
  have τ18 : τ1 8 = σ 8 := funext fun j => (τ1f 8 j (by decide))
  have τ122 : τ1 22 = σ 22 := funext fun j => (τ1f 22 j (by decide))
  have τ1n := np_same τ10 τ18
  have τ1u := nu_same τ10 τ17
  have τ1c := cds_same τ10 τ17 τ18
  have τ1b := cdb_same τ10 τ17 τ18
  have τ1E := els_same τ10 τ17 τ18
  have τ1W := sp_way_same τ10 τ17 τ18
  have τ1P := prd_same τ10 τ17 τ18
  have r1 := els_r σ a b 0 (σ 0 1043)
  have r2 := els_r σ a b 1 (σ 0 1043)
  refine g_aload_n hΓ rfl dX3_pairedOf_15 ?_
  refine g_iload_n hΓ rfl dX3_pairedOf_16 ?_
  refine g_iload_n hΓ rfl dX3_pairedOf_17 ?_
  refine g_iconst hΓ dX3_pairedOf_18 ?_
  refine g_aload_n hΓ rfl dX3_pairedOf_19 ?_
  refine m_geta hok hΓ 0 (by decide) rfl rfl q1357 rfl dX3_pairedOf_20 ?_
  refine g_sipush hΓ (by decide) dX3_pairedOf_23 ?_
  refine m_ald hok hΓ 0 (by decide) rfl (n := 1048) rfl (by omega) (by decide) dX3_pairedOf_26 ?_
  refine g_topi ((τ1f 0 1043 (by decide))) ?_
  refine m_callV (As := [.int (iI a), .int (iI b), .int (iI 1), .int (iI (σ 0 1043))]) (rest := [.int (iI (els σ a b 0 (σ 0 1043)))]) hok hΓ (m_elasticOf hok τ1 a b 1 (σ 0 1043) (by first | assumption | omega | (simp only [τ10, τ1n, τ1u, τ1c, τ1b, τ1E, τ122]; first | assumption | omega) | (simp only [τ10, τ1n, τ1u, τ1c, τ1b, τ1E]; first | assumption | omega)) (by first | assumption | omega | (simp only [τ10, τ1n, τ1u, τ1c, τ1b, τ1E, τ122]; first | assumption | omega) | (simp only [τ10, τ1n, τ1u, τ1c, τ1b, τ1E]; first | assumption | omega)) (by first | assumption | omega | (simp only [τ10, τ1n, τ1u, τ1c, τ1b, τ1E, τ122]; first | assumption | omega) | (simp only [τ10, τ1n, τ1u, τ1c, τ1b, τ1E]; first | assumption | omega)) (by first | assumption | omega | (simp only [τ10, τ1n, τ1u, τ1c, τ1b, τ1E, τ122]; first | assumption | omega) | (simp only [τ10, τ1n, τ1u, τ1c, τ1b, τ1E]; first | assumption | omega)) (by first | assumption | omega | (simp only [τ10, τ1n, τ1u, τ1c, τ1b, τ1E, τ122]; first | assumption | omega) | (simp only [τ10, τ1n, τ1u, τ1c, τ1b, τ1E]; first | assumption | omega)) (by first | assumption | omega | (simp only [τ10, τ1n, τ1u, τ1c, τ1b, τ1E, τ122]; first | assumption | omega) | (simp only [τ10, τ1n, τ1u, τ1c, τ1b, τ1E]; first | assumption | omega)) (by first | assumption | omega | (simp only [τ10, τ1n, τ1u, τ1c, τ1b, τ1E, τ122]; first | assumption | omega) | (simp only [τ10, τ1n, τ1u, τ1c, τ1b, τ1E]; first | assumption | omega))) rfl q1708 q1710 qs91 q131 q1711 ndX3_elasticOf rfl (by decide) (by decide) rfl rfl (Nat.le_of_ble_eq_true rfl) dX3_pairedOf_27 rfl (fun v2 τ2 τ2h => ?_)
  obtain ⟨rfl, τ2h, τ2f⟩ := τ2h
  show gW Γ E (mM E h ad τ2) 0 0 _ _ (.int (iI (els τ1 a b 1 (σ 0 1043))) :: _)
  refine g_topi (show (els τ1 a b 1 (σ 0 1043) : Int) = (els σ a b 1 (σ 0 1043)) by simp only [τ10, τ1n, τ1u, τ1c, τ1b, τ1E, τ1W, τ1P]) ?_
  refine g_aload_n hΓ rfl dX3_pairedOf_30 ?_
  refine m_geta hok hΓ 0 (by decide) rfl rfl q1357 rfl dX3_pairedOf_31 ?_
  refine g_sipush hΓ (by decide) dX3_pairedOf_34 ?_
  refine m_ald hok hΓ 0 (by decide) rfl (n := 1048) rfl (by omega) (by decide) dX3_pairedOf_37 ?_
  refine g_topi (((τ2f 0 1045 (by decide)).trans (τ1f 0 1045 (by decide)))) ?_
  refine g_iadd hΓ dX3_pairedOf_38 ?_
  refine m_callS (As := [.int (iI (els σ a b 0 (σ 0 1043))), .int (iI ((els σ a b 1 (σ 0 1043)) + (σ 0 1045)))]) (rest := []) hok hΓ (m_lesser hok τ2 (els σ a b 0 (σ 0 1043)) ((els σ a b 1 (σ 0 1043)) + (σ 0 1045)) (by omega) (by omega)) rfl q1674 q1675 q131 q1676 ndX3_lesser rfl (by decide) (by decide) rfl (Nat.le_of_ble_eq_true rfl) dX3_pairedOf_39 rfl (fun v3 τ3 τ3h => ?_)
  obtain ⟨rfl, τ3h⟩ := τ3h
  rw [τ3h]
  clear τ3h
  show gW Γ E (mM E h ad τ2) 0 0 _ _ (.int (iI (min (els σ a b 0 (σ 0 1043)) ((els σ a b 1 (σ 0 1043)) + (σ 0 1045)))) :: _)
  exact m_iret hΓ dX3_pairedOf_42 ⟨ri (by rw [prd]), trivial, (fun k j hk => ((τ2f k j (fun e => hk ((show ∀ x ∈ [23], x ∈ [23] by decide) k e))).trans (τ1f k j (fun e => hk ((show ∀ x ∈ [23], x ∈ [23] by decide) k e)))))⟩
set_option maxHeartbeats 4000000 in
theorem m_paired {l : Launch} {E : gE} {h : Nat} {ad : Nat → Nat} (hok : mOK E h ad) (σ : mS)  (a : Int) (b : Int) (ha : r32 a) (hb : r32 b) (hr : rowOK (σ 0)) : mC l E h ad yX3_paired cX3_paired 3 (some .int) 6 [.ref h, .int (iI a), .int (iI b)] σ (fun rv σ' => rv = some (.int (iI (sp_paired σ a b))) ∧ (True) ∧ ∀ (k : Nat) (j : Int), k ∉ [22, 23] → σ' k j = σ k j) := by
  refine mC.of (by decide) [some (.ref h), some (.int (iI a)), some (.int (iI b))] (Nat.le_of_ble_eq_true rfl) rfl rfl (fun Γ hΓ => ?_)
  obtain ⟨h1000, h1009, h1042, h1043, h1044, h1045, h1046, h1047, hms, hsi, hsm, hnm⟩ := id hr
  refine g_aload_n hΓ rfl dX3_paired_0 ?_
  refine g_iload_n hΓ rfl dX3_paired_1 ?_
  refine g_iload_n hΓ rfl dX3_paired_2 ?_
  refine m_callV (As := [.int (iI a), .int (iI b)]) (rest := []) hok hΓ (m_areStrokes hok σ a b (by first | assumption | omega) (by first | assumption | omega) (by first | assumption | omega)) rfl q1700 q1702 qs89 q131 q1703 ndX3_areStrokes rfl (by decide) (by decide) rfl rfl (Nat.le_of_ble_eq_true rfl) dX3_paired_3 rfl (fun v1 τ1 τ1h => ?_)
  obtain ⟨rfl, τ1h, τ1f⟩ := τ1h
  show gW Γ E (mM E h ad τ1) 0 0 _ _ (.int (iI (if tol σ a ≠ -1 ∧ tol σ b ≠ -1 then 1 else 0)) :: _)
  have τ10 : τ1 0 = σ 0 := funext fun j => (τ1f 0 j (by decide))
  have τ17 : τ1 7 = σ 7 := funext fun j => (τ1f 7 j (by decide))
  have τ18 : τ1 8 = σ 8 := funext fun j => (τ1f 8 j (by decide))
  have τ1n := np_same τ10 τ18
  have τ1u := nu_same τ10 τ17
  have τ1c := cds_same τ10 τ17 τ18
  have τ1b := cdb_same τ10 τ17 τ18
  have τ1E := els_same τ10 τ17 τ18
  have τ1W := sp_way_same τ10 τ17 τ18
  have τ1P := prd_same τ10 τ17 τ18
  have ta := tol_ok hr a
  have tb := tol_ok hr b
  refine g_ifB_eq (tgt := 18) hΓ  dX3_paired_6 (by decide) (fun c2 => ?_) (fun c2 => ?_)
  · refine g_iconst hΓ dX3_paired_18 ?_
    exact m_iret hΓ dX3_paired_19 ⟨ri (by rw [sp_paired]; first | (rw [if_neg (by omega)]; done) | (rw [if_pos (by omega)])), trivial, (fun k j hk => (τ1f k j (fun e => hk ((show ∀ x ∈ [22], x ∈ [22, 23] by decide) k e))))⟩
  · rcases ta with ta | ⟨ta, ta0, ta1, tas⟩
    · exact absurd ta (by omega)
    rcases tb with tb | ⟨tb, tb0, tb1, tbs⟩
    · exact absurd tb (by omega)
    obtain ⟨hla0, hlb0⟩ := τ1h ⟨by omega, by omega⟩
    have hla : ∀ j, 0 ≤ j → j < τ1 0 1042 → τ1 22 (16 * a + j) = cds τ1 a j := by rw [τ10, τ1c]; exact hla0
    have hlb : ∀ j, 0 ≤ j → j < τ1 0 1042 → τ1 22 (16 * b + j) = cds τ1 b j := by rw [τ10, τ1c]; exact hlb0
    have he' : 4 ≤ τ1 0 1042 ∧ τ1 0 1042 ≤ 16 := by rw [τ10]; exact h1042
    have hr' : rowOK (τ1 0) := by rw [τ10]; exact hr
    refine g_aload_n hΓ rfl dX3_paired_9 ?_
    refine g_iload_n hΓ rfl dX3_paired_10 ?_
    refine g_iload_n hΓ rfl dX3_paired_11 ?_
    refine m_callV (As := [.int (iI a), .int (iI b)]) (rest := []) hok hΓ (m_pairedOf hok τ1 a b (by first | assumption | omega) (by first | assumption | omega) (by first | assumption | omega) (by first | assumption | omega) (by first | assumption | omega)) rfl q1734 q1736 qs94 q131 q1737 ndX3_pairedOf rfl (by decide) (by decide) rfl rfl (Nat.le_of_ble_eq_true rfl) dX3_paired_12 rfl (fun v3 τ3 τ3h => ?_)
    obtain ⟨rfl, τ3h, τ3f⟩ := τ3h
    show gW Γ E (mM E h ad τ3) 0 0 _ _ (.int (iI (prd τ1 a b)) :: _)
    refine g_topi (show (prd τ1 a b : Int) = (prd σ a b) by simp only [τ10, τ1n, τ1u, τ1c, τ1b, τ1E, τ1W, τ1P]) ?_
    refine g_goto (tgt := 19) hΓ dX3_paired_15 (by decide) ?_
    exact m_iret hΓ dX3_paired_19 ⟨ri (by rw [sp_paired]; first | (rw [if_neg (by omega)]; done) | (rw [if_pos (by omega)])), trivial, (fun k j hk => ((τ3f k j (fun e => hk ((show ∀ x ∈ [23], x ∈ [22, 23] by decide) k e))).trans (τ1f k j (fun e => hk ((show ∀ x ∈ [22], x ∈ [22, 23] by decide) k e)))))⟩
set_option maxHeartbeats 4000000 in
theorem m_wide {l : Launch} {E : gE} {h : Nat} {ad : Nat → Nat} (hok : mOK E h ad) (σ : mS)  (a : Int) (b : Int) (ha : r32 a) (hb : r32 b) (hr : rowOK (σ 0)) : mC l E h ad yX3_wide cX3_wide 5 (some .int) 6 [.ref h, .int (iI a), .int (iI b)] σ (fun rv σ' => rv = some (.int (iI (sp_wide σ a b))) ∧ (True) ∧ ∀ (k : Nat) (j : Int), k ∉ [22, 23] → σ' k j = σ k j) := by
  refine mC.of (by decide) [some (.ref h), some (.int (iI a)), some (.int (iI b)), none, none] (Nat.le_of_ble_eq_true rfl) rfl rfl (fun Γ hΓ => ?_)
  obtain ⟨h1000, h1009, h1042, h1043, h1044, h1045, h1046, h1047, hms, hsi, hsm, hnm⟩ := id hr
  refine g_aload_n hΓ rfl dX3_wide_0 ?_
  refine g_iload_n hΓ rfl dX3_wide_1 ?_
  refine g_iload_n hΓ rfl dX3_wide_2 ?_
  refine m_callV (As := [.int (iI a), .int (iI b)]) (rest := []) hok hΓ (m_areStrokes hok σ a b (by first | assumption | omega) (by first | assumption | omega) (by first | assumption | omega)) rfl q1700 q1702 qs89 q131 q1703 ndX3_areStrokes rfl (by decide) (by decide) rfl rfl (Nat.le_of_ble_eq_true rfl) dX3_wide_3 rfl (fun v1 τ1 τ1h => ?_)
  obtain ⟨rfl, τ1h, τ1f⟩ := τ1h
  show gW Γ E (mM E h ad τ1) 0 0 _ _ (.int (iI (if tol σ a ≠ -1 ∧ tol σ b ≠ -1 then 1 else 0)) :: _)
  have τ10 : τ1 0 = σ 0 := funext fun j => (τ1f 0 j (by decide))
  have τ17 : τ1 7 = σ 7 := funext fun j => (τ1f 7 j (by decide))
  have τ18 : τ1 8 = σ 8 := funext fun j => (τ1f 8 j (by decide))
  have τ1n := np_same τ10 τ18
  have τ1u := nu_same τ10 τ17
  have τ1c := cds_same τ10 τ17 τ18
  have τ1b := cdb_same τ10 τ17 τ18
  have τ1E := els_same τ10 τ17 τ18
  have τ1W := sp_way_same τ10 τ17 τ18
  have τ1P := prd_same τ10 τ17 τ18
  have ta := tol_ok hr a
  have tb := tol_ok hr b
  refine g_ifB_ne (tgt := 11) hΓ  dX3_wide_6 (by decide) (fun c2 => ?_) (fun c2 => ?_)
  · rcases ta with ta | ⟨ta, ta0, ta1, tas⟩
    · exact absurd ta (by omega)
    rcases tb with tb | ⟨tb, tb0, tb1, tbs⟩
    · exact absurd tb (by omega)
    obtain ⟨hla0, hlb0⟩ := τ1h ⟨by omega, by omega⟩
    have hla : ∀ j, 0 ≤ j → j < τ1 0 1042 → τ1 22 (16 * a + j) = cds τ1 a j := by rw [τ10, τ1c]; exact hla0
    have hlb : ∀ j, 0 ≤ j → j < τ1 0 1042 → τ1 22 (16 * b + j) = cds τ1 b j := by rw [τ10, τ1c]; exact hlb0
    have he' : 4 ≤ τ1 0 1042 ∧ τ1 0 1042 ≤ 16 := by rw [τ10]; exact h1042
    have hr' : rowOK (τ1 0) := by rw [τ10]; exact hr
    refine g_aload_n hΓ rfl dX3_wide_11 ?_
    refine g_iload_n hΓ rfl dX3_wide_12 ?_
    refine g_iload_n hΓ rfl dX3_wide_13 ?_
    refine g_iconst hΓ dX3_wide_14 ?_
    refine g_bipush hΓ (by decide) dX3_wide_15 ?_
    refine m_callV (As := [.int (iI a), .int (iI b), .int (iI 0), .int (iI 16)]) (rest := []) hok hΓ (m_elasticOf hok τ1 a b 0 16 (by first | assumption | omega) (by first | assumption | omega) (by first | assumption | omega) (by first | assumption | omega) (by first | assumption | omega) (by first | assumption | omega) (by first | assumption | omega)) rfl q1708 q1710 qs91 q131 q1711 ndX3_elasticOf rfl (by decide) (by decide) rfl rfl (Nat.le_of_ble_eq_true rfl) dX3_wide_17 rfl (fun v3 τ3 τ3h => ?_)
    obtain ⟨rfl, τ3h, τ3f⟩ := τ3h
    show gW Γ E (mM E h ad τ3) 0 0 _ _ (.int (iI (els τ1 a b 0 16)) :: _)
    refine g_topi (show (els τ1 a b 0 16 : Int) = (els σ a b 0 16) by simp only [τ10, τ1n, τ1u, τ1c, τ1b, τ1E, τ1W, τ1P]) ?_
    obtain ⟨x4, ex4⟩ : ∃ z9 : Int, z9 = els σ a b 0 16 := ⟨_, rfl⟩
    refine g_topi ex4.symm ?_
    refine g_istore_n hΓ dX3_wide_20 rfl (Nat.le_of_ble_eq_true rfl) (lv' := [some (.ref h), some (.int (iI a)), some (.int (iI b)), some (.int (iI x4)), none]) rfl ?_
    refine g_iconst hΓ dX3_wide_21 ?_
    refine g_istore hΓ dX3_wide_22 rfl (Nat.le_of_ble_eq_true rfl) (lv' := [some (.ref h), some (.int (iI a)), some (.int (iI b)), some (.int (iI x4)), some (.int (iI 0))]) rfl ?_
    have hdr := els_r σ a b 0 16
    have loop : ∀ (fu : Nat) (q : Int) (t : mS), (16 - q).toNat < fu → (0 ≤ q ∧ q ≤ 16) → (widF (els σ a b 0) (els σ a b 0 16) (16 - q).toNat q = widF (els σ a b 0) (els σ a b 0 16) 16 0) → (∀ (k : Nat) (j : Int), k ∉ [23] → t k j = τ1 k j) → gW Γ E (mM E h ad t) 0 0 24 [some (.ref h), some (.int (iI a)), some (.int (iI b)), some (.int (iI x4)), some (.int (iI q))] [] := by
      intro fu
      induction fu with
      | zero => intro q t hn; exact absurd hn (Nat.not_lt_zero _)
      | succ fu ih_loop =>
        intro q t hn hq hv tf
        have t0 : t 0 = σ 0 := funext fun j => ((tf 0 j (by decide)).trans (τ1f 0 j (by decide)))
        have t7 : t 7 = σ 7 := funext fun j => ((tf 7 j (by decide)).trans (τ1f 7 j (by decide)))
        have t8 : t 8 = σ 8 := funext fun j => ((tf 8 j (by decide)).trans (τ1f 8 j (by decide)))
        have tn := np_same t0 t8
        have tu := nu_same t0 t7
        have tc := cds_same t0 t7 t8
        have tb := cdb_same t0 t7 t8
        have tE := els_same t0 t7 t8
        have tW := sp_way_same t0 t7 t8
        have tP := prd_same t0 t7 t8
        have t22 : t 22 = τ1 22 := funext fun j => tf 22 j (by decide)
        have hla2 : ∀ j, 0 ≤ j → j < t 0 1042 → t 22 (16 * a + j) = cds t a j := by rw [t0, tc, t22]; exact hla0
        have hlb2 : ∀ j, 0 ≤ j → j < t 0 1042 → t 22 (16 * b + j) = cds t b j := by rw [t0, tc, t22]; exact hlb0
        have he2 : 4 ≤ t 0 1042 ∧ t 0 1042 ≤ 16 := by rw [t0]; exact h1042
        have rq := els_r σ a b 0 q
        refine g_aload_n hΓ rfl dX3_wide_24 ?_
        refine g_iload_n hΓ rfl dX3_wide_25 ?_
        refine g_iload_n hΓ rfl dX3_wide_26 ?_
        refine g_iconst hΓ dX3_wide_27 ?_
        refine g_iload hΓ rfl dX3_wide_28 ?_
        refine m_callV (As := [.int (iI a), .int (iI b), .int (iI 0), .int (iI q)]) (rest := []) hok hΓ (m_elasticOf hok t a b 0 q (by first | assumption | omega) (by first | assumption | omega) (by first | assumption | omega) (by first | assumption | omega) (by first | assumption | omega) (by first | assumption | omega) (by first | assumption | omega)) rfl q1708 q1710 qs91 q131 q1711 ndX3_elasticOf rfl (by decide) (by decide) rfl rfl (Nat.le_of_ble_eq_true rfl) dX3_wide_30 rfl (fun v5 τ5 τ5h => ?_)
        obtain ⟨rfl, τ5h, τ5f⟩ := τ5h
        show gW Γ E (mM E h ad τ5) 0 0 _ _ (.int (iI (els t a b 0 q)) :: _)
        refine g_topi (show (els t a b 0 q : Int) = (els σ a b 0 q) by simp only [tE]) ?_
        refine g_iload_n hΓ rfl dX3_wide_33 ?_
        refine g_icmp_eq (tgt := 43) hΓ (by omega) (by omega) dX3_wide_34 (by decide) (fun c6 => ?_) (fun c6 => ?_)
        · refine g_iload hΓ rfl dX3_wide_43 ?_
          exact m_iret hΓ dX3_wide_45 ⟨ri (by rw [sp_wide, if_pos (by omega), ← hv]; by_cases z : q = 16; subst z; rfl; rw [show (16 - q).toNat = (15 - q).toNat + 1 by omega, widF, if_pos (by omega)]), trivial, (fun k j hk => (((τ5f k j (fun e => hk ((show ∀ x ∈ [23], x ∈ [22, 23] by decide) k e))).trans (tf k j (fun e => hk ((show ∀ x ∈ [23], x ∈ [22, 23] by decide) k e)))).trans (τ1f k j (fun e => hk ((show ∀ x ∈ [22], x ∈ [22, 23] by decide) k e)))))⟩
        · have hq16 : q ≠ 16 := by
            intro z
            subst z
            omega
          obtain ⟨x7, ex7⟩ : ∃ z9 : Int, z9 = q + 1 := ⟨_, rfl⟩
          refine g_iinc hΓ dX3_wide_37 rfl rfl (lv' := [some (.ref h), some (.int (iI a)), some (.int (iI b)), some (.int (iI x4)), some (.int (iI x7))]) (by rw [ex7]; rfl) ?_
          refine g_goto (tgt := 24) hΓ dX3_wide_40 (by decide) ?_
          exact ih_loop x7 τ5 (by omega) (by omega) (by rw [← hv, show (16 - q).toNat = (16 - x7).toNat + 1 by omega, widF, if_neg (by omega), ex7]) (fun k' j' hk' => (τ5f k' j' hk').trans (tf k' j' hk'))
    exact loop 17 0 τ3 (by omega) (by omega) rfl τ3f
  · refine g_iconst hΓ dX3_wide_9 ?_
    exact m_iret hΓ dX3_wide_10 ⟨ri (by rw [sp_wide, if_neg (by omega)]), trivial, (fun k j hk => (τ1f k j (fun e => hk ((show ∀ x ∈ [22], x ∈ [22, 23] by decide) k e))))⟩
set_option maxHeartbeats 4000000 in
theorem m_way {l : Launch} {E : gE} {h : Nat} {ad : Nat → Nat} (hok : mOK E h ad) (σ : mS)  (a : Int) (b : Int) (k : Int) (w : Int) (ha : r32 a) (hb : r32 b) (hk : r32 k) (hw : r32 w) (hr : rowOK (σ 0)) : mC l E h ad yX3_way cX3_way 10 (some .int) 6 [.ref h, .int (iI a), .int (iI b), .int (iI k), .int (iI w)] σ (fun rv σ' => rv = some (.int (iI (sp_way σ a b k w))) ∧ (True) ∧ ∀ (k : Nat) (j : Int), k ∉ [22, 23] → σ' k j = σ k j) := by
  refine mC.of (by decide) [some (.ref h), some (.int (iI a)), some (.int (iI b)), some (.int (iI k)), some (.int (iI w)), none, none, none, none, none] (Nat.le_of_ble_eq_true rfl) rfl rfl (fun Γ hΓ => ?_)
  obtain ⟨h1000, h1009, h1042, h1043, h1044, h1045, h1046, h1047, hms, hsi, hsm, hnm⟩ := id hr
  refine g_aload_n hΓ rfl dX3_way_0 ?_
  refine g_iload_n hΓ rfl dX3_way_1 ?_
  refine g_iload_n hΓ rfl dX3_way_2 ?_
  refine m_callV (As := [.int (iI a), .int (iI b)]) (rest := []) hok hΓ (m_areStrokes hok σ a b (by first | assumption | omega) (by first | assumption | omega) (by first | assumption | omega)) rfl q1700 q1702 qs89 q131 q1703 ndX3_areStrokes rfl (by decide) (by decide) rfl rfl (Nat.le_of_ble_eq_true rfl) dX3_way_3 rfl (fun v1 τ1 τ1h => ?_)
  obtain ⟨rfl, τ1h, τ1f⟩ := τ1h
  show gW Γ E (mM E h ad τ1) 0 0 _ _ (.int (iI (if tol σ a ≠ -1 ∧ tol σ b ≠ -1 then 1 else 0)) :: _)
  have τ10 : τ1 0 = σ 0 := funext fun j => (τ1f 0 j (by decide))
  have τ17 : τ1 7 = σ 7 := funext fun j => (τ1f 7 j (by decide))
  have τ18 : τ1 8 = σ 8 := funext fun j => (τ1f 8 j (by decide))
  have τ1n := np_same τ10 τ18
  have τ1u := nu_same τ10 τ17
  have τ1c := cds_same τ10 τ17 τ18
  have τ1b := cdb_same τ10 τ17 τ18
  have τ1E := els_same τ10 τ17 τ18
  have τ1W := sp_way_same τ10 τ17 τ18
  have τ1P := prd_same τ10 τ17 τ18
  have ta := tol_ok hr a
  have tb := tol_ok hr b
  refine g_ifB_eq (tgt := 29) hΓ  dX3_way_6 (by decide) (fun c2 => ?_) (fun c2 => ?_)
  · refine g_iconst hΓ dX3_way_29 ?_
    exact m_iret hΓ dX3_way_30 ⟨ri (by rw [sp_way, if_pos (by omega)]), trivial, (fun k j hk => (τ1f k j (fun e => hk ((show ∀ x ∈ [22], x ∈ [22, 23] by decide) k e))))⟩
  · refine g_iload_n hΓ rfl dX3_way_9 ?_
    refine g_iconst hΓ dX3_way_10 ?_
    refine g_icmp_lt (tgt := 29) hΓ (by omega) (by omega) dX3_way_11 (by decide) (fun c3 => ?_) (fun c3 => ?_)
    · refine g_iconst hΓ dX3_way_29 ?_
      exact m_iret hΓ dX3_way_30 ⟨ri (by rw [sp_way, if_pos (by omega)]), trivial, (fun k j hk => (τ1f k j (fun e => hk ((show ∀ x ∈ [22], x ∈ [22, 23] by decide) k e))))⟩
    · refine g_iload_n hΓ rfl dX3_way_14 ?_
      refine g_iconst hΓ dX3_way_15 ?_
      refine g_icmp_eq (tgt := 31) hΓ (by omega) (by omega) dX3_way_16 (by decide) (fun c4 => ?_) (fun c4 => ?_)
      · rcases ta with ta | ⟨ta, ta0, ta1, tas⟩
        · exact absurd ta (by omega)
        rcases tb with tb | ⟨tb, tb0, tb1, tbs⟩
        · exact absurd tb (by omega)
        obtain ⟨hla0, hlb0⟩ := τ1h ⟨by omega, by omega⟩
        have hla : ∀ j, 0 ≤ j → j < τ1 0 1042 → τ1 22 (16 * a + j) = cds τ1 a j := by rw [τ10, τ1c]; exact hla0
        have hlb : ∀ j, 0 ≤ j → j < τ1 0 1042 → τ1 22 (16 * b + j) = cds τ1 b j := by rw [τ10, τ1c]; exact hlb0
        have he' : 4 ≤ τ1 0 1042 ∧ τ1 0 1042 ≤ 16 := by rw [τ10]; exact h1042
        have hr' : rowOK (τ1 0) := by rw [τ10]; exact hr
        refine g_aload_n hΓ rfl dX3_way_31 ?_
        refine g_iload_n hΓ rfl dX3_way_32 ?_
        refine g_iload_n hΓ rfl dX3_way_33 ?_
        refine g_iconst hΓ dX3_way_34 ?_
        refine g_aload_n hΓ rfl dX3_way_35 ?_
        refine m_geta hok hΓ 0 (by decide) rfl rfl q1357 rfl dX3_way_36 ?_
        refine g_sipush hΓ (by decide) dX3_way_39 ?_
        refine m_ald hok hΓ 0 (by decide) rfl (n := 1048) rfl (by omega) (by decide) dX3_way_42 ?_
        refine g_topi ((τ1f 0 1043 (by decide))) ?_
        refine m_callV (As := [.int (iI a), .int (iI b), .int (iI 0), .int (iI (σ 0 1043))]) (rest := []) hok hΓ (m_elasticOf hok τ1 a b 0 (σ 0 1043) (by first | assumption | omega) (by first | assumption | omega) (by first | assumption | omega) (by first | assumption | omega) (by first | assumption | omega) (by first | assumption | omega) (by first | assumption | omega)) rfl q1708 q1710 qs91 q131 q1711 ndX3_elasticOf rfl (by decide) (by decide) rfl rfl (Nat.le_of_ble_eq_true rfl) dX3_way_43 rfl (fun v5 τ5 τ5h => ?_)
        obtain ⟨rfl, τ5h, τ5f⟩ := τ5h
        show gW Γ E (mM E h ad τ5) 0 0 _ _ (.int (iI (els τ1 a b 0 (σ 0 1043))) :: _)
        refine g_topi (show (els τ1 a b 0 (σ 0 1043) : Int) = (els σ a b 0 (σ 0 1043)) by simp only [τ10, τ1n, τ1u, τ1c, τ1b, τ1E, τ1W, τ1P]) ?_
        refine g_pop hΓ rfl dX3_way_46 ?_
        refine g_iconst hΓ dX3_way_47 ?_
        refine g_istore hΓ dX3_way_48 rfl (Nat.le_of_ble_eq_true rfl) (lv' := [some (.ref h), some (.int (iI a)), some (.int (iI b)), some (.int (iI k)), some (.int (iI w)), some (.int (iI 0)), none, none, none, none]) rfl ?_
        refine g_iconst hΓ dX3_way_50 ?_
        refine g_istore hΓ dX3_way_51 rfl (Nat.le_of_ble_eq_true rfl) (lv' := [some (.ref h), some (.int (iI a)), some (.int (iI b)), some (.int (iI k)), some (.int (iI w)), some (.int (iI 0)), some (.int (iI 0)), none, none, none]) rfl ?_
        refine g_iconst hΓ dX3_way_53 ?_
        refine g_istore hΓ dX3_way_54 rfl (Nat.le_of_ble_eq_true rfl) (lv' := [some (.ref h), some (.int (iI a)), some (.int (iI b)), some (.int (iI k)), some (.int (iI w)), some (.int (iI 0)), some (.int (iI 0)), some (.int (iI 0)), none, none]) rfl ?_
        refine g_aload_n hΓ rfl dX3_way_56 ?_
        refine m_geta hok hΓ 0 (by decide) rfl rfl q1357 rfl dX3_way_57 ?_
        refine g_sipush hΓ (by decide) dX3_way_60 ?_
        refine m_ald hok hΓ 0 (by decide) rfl (n := 1048) rfl (by omega) (by decide) dX3_way_63 ?_
        refine g_topi (((τ5f 0 1042 (by decide)).trans (τ1f 0 1042 (by decide)))) ?_
        refine g_iconst hΓ dX3_way_64 ?_
        refine g_isub hΓ dX3_way_65 ?_
        obtain ⟨x6, ex6⟩ : ∃ z9 : Int, z9 = (σ 0 1042) - 1 := ⟨_, rfl⟩
        refine g_topi ex6.symm ?_
        refine g_istore hΓ dX3_way_66 rfl (Nat.le_of_ble_eq_true rfl) (lv' := [some (.ref h), some (.int (iI a)), some (.int (iI b)), some (.int (iI k)), some (.int (iI w)), some (.int (iI 0)), some (.int (iI 0)), some (.int (iI 0)), some (.int (iI x6)), none]) rfl ?_
        have τ50 : τ5 0 = σ 0 := funext fun j => ((τ5f 0 j (by decide)).trans (τ1f 0 j (by decide)))
        have τ57 : τ5 7 = σ 7 := funext fun j => ((τ5f 7 j (by decide)).trans (τ1f 7 j (by decide)))
        have τ58 : τ5 8 = σ 8 := funext fun j => ((τ5f 8 j (by decide)).trans (τ1f 8 j (by decide)))
        have τ5n := np_same τ50 τ58
        have τ5u := nu_same τ50 τ57
        have τ5c := cds_same τ50 τ57 τ58
        have τ5b := cdb_same τ50 τ57 τ58
        have τ5E := els_same τ50 τ57 τ58
        have τ5W := sp_way_same τ50 τ57 τ58
        have τ5P := prd_same τ50 τ57 τ58
        have hT : ∀ i' j', 0 ≤ i' → i' < σ 0 1042 → 0 ≤ j' → j' < σ 0 1042 → τ5 23 (16 * i' + j') = elT (csd σ a b 0) (σ 0 1042) (σ 0 1043) i' j' := by
          intro i' j' h1 h2 h3 h4
          rw [τ5h i' j' h1 (by rw [τ10]; exact h2) h3 (by rw [τ10]; exact h4), csd_same τ10 τ17 τ18, τ10]
        have τ522 : τ5 22 = τ1 22 := funext fun j => τ5f 22 j (by decide)
        have hla2 : ∀ j, 0 ≤ j → j < τ5 0 1042 → τ5 22 (16 * a + j) = cds τ5 a j := by rw [τ50, τ5c, τ522]; exact hla0
        have hlb2 : ∀ j, 0 ≤ j → j < τ5 0 1042 → τ5 22 (16 * b + j) = cds τ5 b j := by rw [τ50, τ5c, τ522]; exact hlb0
        have he2 : 4 ≤ τ5 0 1042 ∧ τ5 0 1042 ≤ 16 := by rw [τ50]; exact h1042
        have hcr := csd_r σ a b 0
        have hrat : ∀ i' j', 0 ≤ i' → 0 ≤ j' → rat τ5 i' j' = rsE (csd σ a b 0) (σ 0 1042) (σ 0 1043) i' j' := by
          intro i' j' h1 h2
          rw [rat, rsE, τ50]
          split
          · exact hT _ _ (by omega) (by omega) (by omega) (by omega)
          · rfl
        have hdg := elT_diag hcr (w := σ 0 1043) (e := σ 0 1042) (by omega) (by omega) (σ 0 1042 - 1).toNat 0 (by omega) (by omega)
        have loop : ∀ (fu : Nat) (i : Int) (j : Int) (n9 : Int), (32 - i - j).toNat < fu → (0 ≤ i ∧ i < σ 0 1042 ∧ 0 ≤ j ∧ j < σ 0 1042 ∧ 0 ≤ n9 ∧ n9 ≤ i + j) → (elT (csd σ a b 0) (σ 0 1042) (σ 0 1043) i j < 100000000) → (wayL (csd σ a b 0) (σ 0 1042) (σ 0 1043) k (32 - n9).toNat (i, j) n9 = wayE σ a b k) → gW Γ E (mM E h ad τ5) 0 0 68 [some (.ref h), some (.int (iI a)), some (.int (iI b)), some (.int (iI k)), some (.int (iI w)), some (.int (iI i)), some (.int (iI j)), some (.int (iI n9)), some (.int (iI x6)), none] [] := by
          intro fu
          induction fu with
          | zero => intro i j n9 hn; exact absurd hn (Nat.not_lt_zero _)
          | succ fu ih_loop =>
            intro i j n9 hn hij hf hv
            refine g_iload hΓ rfl dX3_way_68 ?_
            refine g_iload_n hΓ rfl dX3_way_70 ?_
            refine g_icmp_eq (tgt := 179) hΓ (by omega) (by omega) dX3_way_71 (by decide) (fun c7 => ?_) (fun c7 => ?_)
            · have hst : wayE σ a b k = ((i, j), n9) := by rw [← hv]; exact wayL_stop (by simp only; omega) _
              refine g_iload_n hΓ rfl dX3_way_179 ?_
              refine g_iconst hΓ dX3_way_180 ?_
              refine g_icmp_ne (tgt := 189) hΓ (by omega) (by omega) dX3_way_181 (by decide) (fun c8 => ?_) (fun c8 => ?_)
              · refine g_iload hΓ rfl dX3_way_189 ?_
                refine g_iload_n hΓ rfl dX3_way_191 ?_
                refine g_icmp_ge (tgt := 199) hΓ (by omega) (by omega) dX3_way_192 (by decide) (fun c9 => ?_) (fun c9 => ?_)
                · refine g_iload hΓ rfl dX3_way_199 ?_
                  refine g_if_ne (tgt := 209) hΓ (by omega) dX3_way_201 (by decide) (fun c10 => ?_) (fun c10 => ?_)
                  · refine g_iload hΓ rfl dX3_way_209 ?_
                    exact m_iret hΓ dX3_way_211 ⟨ri (by rw [sp_way, if_neg (by omega), hst]; simp only; (repeat' split) <;> omega), trivial, (fun k j hk => ((τ5f k j (fun e => hk ((show ∀ x ∈ [23], x ∈ [22, 23] by decide) k e))).trans (τ1f k j (fun e => hk ((show ∀ x ∈ [22], x ∈ [22, 23] by decide) k e)))))⟩
                  · refine g_iload hΓ rfl dX3_way_204 ?_
                    refine g_goto (tgt := 211) hΓ dX3_way_206 (by decide) ?_
                    exact m_iret hΓ dX3_way_211 ⟨ri (by rw [sp_way, if_neg (by omega), hst]; simp only; (repeat' split) <;> omega), trivial, (fun k j hk => ((τ5f k j (fun e => hk ((show ∀ x ∈ [23], x ∈ [22, 23] by decide) k e))).trans (τ1f k j (fun e => hk ((show ∀ x ∈ [22], x ∈ [22, 23] by decide) k e)))))⟩
                · refine g_iconst hΓ dX3_way_195 ?_
                  refine g_goto (tgt := 211) hΓ dX3_way_196 (by decide) ?_
                  exact m_iret hΓ dX3_way_211 ⟨ri (by rw [sp_way, if_neg (by omega), hst]; simp only; (repeat' split) <;> omega), trivial, (fun k j hk => ((τ5f k j (fun e => hk ((show ∀ x ∈ [23], x ∈ [22, 23] by decide) k e))).trans (τ1f k j (fun e => hk ((show ∀ x ∈ [22], x ∈ [22, 23] by decide) k e)))))⟩
              · refine g_iload hΓ rfl dX3_way_184 ?_
                refine g_iconst hΓ dX3_way_186 ?_
                refine g_iadd hΓ dX3_way_187 ?_
                exact m_iret hΓ dX3_way_188 ⟨ri (by rw [sp_way, if_neg (by omega), hst]; simp only; (repeat' split) <;> omega), trivial, (fun k j hk => ((τ5f k j (fun e => hk ((show ∀ x ∈ [23], x ∈ [22, 23] by decide) k e))).trans (τ1f k j (fun e => hk ((show ∀ x ∈ [22], x ∈ [22, 23] by decide) k e)))))⟩
            · refine g_iload hΓ rfl dX3_way_74 ?_
              refine g_iload hΓ rfl dX3_way_76 ?_
              refine g_icmp_ne (tgt := 88) hΓ (by omega) (by omega) dX3_way_78 (by decide) (fun c11 => ?_) (fun c11 => ?_)
              · have hx := nxt_ok hcr (e := σ 0 1042) (w := σ 0 1043) (p := (i, j)) (by simp only; omega) (by simp only; omega) hf (by simp only; omega)
                simp only at hx
                have k0 := hT i j (by omega) (by omega) (by omega) (by omega)
                have k1 := hrat (i + 1) (j + 1) (by omega) (by omega)
                have k2 := hrat (i + 1) j (by omega) (by omega)
                have q1 := cdb_r σ a i 0
                have q2 := cdb_r σ b j 0
                have q3 := elT_r (c := (csd σ a b 0)) (e := σ 0 1042) (w := σ 0 1043) (i := i) (j := j) hcr
                have q4 := rsE_r (c := (csd σ a b 0)) (e := σ 0 1042) (w := σ 0 1043) (i := i + 1) (j := j + 1) hcr
                have q5 := rsE_r (c := (csd σ a b 0)) (e := σ 0 1042) (w := σ 0 1043) (i := i + 1) (j := j) hcr
                have q6 : csd σ a b 0 i j = apt (cdb σ a i 0) (cdb σ b j 0) := rfl
                have q7 := hcr i j
                refine g_aload_n hΓ rfl dX3_way_88 ?_
                refine m_geta hok hΓ 23 (by decide) rfl rfl q1380 rfl dX3_way_89 ?_
                refine g_bipush hΓ (by decide) dX3_way_92 ?_
                refine g_iload hΓ rfl dX3_way_94 ?_
                refine g_imul hΓ dX3_way_96 ?_
                refine g_iload hΓ rfl dX3_way_97 ?_
                refine g_iadd hΓ dX3_way_99 ?_
                refine m_ald hok hΓ 23 (by decide) rfl (n := 256) rfl (by omega) (by decide) dX3_way_100 ?_
                refine g_aload_n hΓ rfl dX3_way_101 ?_
                refine g_iload_n hΓ rfl dX3_way_102 ?_
                refine g_iload hΓ rfl dX3_way_103 ?_
                refine g_iconst hΓ dX3_way_105 ?_
                refine m_callV (As := [.int (iI a), .int (iI i), .int (iI 0)]) (rest := [.int (iI (τ5 23 ((16 * i) + j)))]) hok hΓ (m_codeAt hok τ5 a i 0 (by first | assumption | omega | (simp only [τ50, τ5n, τ5u, τ5c, τ5b, τ5E, τ522]; first | assumption | omega) | (simp only [τ50, τ5n, τ5u, τ5c, τ5b, τ5E]; first | assumption | omega)) (by first | assumption | omega | (simp only [τ50, τ5n, τ5u, τ5c, τ5b, τ5E, τ522]; first | assumption | omega) | (simp only [τ50, τ5n, τ5u, τ5c, τ5b, τ5E]; first | assumption | omega)) (by first | assumption | omega | (simp only [τ50, τ5n, τ5u, τ5c, τ5b, τ5E, τ522]; first | assumption | omega) | (simp only [τ50, τ5n, τ5u, τ5c, τ5b, τ5E]; first | assumption | omega)) (by first | assumption | omega | (simp only [τ50, τ5n, τ5u, τ5c, τ5b, τ5E, τ522]; first | assumption | omega) | (simp only [τ50, τ5n, τ5u, τ5c, τ5b, τ5E]; first | assumption | omega)) (by first | assumption | omega | (simp only [τ50, τ5n, τ5u, τ5c, τ5b, τ5E, τ522]; first | assumption | omega) | (simp only [τ50, τ5n, τ5u, τ5c, τ5b, τ5E]; first | assumption | omega))) rfl q1717 q1719 qs93 q131 q1720 ndX3_codeAt rfl (by decide) (by decide) rfl rfl (Nat.le_of_ble_eq_true rfl) dX3_way_106 rfl (fun v12 τ12 τ12h => ?_)
                obtain ⟨rfl, τ12h⟩ := τ12h
                rw [τ12h]
                clear τ12h
                show gW Γ E (mM E h ad τ5) 0 0 _ _ (.int (iI (cdb τ5 a i 0)) :: _)
                refine g_topi (show (cdb τ5 a i 0 : Int) = (cdb σ a i 0) by simp only [τ50, τ5n, τ5u, τ5c, τ5b, τ5E, τ5W, τ5P]) ?_
                refine g_aload_n hΓ rfl dX3_way_109 ?_
                refine g_iload_n hΓ rfl dX3_way_110 ?_
                refine g_iload hΓ rfl dX3_way_111 ?_
                refine g_iconst hΓ dX3_way_113 ?_
                refine m_callV (As := [.int (iI b), .int (iI j), .int (iI 0)]) (rest := [.int (iI (cdb σ a i 0)), .int (iI (τ5 23 ((16 * i) + j)))]) hok hΓ (m_codeAt hok τ5 b j 0 (by first | assumption | omega | (simp only [τ50, τ5n, τ5u, τ5c, τ5b, τ5E, τ522]; first | assumption | omega) | (simp only [τ50, τ5n, τ5u, τ5c, τ5b, τ5E]; first | assumption | omega)) (by first | assumption | omega | (simp only [τ50, τ5n, τ5u, τ5c, τ5b, τ5E, τ522]; first | assumption | omega) | (simp only [τ50, τ5n, τ5u, τ5c, τ5b, τ5E]; first | assumption | omega)) (by first | assumption | omega | (simp only [τ50, τ5n, τ5u, τ5c, τ5b, τ5E, τ522]; first | assumption | omega) | (simp only [τ50, τ5n, τ5u, τ5c, τ5b, τ5E]; first | assumption | omega)) (by first | assumption | omega | (simp only [τ50, τ5n, τ5u, τ5c, τ5b, τ5E, τ522]; first | assumption | omega) | (simp only [τ50, τ5n, τ5u, τ5c, τ5b, τ5E]; first | assumption | omega)) (by first | assumption | omega | (simp only [τ50, τ5n, τ5u, τ5c, τ5b, τ5E, τ522]; first | assumption | omega) | (simp only [τ50, τ5n, τ5u, τ5c, τ5b, τ5E]; first | assumption | omega))) rfl q1717 q1719 qs93 q131 q1720 ndX3_codeAt rfl (by decide) (by decide) rfl rfl (Nat.le_of_ble_eq_true rfl) dX3_way_114 rfl (fun v13 τ13 τ13h => ?_)
                obtain ⟨rfl, τ13h⟩ := τ13h
                rw [τ13h]
                clear τ13h
                show gW Γ E (mM E h ad τ5) 0 0 _ _ (.int (iI (cdb τ5 b j 0)) :: _)
                refine g_topi (show (cdb τ5 b j 0 : Int) = (cdb σ b j 0) by simp only [τ50, τ5n, τ5u, τ5c, τ5b, τ5E, τ5W, τ5P]) ?_
                refine m_callS (As := [.int (iI (cdb σ a i 0)), .int (iI (cdb σ b j 0))]) (rest := [.int (iI (τ5 23 ((16 * i) + j)))]) hok hΓ (m_apart hok τ5 (cdb σ a i 0) (cdb σ b j 0) (by omega) (by omega)) rfl q1671 q1672 q131 q1673 ndX3_apart rfl (by decide) (by decide) rfl (Nat.le_of_ble_eq_true rfl) dX3_way_117 rfl (fun v14 τ14 τ14h => ?_)
                obtain ⟨rfl, τ14h⟩ := τ14h
                rw [τ14h]
                clear τ14h
                show gW Γ E (mM E h ad τ5) 0 0 _ _ (.int (iI (apt (cdb σ a i 0) (cdb σ b j 0))) :: _)
                refine g_isub hΓ dX3_way_120 ?_
                obtain ⟨x15, ex15⟩ : ∃ z9 : Int, z9 = (τ5 23 ((16 * i) + j)) - (apt (cdb σ a i 0) (cdb σ b j 0)) := ⟨_, rfl⟩
                refine g_topi ex15.symm ?_
                refine g_istore hΓ dX3_way_121 rfl (Nat.le_of_ble_eq_true rfl) (lv' := [some (.ref h), some (.int (iI a)), some (.int (iI b)), some (.int (iI k)), some (.int (iI w)), some (.int (iI i)), some (.int (iI j)), some (.int (iI n9)), some (.int (iI x6)), some (.int (iI x15))]) rfl ?_
                refine g_aload_n hΓ rfl dX3_way_123 ?_
                refine g_iload hΓ rfl dX3_way_124 ?_
                refine g_iconst hΓ dX3_way_126 ?_
                refine g_iadd hΓ dX3_way_127 ?_
                refine g_iload hΓ rfl dX3_way_128 ?_
                refine g_iconst hΓ dX3_way_130 ?_
                refine g_iadd hΓ dX3_way_131 ?_
                refine m_callV (As := [.int (iI (i + 1)), .int (iI (j + 1))]) (rest := []) hok hΓ (m_restAt hok τ5 (i + 1) (j + 1) (by first | assumption | omega | (simp only [τ50, τ5n, τ5u, τ5c, τ5b, τ5E, τ522]; first | assumption | omega) | (simp only [τ50, τ5n, τ5u, τ5c, τ5b, τ5E]; first | assumption | omega)) (by first | assumption | omega | (simp only [τ50, τ5n, τ5u, τ5c, τ5b, τ5E, τ522]; first | assumption | omega) | (simp only [τ50, τ5n, τ5u, τ5c, τ5b, τ5E]; first | assumption | omega)) (by first | assumption | omega | (simp only [τ50, τ5n, τ5u, τ5c, τ5b, τ5E, τ522]; first | assumption | omega) | (simp only [τ50, τ5n, τ5u, τ5c, τ5b, τ5E]; first | assumption | omega))) rfl q1712 q1714 qs92 q131 q1715 ndX3_restAt rfl (by decide) (by decide) rfl rfl (Nat.le_of_ble_eq_true rfl) dX3_way_132 rfl (fun v16 τ16 τ16h => ?_)
                obtain ⟨rfl, τ16h⟩ := τ16h
                rw [τ16h]
                clear τ16h
                show gW Γ E (mM E h ad τ5) 0 0 _ _ (.int (iI (rat τ5 (i + 1) (j + 1))) :: _)
                refine g_iload hΓ rfl dX3_way_135 ?_
                refine g_icmp_ne (tgt := 149) hΓ (by omega) (by omega) dX3_way_137 (by decide) (fun c17 => ?_) (fun c17 => ?_)
                · refine g_aload_n hΓ rfl dX3_way_149 ?_
                  refine g_iload hΓ rfl dX3_way_150 ?_
                  refine g_iconst hΓ dX3_way_152 ?_
                  refine g_iadd hΓ dX3_way_153 ?_
                  refine g_iload hΓ rfl dX3_way_154 ?_
                  refine m_callV (As := [.int (iI (i + 1)), .int (iI j)]) (rest := []) hok hΓ (m_restAt hok τ5 (i + 1) j (by first | assumption | omega | (simp only [τ50, τ5n, τ5u, τ5c, τ5b, τ5E, τ522]; first | assumption | omega) | (simp only [τ50, τ5n, τ5u, τ5c, τ5b, τ5E]; first | assumption | omega)) (by first | assumption | omega | (simp only [τ50, τ5n, τ5u, τ5c, τ5b, τ5E, τ522]; first | assumption | omega) | (simp only [τ50, τ5n, τ5u, τ5c, τ5b, τ5E]; first | assumption | omega)) (by first | assumption | omega | (simp only [τ50, τ5n, τ5u, τ5c, τ5b, τ5E, τ522]; first | assumption | omega) | (simp only [τ50, τ5n, τ5u, τ5c, τ5b, τ5E]; first | assumption | omega))) rfl q1712 q1714 qs92 q131 q1715 ndX3_restAt rfl (by decide) (by decide) rfl rfl (Nat.le_of_ble_eq_true rfl) dX3_way_156 rfl (fun v18 τ18 τ18h => ?_)
                  obtain ⟨rfl, τ18h⟩ := τ18h
                  rw [τ18h]
                  clear τ18h
                  show gW Γ E (mM E h ad τ5) 0 0 _ _ (.int (iI (rat τ5 (i + 1) j)) :: _)
                  refine g_iload hΓ rfl dX3_way_159 ?_
                  refine g_icmp_ne (tgt := 170) hΓ (by omega) (by omega) dX3_way_161 (by decide) (fun c19 => ?_) (fun c19 => ?_)
                  · obtain ⟨x20, ex20⟩ : ∃ z9 : Int, z9 = j + 1 := ⟨_, rfl⟩
                    refine g_iinc hΓ dX3_way_170 rfl rfl (lv' := [some (.ref h), some (.int (iI a)), some (.int (iI b)), some (.int (iI k)), some (.int (iI w)), some (.int (iI i)), some (.int (iI x20)), some (.int (iI n9)), some (.int (iI x6)), some (.int (iI x15))]) (by rw [ex20]; rfl) ?_
                    have hxe : nxt (csd σ a b 0) (σ 0 1042) (σ 0 1043) (i, j) = (i, x20) := by
                      rw [nxt, if_neg (by simp only; omega), if_neg (by simp only; omega)]
                      rw [ex20]
                    have hy := hx
                    rw [hxe] at hy
                    simp only at hy
                    obtain ⟨x21, ex21⟩ : ∃ z9 : Int, z9 = n9 + 1 := ⟨_, rfl⟩
                    refine g_iinc hΓ dX3_way_173 rfl rfl (lv' := [some (.ref h), some (.int (iI a)), some (.int (iI b)), some (.int (iI k)), some (.int (iI w)), some (.int (iI i)), some (.int (iI x20)), some (.int (iI x21)), some (.int (iI x6)), some (.int (iI x15))]) (by rw [ex21]; rfl) ?_
                    refine g_goto (tgt := 68) hΓ dX3_way_176 (by decide) ?_
                    refine g_lvw (lv' := [some (.ref h), some (.int (iI a)), some (.int (iI b)), some (.int (iI k)), some (.int (iI w)), some (.int (iI i)), some (.int (iI x20)), some (.int (iI x21)), some (.int (iI x6)), none]) ⟨rfl, ⟨rfl, ⟨rfl, ⟨rfl, ⟨rfl, ⟨rfl, ⟨rfl, ⟨rfl, ⟨rfl, trivial⟩⟩⟩⟩⟩⟩⟩⟩⟩ ?_
                    exact ih_loop i x20 x21 (by omega) (by omega) (by have z := hx.2.2.2.2.2.1; rw [hxe] at z; exact z) (by rw [← hv, show (32 - n9).toNat = (32 - x21).toNat + 1 by omega, wayL, if_pos (by simp only; omega), hxe, ex21])
                  · obtain ⟨x22, ex22⟩ : ∃ z9 : Int, z9 = i + 1 := ⟨_, rfl⟩
                    refine g_iinc hΓ dX3_way_164 rfl rfl (lv' := [some (.ref h), some (.int (iI a)), some (.int (iI b)), some (.int (iI k)), some (.int (iI w)), some (.int (iI x22)), some (.int (iI j)), some (.int (iI n9)), some (.int (iI x6)), some (.int (iI x15))]) (by rw [ex22]; rfl) ?_
                    refine g_goto (tgt := 173) hΓ dX3_way_167 (by decide) ?_
                    have hxe : nxt (csd σ a b 0) (σ 0 1042) (σ 0 1043) (i, j) = (x22, j) := by
                      rw [nxt, if_neg (by simp only; omega), if_pos (by simp only; omega)]
                      rw [ex22]
                    have hy := hx
                    rw [hxe] at hy
                    simp only at hy
                    obtain ⟨x23, ex23⟩ : ∃ z9 : Int, z9 = n9 + 1 := ⟨_, rfl⟩
                    refine g_iinc hΓ dX3_way_173 rfl rfl (lv' := [some (.ref h), some (.int (iI a)), some (.int (iI b)), some (.int (iI k)), some (.int (iI w)), some (.int (iI x22)), some (.int (iI j)), some (.int (iI x23)), some (.int (iI x6)), some (.int (iI x15))]) (by rw [ex23]; rfl) ?_
                    refine g_goto (tgt := 68) hΓ dX3_way_176 (by decide) ?_
                    refine g_lvw (lv' := [some (.ref h), some (.int (iI a)), some (.int (iI b)), some (.int (iI k)), some (.int (iI w)), some (.int (iI x22)), some (.int (iI j)), some (.int (iI x23)), some (.int (iI x6)), none]) ⟨rfl, ⟨rfl, ⟨rfl, ⟨rfl, ⟨rfl, ⟨rfl, ⟨rfl, ⟨rfl, ⟨rfl, trivial⟩⟩⟩⟩⟩⟩⟩⟩⟩ ?_
                    exact ih_loop x22 j x23 (by omega) (by omega) (by have z := hx.2.2.2.2.2.1; rw [hxe] at z; exact z) (by rw [← hv, show (32 - n9).toNat = (32 - x23).toNat + 1 by omega, wayL, if_pos (by simp only; omega), hxe, ex23])
                · obtain ⟨x24, ex24⟩ : ∃ z9 : Int, z9 = i + 1 := ⟨_, rfl⟩
                  refine g_iinc hΓ dX3_way_140 rfl rfl (lv' := [some (.ref h), some (.int (iI a)), some (.int (iI b)), some (.int (iI k)), some (.int (iI w)), some (.int (iI x24)), some (.int (iI j)), some (.int (iI n9)), some (.int (iI x6)), some (.int (iI x15))]) (by rw [ex24]; rfl) ?_
                  obtain ⟨x25, ex25⟩ : ∃ z9 : Int, z9 = j + 1 := ⟨_, rfl⟩
                  refine g_iinc hΓ dX3_way_143 rfl rfl (lv' := [some (.ref h), some (.int (iI a)), some (.int (iI b)), some (.int (iI k)), some (.int (iI w)), some (.int (iI x24)), some (.int (iI x25)), some (.int (iI n9)), some (.int (iI x6)), some (.int (iI x15))]) (by rw [ex25]; rfl) ?_
                  refine g_goto (tgt := 173) hΓ dX3_way_146 (by decide) ?_
                  have hxe : nxt (csd σ a b 0) (σ 0 1042) (σ 0 1043) (i, j) = (x24, x25) := by
                    rw [nxt, if_pos (by simp only; omega)]
                    rw [ex24, ex25]
                  have hy := hx
                  rw [hxe] at hy
                  simp only at hy
                  obtain ⟨x26, ex26⟩ : ∃ z9 : Int, z9 = n9 + 1 := ⟨_, rfl⟩
                  refine g_iinc hΓ dX3_way_173 rfl rfl (lv' := [some (.ref h), some (.int (iI a)), some (.int (iI b)), some (.int (iI k)), some (.int (iI w)), some (.int (iI x24)), some (.int (iI x25)), some (.int (iI x26)), some (.int (iI x6)), some (.int (iI x15))]) (by rw [ex26]; rfl) ?_
                  refine g_goto (tgt := 68) hΓ dX3_way_176 (by decide) ?_
                  refine g_lvw (lv' := [some (.ref h), some (.int (iI a)), some (.int (iI b)), some (.int (iI k)), some (.int (iI w)), some (.int (iI x24)), some (.int (iI x25)), some (.int (iI x26)), some (.int (iI x6)), none]) ⟨rfl, ⟨rfl, ⟨rfl, ⟨rfl, ⟨rfl, ⟨rfl, ⟨rfl, ⟨rfl, ⟨rfl, trivial⟩⟩⟩⟩⟩⟩⟩⟩⟩ ?_
                  exact ih_loop x24 x25 x26 (by omega) (by omega) (by have z := hx.2.2.2.2.2.1; rw [hxe] at z; exact z) (by rw [← hv, show (32 - n9).toNat = (32 - x26).toNat + 1 by omega, wayL, if_pos (by simp only; omega), hxe, ex26])
              · refine g_iload hΓ rfl dX3_way_81 ?_
                refine g_iload hΓ rfl dX3_way_83 ?_
                refine g_icmp_eq (tgt := 179) hΓ (by omega) (by omega) dX3_way_85 (by decide) (fun c27 => ?_) (fun c27 => ?_)
                · have hst : wayE σ a b k = ((i, j), n9) := by rw [← hv]; exact wayL_stop (by simp only; omega) _
                  refine g_iload_n hΓ rfl dX3_way_179 ?_
                  refine g_iconst hΓ dX3_way_180 ?_
                  refine g_icmp_ne (tgt := 189) hΓ (by omega) (by omega) dX3_way_181 (by decide) (fun c28 => ?_) (fun c28 => ?_)
                  · refine g_iload hΓ rfl dX3_way_189 ?_
                    refine g_iload_n hΓ rfl dX3_way_191 ?_
                    refine g_icmp_ge (tgt := 199) hΓ (by omega) (by omega) dX3_way_192 (by decide) (fun c29 => ?_) (fun c29 => ?_)
                    · refine g_iload hΓ rfl dX3_way_199 ?_
                      refine g_if_ne (tgt := 209) hΓ (by omega) dX3_way_201 (by decide) (fun c30 => ?_) (fun c30 => ?_)
                      · refine g_iload hΓ rfl dX3_way_209 ?_
                        exact m_iret hΓ dX3_way_211 ⟨ri (by rw [sp_way, if_neg (by omega), hst]; simp only; (repeat' split) <;> omega), trivial, (fun k j hk => ((τ5f k j (fun e => hk ((show ∀ x ∈ [23], x ∈ [22, 23] by decide) k e))).trans (τ1f k j (fun e => hk ((show ∀ x ∈ [22], x ∈ [22, 23] by decide) k e)))))⟩
                      · refine g_iload hΓ rfl dX3_way_204 ?_
                        refine g_goto (tgt := 211) hΓ dX3_way_206 (by decide) ?_
                        exact m_iret hΓ dX3_way_211 ⟨ri (by rw [sp_way, if_neg (by omega), hst]; simp only; (repeat' split) <;> omega), trivial, (fun k j hk => ((τ5f k j (fun e => hk ((show ∀ x ∈ [23], x ∈ [22, 23] by decide) k e))).trans (τ1f k j (fun e => hk ((show ∀ x ∈ [22], x ∈ [22, 23] by decide) k e)))))⟩
                    · refine g_iconst hΓ dX3_way_195 ?_
                      refine g_goto (tgt := 211) hΓ dX3_way_196 (by decide) ?_
                      exact m_iret hΓ dX3_way_211 ⟨ri (by rw [sp_way, if_neg (by omega), hst]; simp only; (repeat' split) <;> omega), trivial, (fun k j hk => ((τ5f k j (fun e => hk ((show ∀ x ∈ [23], x ∈ [22, 23] by decide) k e))).trans (τ1f k j (fun e => hk ((show ∀ x ∈ [22], x ∈ [22, 23] by decide) k e)))))⟩
                  · refine g_iload hΓ rfl dX3_way_184 ?_
                    refine g_iconst hΓ dX3_way_186 ?_
                    refine g_iadd hΓ dX3_way_187 ?_
                    exact m_iret hΓ dX3_way_188 ⟨ri (by rw [sp_way, if_neg (by omega), hst]; simp only; (repeat' split) <;> omega), trivial, (fun k j hk => ((τ5f k j (fun e => hk ((show ∀ x ∈ [23], x ∈ [22, 23] by decide) k e))).trans (τ1f k j (fun e => hk ((show ∀ x ∈ [22], x ∈ [22, 23] by decide) k e)))))⟩
                · have hx := nxt_ok hcr (e := σ 0 1042) (w := σ 0 1043) (p := (i, j)) (by simp only; omega) (by simp only; omega) hf (by simp only; omega)
                  simp only at hx
                  have k0 := hT i j (by omega) (by omega) (by omega) (by omega)
                  have k1 := hrat (i + 1) (j + 1) (by omega) (by omega)
                  have k2 := hrat (i + 1) j (by omega) (by omega)
                  have q1 := cdb_r σ a i 0
                  have q2 := cdb_r σ b j 0
                  have q3 := elT_r (c := (csd σ a b 0)) (e := σ 0 1042) (w := σ 0 1043) (i := i) (j := j) hcr
                  have q4 := rsE_r (c := (csd σ a b 0)) (e := σ 0 1042) (w := σ 0 1043) (i := i + 1) (j := j + 1) hcr
                  have q5 := rsE_r (c := (csd σ a b 0)) (e := σ 0 1042) (w := σ 0 1043) (i := i + 1) (j := j) hcr
                  have q6 : csd σ a b 0 i j = apt (cdb σ a i 0) (cdb σ b j 0) := rfl
                  have q7 := hcr i j
                  refine g_aload_n hΓ rfl dX3_way_88 ?_
                  refine m_geta hok hΓ 23 (by decide) rfl rfl q1380 rfl dX3_way_89 ?_
                  refine g_bipush hΓ (by decide) dX3_way_92 ?_
                  refine g_iload hΓ rfl dX3_way_94 ?_
                  refine g_imul hΓ dX3_way_96 ?_
                  refine g_iload hΓ rfl dX3_way_97 ?_
                  refine g_iadd hΓ dX3_way_99 ?_
                  refine m_ald hok hΓ 23 (by decide) rfl (n := 256) rfl (by omega) (by decide) dX3_way_100 ?_
                  refine g_aload_n hΓ rfl dX3_way_101 ?_
                  refine g_iload_n hΓ rfl dX3_way_102 ?_
                  refine g_iload hΓ rfl dX3_way_103 ?_
                  refine g_iconst hΓ dX3_way_105 ?_
                  refine m_callV (As := [.int (iI a), .int (iI i), .int (iI 0)]) (rest := [.int (iI (τ5 23 ((16 * i) + j)))]) hok hΓ (m_codeAt hok τ5 a i 0 (by first | assumption | omega | (simp only [τ50, τ5n, τ5u, τ5c, τ5b, τ5E, τ522]; first | assumption | omega) | (simp only [τ50, τ5n, τ5u, τ5c, τ5b, τ5E]; first | assumption | omega)) (by first | assumption | omega | (simp only [τ50, τ5n, τ5u, τ5c, τ5b, τ5E, τ522]; first | assumption | omega) | (simp only [τ50, τ5n, τ5u, τ5c, τ5b, τ5E]; first | assumption | omega)) (by first | assumption | omega | (simp only [τ50, τ5n, τ5u, τ5c, τ5b, τ5E, τ522]; first | assumption | omega) | (simp only [τ50, τ5n, τ5u, τ5c, τ5b, τ5E]; first | assumption | omega)) (by first | assumption | omega | (simp only [τ50, τ5n, τ5u, τ5c, τ5b, τ5E, τ522]; first | assumption | omega) | (simp only [τ50, τ5n, τ5u, τ5c, τ5b, τ5E]; first | assumption | omega)) (by first | assumption | omega | (simp only [τ50, τ5n, τ5u, τ5c, τ5b, τ5E, τ522]; first | assumption | omega) | (simp only [τ50, τ5n, τ5u, τ5c, τ5b, τ5E]; first | assumption | omega))) rfl q1717 q1719 qs93 q131 q1720 ndX3_codeAt rfl (by decide) (by decide) rfl rfl (Nat.le_of_ble_eq_true rfl) dX3_way_106 rfl (fun v31 τ31 τ31h => ?_)
                  obtain ⟨rfl, τ31h⟩ := τ31h
                  rw [τ31h]
                  clear τ31h
                  show gW Γ E (mM E h ad τ5) 0 0 _ _ (.int (iI (cdb τ5 a i 0)) :: _)
                  refine g_topi (show (cdb τ5 a i 0 : Int) = (cdb σ a i 0) by simp only [τ50, τ5n, τ5u, τ5c, τ5b, τ5E, τ5W, τ5P]) ?_
                  refine g_aload_n hΓ rfl dX3_way_109 ?_
                  refine g_iload_n hΓ rfl dX3_way_110 ?_
                  refine g_iload hΓ rfl dX3_way_111 ?_
                  refine g_iconst hΓ dX3_way_113 ?_
                  refine m_callV (As := [.int (iI b), .int (iI j), .int (iI 0)]) (rest := [.int (iI (cdb σ a i 0)), .int (iI (τ5 23 ((16 * i) + j)))]) hok hΓ (m_codeAt hok τ5 b j 0 (by first | assumption | omega | (simp only [τ50, τ5n, τ5u, τ5c, τ5b, τ5E, τ522]; first | assumption | omega) | (simp only [τ50, τ5n, τ5u, τ5c, τ5b, τ5E]; first | assumption | omega)) (by first | assumption | omega | (simp only [τ50, τ5n, τ5u, τ5c, τ5b, τ5E, τ522]; first | assumption | omega) | (simp only [τ50, τ5n, τ5u, τ5c, τ5b, τ5E]; first | assumption | omega)) (by first | assumption | omega | (simp only [τ50, τ5n, τ5u, τ5c, τ5b, τ5E, τ522]; first | assumption | omega) | (simp only [τ50, τ5n, τ5u, τ5c, τ5b, τ5E]; first | assumption | omega)) (by first | assumption | omega | (simp only [τ50, τ5n, τ5u, τ5c, τ5b, τ5E, τ522]; first | assumption | omega) | (simp only [τ50, τ5n, τ5u, τ5c, τ5b, τ5E]; first | assumption | omega)) (by first | assumption | omega | (simp only [τ50, τ5n, τ5u, τ5c, τ5b, τ5E, τ522]; first | assumption | omega) | (simp only [τ50, τ5n, τ5u, τ5c, τ5b, τ5E]; first | assumption | omega))) rfl q1717 q1719 qs93 q131 q1720 ndX3_codeAt rfl (by decide) (by decide) rfl rfl (Nat.le_of_ble_eq_true rfl) dX3_way_114 rfl (fun v32 τ32 τ32h => ?_)
                  obtain ⟨rfl, τ32h⟩ := τ32h
                  rw [τ32h]
                  clear τ32h
                  show gW Γ E (mM E h ad τ5) 0 0 _ _ (.int (iI (cdb τ5 b j 0)) :: _)
                  refine g_topi (show (cdb τ5 b j 0 : Int) = (cdb σ b j 0) by simp only [τ50, τ5n, τ5u, τ5c, τ5b, τ5E, τ5W, τ5P]) ?_
                  refine m_callS (As := [.int (iI (cdb σ a i 0)), .int (iI (cdb σ b j 0))]) (rest := [.int (iI (τ5 23 ((16 * i) + j)))]) hok hΓ (m_apart hok τ5 (cdb σ a i 0) (cdb σ b j 0) (by omega) (by omega)) rfl q1671 q1672 q131 q1673 ndX3_apart rfl (by decide) (by decide) rfl (Nat.le_of_ble_eq_true rfl) dX3_way_117 rfl (fun v33 τ33 τ33h => ?_)
                  obtain ⟨rfl, τ33h⟩ := τ33h
                  rw [τ33h]
                  clear τ33h
                  show gW Γ E (mM E h ad τ5) 0 0 _ _ (.int (iI (apt (cdb σ a i 0) (cdb σ b j 0))) :: _)
                  refine g_isub hΓ dX3_way_120 ?_
                  obtain ⟨x34, ex34⟩ : ∃ z9 : Int, z9 = (τ5 23 ((16 * i) + j)) - (apt (cdb σ a i 0) (cdb σ b j 0)) := ⟨_, rfl⟩
                  refine g_topi ex34.symm ?_
                  refine g_istore hΓ dX3_way_121 rfl (Nat.le_of_ble_eq_true rfl) (lv' := [some (.ref h), some (.int (iI a)), some (.int (iI b)), some (.int (iI k)), some (.int (iI w)), some (.int (iI i)), some (.int (iI j)), some (.int (iI n9)), some (.int (iI x6)), some (.int (iI x34))]) rfl ?_
                  refine g_aload_n hΓ rfl dX3_way_123 ?_
                  refine g_iload hΓ rfl dX3_way_124 ?_
                  refine g_iconst hΓ dX3_way_126 ?_
                  refine g_iadd hΓ dX3_way_127 ?_
                  refine g_iload hΓ rfl dX3_way_128 ?_
                  refine g_iconst hΓ dX3_way_130 ?_
                  refine g_iadd hΓ dX3_way_131 ?_
                  refine m_callV (As := [.int (iI (i + 1)), .int (iI (j + 1))]) (rest := []) hok hΓ (m_restAt hok τ5 (i + 1) (j + 1) (by first | assumption | omega | (simp only [τ50, τ5n, τ5u, τ5c, τ5b, τ5E, τ522]; first | assumption | omega) | (simp only [τ50, τ5n, τ5u, τ5c, τ5b, τ5E]; first | assumption | omega)) (by first | assumption | omega | (simp only [τ50, τ5n, τ5u, τ5c, τ5b, τ5E, τ522]; first | assumption | omega) | (simp only [τ50, τ5n, τ5u, τ5c, τ5b, τ5E]; first | assumption | omega)) (by first | assumption | omega | (simp only [τ50, τ5n, τ5u, τ5c, τ5b, τ5E, τ522]; first | assumption | omega) | (simp only [τ50, τ5n, τ5u, τ5c, τ5b, τ5E]; first | assumption | omega))) rfl q1712 q1714 qs92 q131 q1715 ndX3_restAt rfl (by decide) (by decide) rfl rfl (Nat.le_of_ble_eq_true rfl) dX3_way_132 rfl (fun v35 τ35 τ35h => ?_)
                  obtain ⟨rfl, τ35h⟩ := τ35h
                  rw [τ35h]
                  clear τ35h
                  show gW Γ E (mM E h ad τ5) 0 0 _ _ (.int (iI (rat τ5 (i + 1) (j + 1))) :: _)
                  refine g_iload hΓ rfl dX3_way_135 ?_
                  refine g_icmp_ne (tgt := 149) hΓ (by omega) (by omega) dX3_way_137 (by decide) (fun c36 => ?_) (fun c36 => ?_)
                  · refine g_aload_n hΓ rfl dX3_way_149 ?_
                    refine g_iload hΓ rfl dX3_way_150 ?_
                    refine g_iconst hΓ dX3_way_152 ?_
                    refine g_iadd hΓ dX3_way_153 ?_
                    refine g_iload hΓ rfl dX3_way_154 ?_
                    refine m_callV (As := [.int (iI (i + 1)), .int (iI j)]) (rest := []) hok hΓ (m_restAt hok τ5 (i + 1) j (by first | assumption | omega | (simp only [τ50, τ5n, τ5u, τ5c, τ5b, τ5E, τ522]; first | assumption | omega) | (simp only [τ50, τ5n, τ5u, τ5c, τ5b, τ5E]; first | assumption | omega)) (by first | assumption | omega | (simp only [τ50, τ5n, τ5u, τ5c, τ5b, τ5E, τ522]; first | assumption | omega) | (simp only [τ50, τ5n, τ5u, τ5c, τ5b, τ5E]; first | assumption | omega)) (by first | assumption | omega | (simp only [τ50, τ5n, τ5u, τ5c, τ5b, τ5E, τ522]; first | assumption | omega) | (simp only [τ50, τ5n, τ5u, τ5c, τ5b, τ5E]; first | assumption | omega))) rfl q1712 q1714 qs92 q131 q1715 ndX3_restAt rfl (by decide) (by decide) rfl rfl (Nat.le_of_ble_eq_true rfl) dX3_way_156 rfl (fun v37 τ37 τ37h => ?_)
                    obtain ⟨rfl, τ37h⟩ := τ37h
                    rw [τ37h]
                    clear τ37h
                    show gW Γ E (mM E h ad τ5) 0 0 _ _ (.int (iI (rat τ5 (i + 1) j)) :: _)
                    refine g_iload hΓ rfl dX3_way_159 ?_
                    refine g_icmp_ne (tgt := 170) hΓ (by omega) (by omega) dX3_way_161 (by decide) (fun c38 => ?_) (fun c38 => ?_)
                    · obtain ⟨x39, ex39⟩ : ∃ z9 : Int, z9 = j + 1 := ⟨_, rfl⟩
                      refine g_iinc hΓ dX3_way_170 rfl rfl (lv' := [some (.ref h), some (.int (iI a)), some (.int (iI b)), some (.int (iI k)), some (.int (iI w)), some (.int (iI i)), some (.int (iI x39)), some (.int (iI n9)), some (.int (iI x6)), some (.int (iI x34))]) (by rw [ex39]; rfl) ?_
                      have hxe : nxt (csd σ a b 0) (σ 0 1042) (σ 0 1043) (i, j) = (i, x39) := by
                        rw [nxt, if_neg (by simp only; omega), if_neg (by simp only; omega)]
                        rw [ex39]
                      have hy := hx
                      rw [hxe] at hy
                      simp only at hy
                      obtain ⟨x40, ex40⟩ : ∃ z9 : Int, z9 = n9 + 1 := ⟨_, rfl⟩
                      refine g_iinc hΓ dX3_way_173 rfl rfl (lv' := [some (.ref h), some (.int (iI a)), some (.int (iI b)), some (.int (iI k)), some (.int (iI w)), some (.int (iI i)), some (.int (iI x39)), some (.int (iI x40)), some (.int (iI x6)), some (.int (iI x34))]) (by rw [ex40]; rfl) ?_
                      refine g_goto (tgt := 68) hΓ dX3_way_176 (by decide) ?_
                      refine g_lvw (lv' := [some (.ref h), some (.int (iI a)), some (.int (iI b)), some (.int (iI k)), some (.int (iI w)), some (.int (iI i)), some (.int (iI x39)), some (.int (iI x40)), some (.int (iI x6)), none]) ⟨rfl, ⟨rfl, ⟨rfl, ⟨rfl, ⟨rfl, ⟨rfl, ⟨rfl, ⟨rfl, ⟨rfl, trivial⟩⟩⟩⟩⟩⟩⟩⟩⟩ ?_
                      exact ih_loop i x39 x40 (by omega) (by omega) (by have z := hx.2.2.2.2.2.1; rw [hxe] at z; exact z) (by rw [← hv, show (32 - n9).toNat = (32 - x40).toNat + 1 by omega, wayL, if_pos (by simp only; omega), hxe, ex40])
                    · obtain ⟨x41, ex41⟩ : ∃ z9 : Int, z9 = i + 1 := ⟨_, rfl⟩
                      refine g_iinc hΓ dX3_way_164 rfl rfl (lv' := [some (.ref h), some (.int (iI a)), some (.int (iI b)), some (.int (iI k)), some (.int (iI w)), some (.int (iI x41)), some (.int (iI j)), some (.int (iI n9)), some (.int (iI x6)), some (.int (iI x34))]) (by rw [ex41]; rfl) ?_
                      refine g_goto (tgt := 173) hΓ dX3_way_167 (by decide) ?_
                      have hxe : nxt (csd σ a b 0) (σ 0 1042) (σ 0 1043) (i, j) = (x41, j) := by
                        rw [nxt, if_neg (by simp only; omega), if_pos (by simp only; omega)]
                        rw [ex41]
                      have hy := hx
                      rw [hxe] at hy
                      simp only at hy
                      obtain ⟨x42, ex42⟩ : ∃ z9 : Int, z9 = n9 + 1 := ⟨_, rfl⟩
                      refine g_iinc hΓ dX3_way_173 rfl rfl (lv' := [some (.ref h), some (.int (iI a)), some (.int (iI b)), some (.int (iI k)), some (.int (iI w)), some (.int (iI x41)), some (.int (iI j)), some (.int (iI x42)), some (.int (iI x6)), some (.int (iI x34))]) (by rw [ex42]; rfl) ?_
                      refine g_goto (tgt := 68) hΓ dX3_way_176 (by decide) ?_
                      refine g_lvw (lv' := [some (.ref h), some (.int (iI a)), some (.int (iI b)), some (.int (iI k)), some (.int (iI w)), some (.int (iI x41)), some (.int (iI j)), some (.int (iI x42)), some (.int (iI x6)), none]) ⟨rfl, ⟨rfl, ⟨rfl, ⟨rfl, ⟨rfl, ⟨rfl, ⟨rfl, ⟨rfl, ⟨rfl, trivial⟩⟩⟩⟩⟩⟩⟩⟩⟩ ?_
                      exact ih_loop x41 j x42 (by omega) (by omega) (by have z := hx.2.2.2.2.2.1; rw [hxe] at z; exact z) (by rw [← hv, show (32 - n9).toNat = (32 - x42).toNat + 1 by omega, wayL, if_pos (by simp only; omega), hxe, ex42])
                  · obtain ⟨x43, ex43⟩ : ∃ z9 : Int, z9 = i + 1 := ⟨_, rfl⟩
                    refine g_iinc hΓ dX3_way_140 rfl rfl (lv' := [some (.ref h), some (.int (iI a)), some (.int (iI b)), some (.int (iI k)), some (.int (iI w)), some (.int (iI x43)), some (.int (iI j)), some (.int (iI n9)), some (.int (iI x6)), some (.int (iI x34))]) (by rw [ex43]; rfl) ?_
                    obtain ⟨x44, ex44⟩ : ∃ z9 : Int, z9 = j + 1 := ⟨_, rfl⟩
                    refine g_iinc hΓ dX3_way_143 rfl rfl (lv' := [some (.ref h), some (.int (iI a)), some (.int (iI b)), some (.int (iI k)), some (.int (iI w)), some (.int (iI x43)), some (.int (iI x44)), some (.int (iI n9)), some (.int (iI x6)), some (.int (iI x34))]) (by rw [ex44]; rfl) ?_
                    refine g_goto (tgt := 173) hΓ dX3_way_146 (by decide) ?_
                    have hxe : nxt (csd σ a b 0) (σ 0 1042) (σ 0 1043) (i, j) = (x43, x44) := by
                      rw [nxt, if_pos (by simp only; omega)]
                      rw [ex43, ex44]
                    have hy := hx
                    rw [hxe] at hy
                    simp only at hy
                    obtain ⟨x45, ex45⟩ : ∃ z9 : Int, z9 = n9 + 1 := ⟨_, rfl⟩
                    refine g_iinc hΓ dX3_way_173 rfl rfl (lv' := [some (.ref h), some (.int (iI a)), some (.int (iI b)), some (.int (iI k)), some (.int (iI w)), some (.int (iI x43)), some (.int (iI x44)), some (.int (iI x45)), some (.int (iI x6)), some (.int (iI x34))]) (by rw [ex45]; rfl) ?_
                    refine g_goto (tgt := 68) hΓ dX3_way_176 (by decide) ?_
                    refine g_lvw (lv' := [some (.ref h), some (.int (iI a)), some (.int (iI b)), some (.int (iI k)), some (.int (iI w)), some (.int (iI x43)), some (.int (iI x44)), some (.int (iI x45)), some (.int (iI x6)), none]) ⟨rfl, ⟨rfl, ⟨rfl, ⟨rfl, ⟨rfl, ⟨rfl, ⟨rfl, ⟨rfl, ⟨rfl, trivial⟩⟩⟩⟩⟩⟩⟩⟩⟩ ?_
                    exact ih_loop x43 x44 x45 (by omega) (by omega) (by have z := hx.2.2.2.2.2.1; rw [hxe] at z; exact z) (by rw [← hv, show (32 - n9).toNat = (32 - x45).toNat + 1 by omega, wayL, if_pos (by simp only; omega), hxe, ex45])
        exact loop 33 0 0 0 (by omega) (by omega) (by omega) rfl
      · refine g_iload hΓ rfl dX3_way_19 ?_
        refine g_iconst hΓ dX3_way_21 ?_
        refine g_iconst hΓ dX3_way_22 ?_
        refine m_callS (As := [.int (iI w), .int (iI 0), .int (iI 1)]) (rest := []) hok hΓ (m_isIn hok τ1 w 0 1 (by first | assumption | omega) (by first | assumption | omega) (by first | assumption | omega)) rfl q1549 q1550 q131 q1551 ndX3_isIn rfl (by decide) (by decide) rfl (Nat.le_of_ble_eq_true rfl) dX3_way_23 rfl (fun v46 τ46 τ46h => ?_)
        obtain ⟨rfl, τ46h⟩ := τ46h
        rw [τ46h]
        clear τ46h
        show gW Γ E (mM E h ad τ1) 0 0 _ _ (.int (iI (if 0 ≤ w ∧ w ≤ 1 then 1 else 0)) :: _)
        refine g_ifB_ne (tgt := 31) hΓ  dX3_way_26 (by decide) (fun c47 => ?_) (fun c47 => ?_)
        · rcases ta with ta | ⟨ta, ta0, ta1, tas⟩
          · exact absurd ta (by omega)
          rcases tb with tb | ⟨tb, tb0, tb1, tbs⟩
          · exact absurd tb (by omega)
          obtain ⟨hla0, hlb0⟩ := τ1h ⟨by omega, by omega⟩
          have hla : ∀ j, 0 ≤ j → j < τ1 0 1042 → τ1 22 (16 * a + j) = cds τ1 a j := by rw [τ10, τ1c]; exact hla0
          have hlb : ∀ j, 0 ≤ j → j < τ1 0 1042 → τ1 22 (16 * b + j) = cds τ1 b j := by rw [τ10, τ1c]; exact hlb0
          have he' : 4 ≤ τ1 0 1042 ∧ τ1 0 1042 ≤ 16 := by rw [τ10]; exact h1042
          have hr' : rowOK (τ1 0) := by rw [τ10]; exact hr
          refine g_aload_n hΓ rfl dX3_way_31 ?_
          refine g_iload_n hΓ rfl dX3_way_32 ?_
          refine g_iload_n hΓ rfl dX3_way_33 ?_
          refine g_iconst hΓ dX3_way_34 ?_
          refine g_aload_n hΓ rfl dX3_way_35 ?_
          refine m_geta hok hΓ 0 (by decide) rfl rfl q1357 rfl dX3_way_36 ?_
          refine g_sipush hΓ (by decide) dX3_way_39 ?_
          refine m_ald hok hΓ 0 (by decide) rfl (n := 1048) rfl (by omega) (by decide) dX3_way_42 ?_
          refine g_topi ((τ1f 0 1043 (by decide))) ?_
          refine m_callV (As := [.int (iI a), .int (iI b), .int (iI 0), .int (iI (σ 0 1043))]) (rest := []) hok hΓ (m_elasticOf hok τ1 a b 0 (σ 0 1043) (by first | assumption | omega) (by first | assumption | omega) (by first | assumption | omega) (by first | assumption | omega) (by first | assumption | omega) (by first | assumption | omega) (by first | assumption | omega)) rfl q1708 q1710 qs91 q131 q1711 ndX3_elasticOf rfl (by decide) (by decide) rfl rfl (Nat.le_of_ble_eq_true rfl) dX3_way_43 rfl (fun v48 τ48 τ48h => ?_)
          obtain ⟨rfl, τ48h, τ48f⟩ := τ48h
          show gW Γ E (mM E h ad τ48) 0 0 _ _ (.int (iI (els τ1 a b 0 (σ 0 1043))) :: _)
          refine g_topi (show (els τ1 a b 0 (σ 0 1043) : Int) = (els σ a b 0 (σ 0 1043)) by simp only [τ10, τ1n, τ1u, τ1c, τ1b, τ1E, τ1W, τ1P]) ?_
          refine g_pop hΓ rfl dX3_way_46 ?_
          refine g_iconst hΓ dX3_way_47 ?_
          refine g_istore hΓ dX3_way_48 rfl (Nat.le_of_ble_eq_true rfl) (lv' := [some (.ref h), some (.int (iI a)), some (.int (iI b)), some (.int (iI k)), some (.int (iI w)), some (.int (iI 0)), none, none, none, none]) rfl ?_
          refine g_iconst hΓ dX3_way_50 ?_
          refine g_istore hΓ dX3_way_51 rfl (Nat.le_of_ble_eq_true rfl) (lv' := [some (.ref h), some (.int (iI a)), some (.int (iI b)), some (.int (iI k)), some (.int (iI w)), some (.int (iI 0)), some (.int (iI 0)), none, none, none]) rfl ?_
          refine g_iconst hΓ dX3_way_53 ?_
          refine g_istore hΓ dX3_way_54 rfl (Nat.le_of_ble_eq_true rfl) (lv' := [some (.ref h), some (.int (iI a)), some (.int (iI b)), some (.int (iI k)), some (.int (iI w)), some (.int (iI 0)), some (.int (iI 0)), some (.int (iI 0)), none, none]) rfl ?_
          refine g_aload_n hΓ rfl dX3_way_56 ?_
          refine m_geta hok hΓ 0 (by decide) rfl rfl q1357 rfl dX3_way_57 ?_
          refine g_sipush hΓ (by decide) dX3_way_60 ?_
          refine m_ald hok hΓ 0 (by decide) rfl (n := 1048) rfl (by omega) (by decide) dX3_way_63 ?_
          refine g_topi (((τ48f 0 1042 (by decide)).trans (τ1f 0 1042 (by decide)))) ?_
          refine g_iconst hΓ dX3_way_64 ?_
          refine g_isub hΓ dX3_way_65 ?_
          obtain ⟨x49, ex49⟩ : ∃ z9 : Int, z9 = (σ 0 1042) - 1 := ⟨_, rfl⟩
          refine g_topi ex49.symm ?_
          refine g_istore hΓ dX3_way_66 rfl (Nat.le_of_ble_eq_true rfl) (lv' := [some (.ref h), some (.int (iI a)), some (.int (iI b)), some (.int (iI k)), some (.int (iI w)), some (.int (iI 0)), some (.int (iI 0)), some (.int (iI 0)), some (.int (iI x49)), none]) rfl ?_
          have τ480 : τ48 0 = σ 0 := funext fun j => ((τ48f 0 j (by decide)).trans (τ1f 0 j (by decide)))
          have τ487 : τ48 7 = σ 7 := funext fun j => ((τ48f 7 j (by decide)).trans (τ1f 7 j (by decide)))
          have τ488 : τ48 8 = σ 8 := funext fun j => ((τ48f 8 j (by decide)).trans (τ1f 8 j (by decide)))
          have τ48n := np_same τ480 τ488
          have τ48u := nu_same τ480 τ487
          have τ48c := cds_same τ480 τ487 τ488
          have τ48b := cdb_same τ480 τ487 τ488
          have τ48E := els_same τ480 τ487 τ488
          have τ48W := sp_way_same τ480 τ487 τ488
          have τ48P := prd_same τ480 τ487 τ488
          have hT : ∀ i' j', 0 ≤ i' → i' < σ 0 1042 → 0 ≤ j' → j' < σ 0 1042 → τ48 23 (16 * i' + j') = elT (csd σ a b 0) (σ 0 1042) (σ 0 1043) i' j' := by
            intro i' j' h1 h2 h3 h4
            rw [τ48h i' j' h1 (by rw [τ10]; exact h2) h3 (by rw [τ10]; exact h4), csd_same τ10 τ17 τ18, τ10]
          have τ4822 : τ48 22 = τ1 22 := funext fun j => τ48f 22 j (by decide)
          have hla2 : ∀ j, 0 ≤ j → j < τ48 0 1042 → τ48 22 (16 * a + j) = cds τ48 a j := by rw [τ480, τ48c, τ4822]; exact hla0
          have hlb2 : ∀ j, 0 ≤ j → j < τ48 0 1042 → τ48 22 (16 * b + j) = cds τ48 b j := by rw [τ480, τ48c, τ4822]; exact hlb0
          have he2 : 4 ≤ τ48 0 1042 ∧ τ48 0 1042 ≤ 16 := by rw [τ480]; exact h1042
          have hcr := csd_r σ a b 0
          have hrat : ∀ i' j', 0 ≤ i' → 0 ≤ j' → rat τ48 i' j' = rsE (csd σ a b 0) (σ 0 1042) (σ 0 1043) i' j' := by
            intro i' j' h1 h2
            rw [rat, rsE, τ480]
            split
            · exact hT _ _ (by omega) (by omega) (by omega) (by omega)
            · rfl
          have hdg := elT_diag hcr (w := σ 0 1043) (e := σ 0 1042) (by omega) (by omega) (σ 0 1042 - 1).toNat 0 (by omega) (by omega)
          have loop : ∀ (fu : Nat) (i : Int) (j : Int) (n9 : Int), (32 - i - j).toNat < fu → (0 ≤ i ∧ i < σ 0 1042 ∧ 0 ≤ j ∧ j < σ 0 1042 ∧ 0 ≤ n9 ∧ n9 ≤ i + j) → (elT (csd σ a b 0) (σ 0 1042) (σ 0 1043) i j < 100000000) → (wayL (csd σ a b 0) (σ 0 1042) (σ 0 1043) k (32 - n9).toNat (i, j) n9 = wayE σ a b k) → gW Γ E (mM E h ad τ48) 0 0 68 [some (.ref h), some (.int (iI a)), some (.int (iI b)), some (.int (iI k)), some (.int (iI w)), some (.int (iI i)), some (.int (iI j)), some (.int (iI n9)), some (.int (iI x49)), none] [] := by
            intro fu
            induction fu with
            | zero => intro i j n9 hn; exact absurd hn (Nat.not_lt_zero _)
            | succ fu ih_loop =>
              intro i j n9 hn hij hf hv
              refine g_iload hΓ rfl dX3_way_68 ?_
              refine g_iload_n hΓ rfl dX3_way_70 ?_
              refine g_icmp_eq (tgt := 179) hΓ (by omega) (by omega) dX3_way_71 (by decide) (fun c50 => ?_) (fun c50 => ?_)
              · have hst : wayE σ a b k = ((i, j), n9) := by rw [← hv]; exact wayL_stop (by simp only; omega) _
                refine g_iload_n hΓ rfl dX3_way_179 ?_
                refine g_iconst hΓ dX3_way_180 ?_
                refine g_icmp_ne (tgt := 189) hΓ (by omega) (by omega) dX3_way_181 (by decide) (fun c51 => ?_) (fun c51 => ?_)
                · refine g_iload hΓ rfl dX3_way_189 ?_
                  refine g_iload_n hΓ rfl dX3_way_191 ?_
                  refine g_icmp_ge (tgt := 199) hΓ (by omega) (by omega) dX3_way_192 (by decide) (fun c52 => ?_) (fun c52 => ?_)
                  · refine g_iload hΓ rfl dX3_way_199 ?_
                    refine g_if_ne (tgt := 209) hΓ (by omega) dX3_way_201 (by decide) (fun c53 => ?_) (fun c53 => ?_)
                    · refine g_iload hΓ rfl dX3_way_209 ?_
                      exact m_iret hΓ dX3_way_211 ⟨ri (by rw [sp_way, if_neg (by omega), hst]; simp only; (repeat' split) <;> omega), trivial, (fun k j hk => ((τ48f k j (fun e => hk ((show ∀ x ∈ [23], x ∈ [22, 23] by decide) k e))).trans (τ1f k j (fun e => hk ((show ∀ x ∈ [22], x ∈ [22, 23] by decide) k e)))))⟩
                    · refine g_iload hΓ rfl dX3_way_204 ?_
                      refine g_goto (tgt := 211) hΓ dX3_way_206 (by decide) ?_
                      exact m_iret hΓ dX3_way_211 ⟨ri (by rw [sp_way, if_neg (by omega), hst]; simp only; (repeat' split) <;> omega), trivial, (fun k j hk => ((τ48f k j (fun e => hk ((show ∀ x ∈ [23], x ∈ [22, 23] by decide) k e))).trans (τ1f k j (fun e => hk ((show ∀ x ∈ [22], x ∈ [22, 23] by decide) k e)))))⟩
                  · refine g_iconst hΓ dX3_way_195 ?_
                    refine g_goto (tgt := 211) hΓ dX3_way_196 (by decide) ?_
                    exact m_iret hΓ dX3_way_211 ⟨ri (by rw [sp_way, if_neg (by omega), hst]; simp only; (repeat' split) <;> omega), trivial, (fun k j hk => ((τ48f k j (fun e => hk ((show ∀ x ∈ [23], x ∈ [22, 23] by decide) k e))).trans (τ1f k j (fun e => hk ((show ∀ x ∈ [22], x ∈ [22, 23] by decide) k e)))))⟩
                · refine g_iload hΓ rfl dX3_way_184 ?_
                  refine g_iconst hΓ dX3_way_186 ?_
                  refine g_iadd hΓ dX3_way_187 ?_
                  exact m_iret hΓ dX3_way_188 ⟨ri (by rw [sp_way, if_neg (by omega), hst]; simp only; (repeat' split) <;> omega), trivial, (fun k j hk => ((τ48f k j (fun e => hk ((show ∀ x ∈ [23], x ∈ [22, 23] by decide) k e))).trans (τ1f k j (fun e => hk ((show ∀ x ∈ [22], x ∈ [22, 23] by decide) k e)))))⟩
              · refine g_iload hΓ rfl dX3_way_74 ?_
                refine g_iload hΓ rfl dX3_way_76 ?_
                refine g_icmp_ne (tgt := 88) hΓ (by omega) (by omega) dX3_way_78 (by decide) (fun c54 => ?_) (fun c54 => ?_)
                · have hx := nxt_ok hcr (e := σ 0 1042) (w := σ 0 1043) (p := (i, j)) (by simp only; omega) (by simp only; omega) hf (by simp only; omega)
                  simp only at hx
                  have k0 := hT i j (by omega) (by omega) (by omega) (by omega)
                  have k1 := hrat (i + 1) (j + 1) (by omega) (by omega)
                  have k2 := hrat (i + 1) j (by omega) (by omega)
                  have q1 := cdb_r σ a i 0
                  have q2 := cdb_r σ b j 0
                  have q3 := elT_r (c := (csd σ a b 0)) (e := σ 0 1042) (w := σ 0 1043) (i := i) (j := j) hcr
                  have q4 := rsE_r (c := (csd σ a b 0)) (e := σ 0 1042) (w := σ 0 1043) (i := i + 1) (j := j + 1) hcr
                  have q5 := rsE_r (c := (csd σ a b 0)) (e := σ 0 1042) (w := σ 0 1043) (i := i + 1) (j := j) hcr
                  have q6 : csd σ a b 0 i j = apt (cdb σ a i 0) (cdb σ b j 0) := rfl
                  have q7 := hcr i j
                  refine g_aload_n hΓ rfl dX3_way_88 ?_
                  refine m_geta hok hΓ 23 (by decide) rfl rfl q1380 rfl dX3_way_89 ?_
                  refine g_bipush hΓ (by decide) dX3_way_92 ?_
                  refine g_iload hΓ rfl dX3_way_94 ?_
                  refine g_imul hΓ dX3_way_96 ?_
                  refine g_iload hΓ rfl dX3_way_97 ?_
                  refine g_iadd hΓ dX3_way_99 ?_
                  refine m_ald hok hΓ 23 (by decide) rfl (n := 256) rfl (by omega) (by decide) dX3_way_100 ?_
                  refine g_aload_n hΓ rfl dX3_way_101 ?_
                  refine g_iload_n hΓ rfl dX3_way_102 ?_
                  refine g_iload hΓ rfl dX3_way_103 ?_
                  refine g_iconst hΓ dX3_way_105 ?_
                  refine m_callV (As := [.int (iI a), .int (iI i), .int (iI 0)]) (rest := [.int (iI (τ48 23 ((16 * i) + j)))]) hok hΓ (m_codeAt hok τ48 a i 0 (by first | assumption | omega | (simp only [τ480, τ48n, τ48u, τ48c, τ48b, τ48E, τ4822]; first | assumption | omega) | (simp only [τ480, τ48n, τ48u, τ48c, τ48b, τ48E]; first | assumption | omega)) (by first | assumption | omega | (simp only [τ480, τ48n, τ48u, τ48c, τ48b, τ48E, τ4822]; first | assumption | omega) | (simp only [τ480, τ48n, τ48u, τ48c, τ48b, τ48E]; first | assumption | omega)) (by first | assumption | omega | (simp only [τ480, τ48n, τ48u, τ48c, τ48b, τ48E, τ4822]; first | assumption | omega) | (simp only [τ480, τ48n, τ48u, τ48c, τ48b, τ48E]; first | assumption | omega)) (by first | assumption | omega | (simp only [τ480, τ48n, τ48u, τ48c, τ48b, τ48E, τ4822]; first | assumption | omega) | (simp only [τ480, τ48n, τ48u, τ48c, τ48b, τ48E]; first | assumption | omega)) (by first | assumption | omega | (simp only [τ480, τ48n, τ48u, τ48c, τ48b, τ48E, τ4822]; first | assumption | omega) | (simp only [τ480, τ48n, τ48u, τ48c, τ48b, τ48E]; first | assumption | omega))) rfl q1717 q1719 qs93 q131 q1720 ndX3_codeAt rfl (by decide) (by decide) rfl rfl (Nat.le_of_ble_eq_true rfl) dX3_way_106 rfl (fun v55 τ55 τ55h => ?_)
                  obtain ⟨rfl, τ55h⟩ := τ55h
                  rw [τ55h]
                  clear τ55h
                  show gW Γ E (mM E h ad τ48) 0 0 _ _ (.int (iI (cdb τ48 a i 0)) :: _)
                  refine g_topi (show (cdb τ48 a i 0 : Int) = (cdb σ a i 0) by simp only [τ480, τ48n, τ48u, τ48c, τ48b, τ48E, τ48W, τ48P]) ?_
                  refine g_aload_n hΓ rfl dX3_way_109 ?_
                  refine g_iload_n hΓ rfl dX3_way_110 ?_
                  refine g_iload hΓ rfl dX3_way_111 ?_
                  refine g_iconst hΓ dX3_way_113 ?_
                  refine m_callV (As := [.int (iI b), .int (iI j), .int (iI 0)]) (rest := [.int (iI (cdb σ a i 0)), .int (iI (τ48 23 ((16 * i) + j)))]) hok hΓ (m_codeAt hok τ48 b j 0 (by first | assumption | omega | (simp only [τ480, τ48n, τ48u, τ48c, τ48b, τ48E, τ4822]; first | assumption | omega) | (simp only [τ480, τ48n, τ48u, τ48c, τ48b, τ48E]; first | assumption | omega)) (by first | assumption | omega | (simp only [τ480, τ48n, τ48u, τ48c, τ48b, τ48E, τ4822]; first | assumption | omega) | (simp only [τ480, τ48n, τ48u, τ48c, τ48b, τ48E]; first | assumption | omega)) (by first | assumption | omega | (simp only [τ480, τ48n, τ48u, τ48c, τ48b, τ48E, τ4822]; first | assumption | omega) | (simp only [τ480, τ48n, τ48u, τ48c, τ48b, τ48E]; first | assumption | omega)) (by first | assumption | omega | (simp only [τ480, τ48n, τ48u, τ48c, τ48b, τ48E, τ4822]; first | assumption | omega) | (simp only [τ480, τ48n, τ48u, τ48c, τ48b, τ48E]; first | assumption | omega)) (by first | assumption | omega | (simp only [τ480, τ48n, τ48u, τ48c, τ48b, τ48E, τ4822]; first | assumption | omega) | (simp only [τ480, τ48n, τ48u, τ48c, τ48b, τ48E]; first | assumption | omega))) rfl q1717 q1719 qs93 q131 q1720 ndX3_codeAt rfl (by decide) (by decide) rfl rfl (Nat.le_of_ble_eq_true rfl) dX3_way_114 rfl (fun v56 τ56 τ56h => ?_)
                  obtain ⟨rfl, τ56h⟩ := τ56h
                  rw [τ56h]
                  clear τ56h
                  show gW Γ E (mM E h ad τ48) 0 0 _ _ (.int (iI (cdb τ48 b j 0)) :: _)
                  refine g_topi (show (cdb τ48 b j 0 : Int) = (cdb σ b j 0) by simp only [τ480, τ48n, τ48u, τ48c, τ48b, τ48E, τ48W, τ48P]) ?_
                  refine m_callS (As := [.int (iI (cdb σ a i 0)), .int (iI (cdb σ b j 0))]) (rest := [.int (iI (τ48 23 ((16 * i) + j)))]) hok hΓ (m_apart hok τ48 (cdb σ a i 0) (cdb σ b j 0) (by omega) (by omega)) rfl q1671 q1672 q131 q1673 ndX3_apart rfl (by decide) (by decide) rfl (Nat.le_of_ble_eq_true rfl) dX3_way_117 rfl (fun v57 τ57 τ57h => ?_)
                  obtain ⟨rfl, τ57h⟩ := τ57h
                  rw [τ57h]
                  clear τ57h
                  show gW Γ E (mM E h ad τ48) 0 0 _ _ (.int (iI (apt (cdb σ a i 0) (cdb σ b j 0))) :: _)
                  refine g_isub hΓ dX3_way_120 ?_
                  obtain ⟨x58, ex58⟩ : ∃ z9 : Int, z9 = (τ48 23 ((16 * i) + j)) - (apt (cdb σ a i 0) (cdb σ b j 0)) := ⟨_, rfl⟩
                  refine g_topi ex58.symm ?_
                  refine g_istore hΓ dX3_way_121 rfl (Nat.le_of_ble_eq_true rfl) (lv' := [some (.ref h), some (.int (iI a)), some (.int (iI b)), some (.int (iI k)), some (.int (iI w)), some (.int (iI i)), some (.int (iI j)), some (.int (iI n9)), some (.int (iI x49)), some (.int (iI x58))]) rfl ?_
                  refine g_aload_n hΓ rfl dX3_way_123 ?_
                  refine g_iload hΓ rfl dX3_way_124 ?_
                  refine g_iconst hΓ dX3_way_126 ?_
                  refine g_iadd hΓ dX3_way_127 ?_
                  refine g_iload hΓ rfl dX3_way_128 ?_
                  refine g_iconst hΓ dX3_way_130 ?_
                  refine g_iadd hΓ dX3_way_131 ?_
                  refine m_callV (As := [.int (iI (i + 1)), .int (iI (j + 1))]) (rest := []) hok hΓ (m_restAt hok τ48 (i + 1) (j + 1) (by first | assumption | omega | (simp only [τ480, τ48n, τ48u, τ48c, τ48b, τ48E, τ4822]; first | assumption | omega) | (simp only [τ480, τ48n, τ48u, τ48c, τ48b, τ48E]; first | assumption | omega)) (by first | assumption | omega | (simp only [τ480, τ48n, τ48u, τ48c, τ48b, τ48E, τ4822]; first | assumption | omega) | (simp only [τ480, τ48n, τ48u, τ48c, τ48b, τ48E]; first | assumption | omega)) (by first | assumption | omega | (simp only [τ480, τ48n, τ48u, τ48c, τ48b, τ48E, τ4822]; first | assumption | omega) | (simp only [τ480, τ48n, τ48u, τ48c, τ48b, τ48E]; first | assumption | omega))) rfl q1712 q1714 qs92 q131 q1715 ndX3_restAt rfl (by decide) (by decide) rfl rfl (Nat.le_of_ble_eq_true rfl) dX3_way_132 rfl (fun v59 τ59 τ59h => ?_)
                  obtain ⟨rfl, τ59h⟩ := τ59h
                  rw [τ59h]
                  clear τ59h
                  show gW Γ E (mM E h ad τ48) 0 0 _ _ (.int (iI (rat τ48 (i + 1) (j + 1))) :: _)
                  refine g_iload hΓ rfl dX3_way_135 ?_
                  refine g_icmp_ne (tgt := 149) hΓ (by omega) (by omega) dX3_way_137 (by decide) (fun c60 => ?_) (fun c60 => ?_)
                  · refine g_aload_n hΓ rfl dX3_way_149 ?_
                    refine g_iload hΓ rfl dX3_way_150 ?_
                    refine g_iconst hΓ dX3_way_152 ?_
                    refine g_iadd hΓ dX3_way_153 ?_
                    refine g_iload hΓ rfl dX3_way_154 ?_
                    refine m_callV (As := [.int (iI (i + 1)), .int (iI j)]) (rest := []) hok hΓ (m_restAt hok τ48 (i + 1) j (by first | assumption | omega | (simp only [τ480, τ48n, τ48u, τ48c, τ48b, τ48E, τ4822]; first | assumption | omega) | (simp only [τ480, τ48n, τ48u, τ48c, τ48b, τ48E]; first | assumption | omega)) (by first | assumption | omega | (simp only [τ480, τ48n, τ48u, τ48c, τ48b, τ48E, τ4822]; first | assumption | omega) | (simp only [τ480, τ48n, τ48u, τ48c, τ48b, τ48E]; first | assumption | omega)) (by first | assumption | omega | (simp only [τ480, τ48n, τ48u, τ48c, τ48b, τ48E, τ4822]; first | assumption | omega) | (simp only [τ480, τ48n, τ48u, τ48c, τ48b, τ48E]; first | assumption | omega))) rfl q1712 q1714 qs92 q131 q1715 ndX3_restAt rfl (by decide) (by decide) rfl rfl (Nat.le_of_ble_eq_true rfl) dX3_way_156 rfl (fun v61 τ61 τ61h => ?_)
                    obtain ⟨rfl, τ61h⟩ := τ61h
                    rw [τ61h]
                    clear τ61h
                    show gW Γ E (mM E h ad τ48) 0 0 _ _ (.int (iI (rat τ48 (i + 1) j)) :: _)
                    refine g_iload hΓ rfl dX3_way_159 ?_
                    refine g_icmp_ne (tgt := 170) hΓ (by omega) (by omega) dX3_way_161 (by decide) (fun c62 => ?_) (fun c62 => ?_)
                    · obtain ⟨x63, ex63⟩ : ∃ z9 : Int, z9 = j + 1 := ⟨_, rfl⟩
                      refine g_iinc hΓ dX3_way_170 rfl rfl (lv' := [some (.ref h), some (.int (iI a)), some (.int (iI b)), some (.int (iI k)), some (.int (iI w)), some (.int (iI i)), some (.int (iI x63)), some (.int (iI n9)), some (.int (iI x49)), some (.int (iI x58))]) (by rw [ex63]; rfl) ?_
                      have hxe : nxt (csd σ a b 0) (σ 0 1042) (σ 0 1043) (i, j) = (i, x63) := by
                        rw [nxt, if_neg (by simp only; omega), if_neg (by simp only; omega)]
                        rw [ex63]
                      have hy := hx
                      rw [hxe] at hy
                      simp only at hy
                      obtain ⟨x64, ex64⟩ : ∃ z9 : Int, z9 = n9 + 1 := ⟨_, rfl⟩
                      refine g_iinc hΓ dX3_way_173 rfl rfl (lv' := [some (.ref h), some (.int (iI a)), some (.int (iI b)), some (.int (iI k)), some (.int (iI w)), some (.int (iI i)), some (.int (iI x63)), some (.int (iI x64)), some (.int (iI x49)), some (.int (iI x58))]) (by rw [ex64]; rfl) ?_
                      refine g_goto (tgt := 68) hΓ dX3_way_176 (by decide) ?_
                      refine g_lvw (lv' := [some (.ref h), some (.int (iI a)), some (.int (iI b)), some (.int (iI k)), some (.int (iI w)), some (.int (iI i)), some (.int (iI x63)), some (.int (iI x64)), some (.int (iI x49)), none]) ⟨rfl, ⟨rfl, ⟨rfl, ⟨rfl, ⟨rfl, ⟨rfl, ⟨rfl, ⟨rfl, ⟨rfl, trivial⟩⟩⟩⟩⟩⟩⟩⟩⟩ ?_
                      exact ih_loop i x63 x64 (by omega) (by omega) (by have z := hx.2.2.2.2.2.1; rw [hxe] at z; exact z) (by rw [← hv, show (32 - n9).toNat = (32 - x64).toNat + 1 by omega, wayL, if_pos (by simp only; omega), hxe, ex64])
                    · obtain ⟨x65, ex65⟩ : ∃ z9 : Int, z9 = i + 1 := ⟨_, rfl⟩
                      refine g_iinc hΓ dX3_way_164 rfl rfl (lv' := [some (.ref h), some (.int (iI a)), some (.int (iI b)), some (.int (iI k)), some (.int (iI w)), some (.int (iI x65)), some (.int (iI j)), some (.int (iI n9)), some (.int (iI x49)), some (.int (iI x58))]) (by rw [ex65]; rfl) ?_
                      refine g_goto (tgt := 173) hΓ dX3_way_167 (by decide) ?_
                      have hxe : nxt (csd σ a b 0) (σ 0 1042) (σ 0 1043) (i, j) = (x65, j) := by
                        rw [nxt, if_neg (by simp only; omega), if_pos (by simp only; omega)]
                        rw [ex65]
                      have hy := hx
                      rw [hxe] at hy
                      simp only at hy
                      obtain ⟨x66, ex66⟩ : ∃ z9 : Int, z9 = n9 + 1 := ⟨_, rfl⟩
                      refine g_iinc hΓ dX3_way_173 rfl rfl (lv' := [some (.ref h), some (.int (iI a)), some (.int (iI b)), some (.int (iI k)), some (.int (iI w)), some (.int (iI x65)), some (.int (iI j)), some (.int (iI x66)), some (.int (iI x49)), some (.int (iI x58))]) (by rw [ex66]; rfl) ?_
                      refine g_goto (tgt := 68) hΓ dX3_way_176 (by decide) ?_
                      refine g_lvw (lv' := [some (.ref h), some (.int (iI a)), some (.int (iI b)), some (.int (iI k)), some (.int (iI w)), some (.int (iI x65)), some (.int (iI j)), some (.int (iI x66)), some (.int (iI x49)), none]) ⟨rfl, ⟨rfl, ⟨rfl, ⟨rfl, ⟨rfl, ⟨rfl, ⟨rfl, ⟨rfl, ⟨rfl, trivial⟩⟩⟩⟩⟩⟩⟩⟩⟩ ?_
                      exact ih_loop x65 j x66 (by omega) (by omega) (by have z := hx.2.2.2.2.2.1; rw [hxe] at z; exact z) (by rw [← hv, show (32 - n9).toNat = (32 - x66).toNat + 1 by omega, wayL, if_pos (by simp only; omega), hxe, ex66])
                  · obtain ⟨x67, ex67⟩ : ∃ z9 : Int, z9 = i + 1 := ⟨_, rfl⟩
                    refine g_iinc hΓ dX3_way_140 rfl rfl (lv' := [some (.ref h), some (.int (iI a)), some (.int (iI b)), some (.int (iI k)), some (.int (iI w)), some (.int (iI x67)), some (.int (iI j)), some (.int (iI n9)), some (.int (iI x49)), some (.int (iI x58))]) (by rw [ex67]; rfl) ?_
                    obtain ⟨x68, ex68⟩ : ∃ z9 : Int, z9 = j + 1 := ⟨_, rfl⟩
                    refine g_iinc hΓ dX3_way_143 rfl rfl (lv' := [some (.ref h), some (.int (iI a)), some (.int (iI b)), some (.int (iI k)), some (.int (iI w)), some (.int (iI x67)), some (.int (iI x68)), some (.int (iI n9)), some (.int (iI x49)), some (.int (iI x58))]) (by rw [ex68]; rfl) ?_
                    refine g_goto (tgt := 173) hΓ dX3_way_146 (by decide) ?_
                    have hxe : nxt (csd σ a b 0) (σ 0 1042) (σ 0 1043) (i, j) = (x67, x68) := by
                      rw [nxt, if_pos (by simp only; omega)]
                      rw [ex67, ex68]
                    have hy := hx
                    rw [hxe] at hy
                    simp only at hy
                    obtain ⟨x69, ex69⟩ : ∃ z9 : Int, z9 = n9 + 1 := ⟨_, rfl⟩
                    refine g_iinc hΓ dX3_way_173 rfl rfl (lv' := [some (.ref h), some (.int (iI a)), some (.int (iI b)), some (.int (iI k)), some (.int (iI w)), some (.int (iI x67)), some (.int (iI x68)), some (.int (iI x69)), some (.int (iI x49)), some (.int (iI x58))]) (by rw [ex69]; rfl) ?_
                    refine g_goto (tgt := 68) hΓ dX3_way_176 (by decide) ?_
                    refine g_lvw (lv' := [some (.ref h), some (.int (iI a)), some (.int (iI b)), some (.int (iI k)), some (.int (iI w)), some (.int (iI x67)), some (.int (iI x68)), some (.int (iI x69)), some (.int (iI x49)), none]) ⟨rfl, ⟨rfl, ⟨rfl, ⟨rfl, ⟨rfl, ⟨rfl, ⟨rfl, ⟨rfl, ⟨rfl, trivial⟩⟩⟩⟩⟩⟩⟩⟩⟩ ?_
                    exact ih_loop x67 x68 x69 (by omega) (by omega) (by have z := hx.2.2.2.2.2.1; rw [hxe] at z; exact z) (by rw [← hv, show (32 - n9).toNat = (32 - x69).toNat + 1 by omega, wayL, if_pos (by simp only; omega), hxe, ex69])
                · refine g_iload hΓ rfl dX3_way_81 ?_
                  refine g_iload hΓ rfl dX3_way_83 ?_
                  refine g_icmp_eq (tgt := 179) hΓ (by omega) (by omega) dX3_way_85 (by decide) (fun c70 => ?_) (fun c70 => ?_)
                  · have hst : wayE σ a b k = ((i, j), n9) := by rw [← hv]; exact wayL_stop (by simp only; omega) _
                    refine g_iload_n hΓ rfl dX3_way_179 ?_
                    refine g_iconst hΓ dX3_way_180 ?_
                    refine g_icmp_ne (tgt := 189) hΓ (by omega) (by omega) dX3_way_181 (by decide) (fun c71 => ?_) (fun c71 => ?_)
                    · refine g_iload hΓ rfl dX3_way_189 ?_
                      refine g_iload_n hΓ rfl dX3_way_191 ?_
                      refine g_icmp_ge (tgt := 199) hΓ (by omega) (by omega) dX3_way_192 (by decide) (fun c72 => ?_) (fun c72 => ?_)
                      · refine g_iload hΓ rfl dX3_way_199 ?_
                        refine g_if_ne (tgt := 209) hΓ (by omega) dX3_way_201 (by decide) (fun c73 => ?_) (fun c73 => ?_)
                        · refine g_iload hΓ rfl dX3_way_209 ?_
                          exact m_iret hΓ dX3_way_211 ⟨ri (by rw [sp_way, if_neg (by omega), hst]; simp only; (repeat' split) <;> omega), trivial, (fun k j hk => ((τ48f k j (fun e => hk ((show ∀ x ∈ [23], x ∈ [22, 23] by decide) k e))).trans (τ1f k j (fun e => hk ((show ∀ x ∈ [22], x ∈ [22, 23] by decide) k e)))))⟩
                        · refine g_iload hΓ rfl dX3_way_204 ?_
                          refine g_goto (tgt := 211) hΓ dX3_way_206 (by decide) ?_
                          exact m_iret hΓ dX3_way_211 ⟨ri (by rw [sp_way, if_neg (by omega), hst]; simp only; (repeat' split) <;> omega), trivial, (fun k j hk => ((τ48f k j (fun e => hk ((show ∀ x ∈ [23], x ∈ [22, 23] by decide) k e))).trans (τ1f k j (fun e => hk ((show ∀ x ∈ [22], x ∈ [22, 23] by decide) k e)))))⟩
                      · refine g_iconst hΓ dX3_way_195 ?_
                        refine g_goto (tgt := 211) hΓ dX3_way_196 (by decide) ?_
                        exact m_iret hΓ dX3_way_211 ⟨ri (by rw [sp_way, if_neg (by omega), hst]; simp only; (repeat' split) <;> omega), trivial, (fun k j hk => ((τ48f k j (fun e => hk ((show ∀ x ∈ [23], x ∈ [22, 23] by decide) k e))).trans (τ1f k j (fun e => hk ((show ∀ x ∈ [22], x ∈ [22, 23] by decide) k e)))))⟩
                    · refine g_iload hΓ rfl dX3_way_184 ?_
                      refine g_iconst hΓ dX3_way_186 ?_
                      refine g_iadd hΓ dX3_way_187 ?_
                      exact m_iret hΓ dX3_way_188 ⟨ri (by rw [sp_way, if_neg (by omega), hst]; simp only; (repeat' split) <;> omega), trivial, (fun k j hk => ((τ48f k j (fun e => hk ((show ∀ x ∈ [23], x ∈ [22, 23] by decide) k e))).trans (τ1f k j (fun e => hk ((show ∀ x ∈ [22], x ∈ [22, 23] by decide) k e)))))⟩
                  · have hx := nxt_ok hcr (e := σ 0 1042) (w := σ 0 1043) (p := (i, j)) (by simp only; omega) (by simp only; omega) hf (by simp only; omega)
                    simp only at hx
                    have k0 := hT i j (by omega) (by omega) (by omega) (by omega)
                    have k1 := hrat (i + 1) (j + 1) (by omega) (by omega)
                    have k2 := hrat (i + 1) j (by omega) (by omega)
                    have q1 := cdb_r σ a i 0
                    have q2 := cdb_r σ b j 0
                    have q3 := elT_r (c := (csd σ a b 0)) (e := σ 0 1042) (w := σ 0 1043) (i := i) (j := j) hcr
                    have q4 := rsE_r (c := (csd σ a b 0)) (e := σ 0 1042) (w := σ 0 1043) (i := i + 1) (j := j + 1) hcr
                    have q5 := rsE_r (c := (csd σ a b 0)) (e := σ 0 1042) (w := σ 0 1043) (i := i + 1) (j := j) hcr
                    have q6 : csd σ a b 0 i j = apt (cdb σ a i 0) (cdb σ b j 0) := rfl
                    have q7 := hcr i j
                    refine g_aload_n hΓ rfl dX3_way_88 ?_
                    refine m_geta hok hΓ 23 (by decide) rfl rfl q1380 rfl dX3_way_89 ?_
                    refine g_bipush hΓ (by decide) dX3_way_92 ?_
                    refine g_iload hΓ rfl dX3_way_94 ?_
                    refine g_imul hΓ dX3_way_96 ?_
                    refine g_iload hΓ rfl dX3_way_97 ?_
                    refine g_iadd hΓ dX3_way_99 ?_
                    refine m_ald hok hΓ 23 (by decide) rfl (n := 256) rfl (by omega) (by decide) dX3_way_100 ?_
                    refine g_aload_n hΓ rfl dX3_way_101 ?_
                    refine g_iload_n hΓ rfl dX3_way_102 ?_
                    refine g_iload hΓ rfl dX3_way_103 ?_
                    refine g_iconst hΓ dX3_way_105 ?_
                    refine m_callV (As := [.int (iI a), .int (iI i), .int (iI 0)]) (rest := [.int (iI (τ48 23 ((16 * i) + j)))]) hok hΓ (m_codeAt hok τ48 a i 0 (by first | assumption | omega | (simp only [τ480, τ48n, τ48u, τ48c, τ48b, τ48E, τ4822]; first | assumption | omega) | (simp only [τ480, τ48n, τ48u, τ48c, τ48b, τ48E]; first | assumption | omega)) (by first | assumption | omega | (simp only [τ480, τ48n, τ48u, τ48c, τ48b, τ48E, τ4822]; first | assumption | omega) | (simp only [τ480, τ48n, τ48u, τ48c, τ48b, τ48E]; first | assumption | omega)) (by first | assumption | omega | (simp only [τ480, τ48n, τ48u, τ48c, τ48b, τ48E, τ4822]; first | assumption | omega) | (simp only [τ480, τ48n, τ48u, τ48c, τ48b, τ48E]; first | assumption | omega)) (by first | assumption | omega | (simp only [τ480, τ48n, τ48u, τ48c, τ48b, τ48E, τ4822]; first | assumption | omega) | (simp only [τ480, τ48n, τ48u, τ48c, τ48b, τ48E]; first | assumption | omega)) (by first | assumption | omega | (simp only [τ480, τ48n, τ48u, τ48c, τ48b, τ48E, τ4822]; first | assumption | omega) | (simp only [τ480, τ48n, τ48u, τ48c, τ48b, τ48E]; first | assumption | omega))) rfl q1717 q1719 qs93 q131 q1720 ndX3_codeAt rfl (by decide) (by decide) rfl rfl (Nat.le_of_ble_eq_true rfl) dX3_way_106 rfl (fun v74 τ74 τ74h => ?_)
                    obtain ⟨rfl, τ74h⟩ := τ74h
                    rw [τ74h]
                    clear τ74h
                    show gW Γ E (mM E h ad τ48) 0 0 _ _ (.int (iI (cdb τ48 a i 0)) :: _)
                    refine g_topi (show (cdb τ48 a i 0 : Int) = (cdb σ a i 0) by simp only [τ480, τ48n, τ48u, τ48c, τ48b, τ48E, τ48W, τ48P]) ?_
                    refine g_aload_n hΓ rfl dX3_way_109 ?_
                    refine g_iload_n hΓ rfl dX3_way_110 ?_
                    refine g_iload hΓ rfl dX3_way_111 ?_
                    refine g_iconst hΓ dX3_way_113 ?_
                    refine m_callV (As := [.int (iI b), .int (iI j), .int (iI 0)]) (rest := [.int (iI (cdb σ a i 0)), .int (iI (τ48 23 ((16 * i) + j)))]) hok hΓ (m_codeAt hok τ48 b j 0 (by first | assumption | omega | (simp only [τ480, τ48n, τ48u, τ48c, τ48b, τ48E, τ4822]; first | assumption | omega) | (simp only [τ480, τ48n, τ48u, τ48c, τ48b, τ48E]; first | assumption | omega)) (by first | assumption | omega | (simp only [τ480, τ48n, τ48u, τ48c, τ48b, τ48E, τ4822]; first | assumption | omega) | (simp only [τ480, τ48n, τ48u, τ48c, τ48b, τ48E]; first | assumption | omega)) (by first | assumption | omega | (simp only [τ480, τ48n, τ48u, τ48c, τ48b, τ48E, τ4822]; first | assumption | omega) | (simp only [τ480, τ48n, τ48u, τ48c, τ48b, τ48E]; first | assumption | omega)) (by first | assumption | omega | (simp only [τ480, τ48n, τ48u, τ48c, τ48b, τ48E, τ4822]; first | assumption | omega) | (simp only [τ480, τ48n, τ48u, τ48c, τ48b, τ48E]; first | assumption | omega)) (by first | assumption | omega | (simp only [τ480, τ48n, τ48u, τ48c, τ48b, τ48E, τ4822]; first | assumption | omega) | (simp only [τ480, τ48n, τ48u, τ48c, τ48b, τ48E]; first | assumption | omega))) rfl q1717 q1719 qs93 q131 q1720 ndX3_codeAt rfl (by decide) (by decide) rfl rfl (Nat.le_of_ble_eq_true rfl) dX3_way_114 rfl (fun v75 τ75 τ75h => ?_)
                    obtain ⟨rfl, τ75h⟩ := τ75h
                    rw [τ75h]
                    clear τ75h
                    show gW Γ E (mM E h ad τ48) 0 0 _ _ (.int (iI (cdb τ48 b j 0)) :: _)
                    refine g_topi (show (cdb τ48 b j 0 : Int) = (cdb σ b j 0) by simp only [τ480, τ48n, τ48u, τ48c, τ48b, τ48E, τ48W, τ48P]) ?_
                    refine m_callS (As := [.int (iI (cdb σ a i 0)), .int (iI (cdb σ b j 0))]) (rest := [.int (iI (τ48 23 ((16 * i) + j)))]) hok hΓ (m_apart hok τ48 (cdb σ a i 0) (cdb σ b j 0) (by omega) (by omega)) rfl q1671 q1672 q131 q1673 ndX3_apart rfl (by decide) (by decide) rfl (Nat.le_of_ble_eq_true rfl) dX3_way_117 rfl (fun v76 τ76 τ76h => ?_)
                    obtain ⟨rfl, τ76h⟩ := τ76h
                    rw [τ76h]
                    clear τ76h
                    show gW Γ E (mM E h ad τ48) 0 0 _ _ (.int (iI (apt (cdb σ a i 0) (cdb σ b j 0))) :: _)
                    refine g_isub hΓ dX3_way_120 ?_
                    obtain ⟨x77, ex77⟩ : ∃ z9 : Int, z9 = (τ48 23 ((16 * i) + j)) - (apt (cdb σ a i 0) (cdb σ b j 0)) := ⟨_, rfl⟩
                    refine g_topi ex77.symm ?_
                    refine g_istore hΓ dX3_way_121 rfl (Nat.le_of_ble_eq_true rfl) (lv' := [some (.ref h), some (.int (iI a)), some (.int (iI b)), some (.int (iI k)), some (.int (iI w)), some (.int (iI i)), some (.int (iI j)), some (.int (iI n9)), some (.int (iI x49)), some (.int (iI x77))]) rfl ?_
                    refine g_aload_n hΓ rfl dX3_way_123 ?_
                    refine g_iload hΓ rfl dX3_way_124 ?_
                    refine g_iconst hΓ dX3_way_126 ?_
                    refine g_iadd hΓ dX3_way_127 ?_
                    refine g_iload hΓ rfl dX3_way_128 ?_
                    refine g_iconst hΓ dX3_way_130 ?_
                    refine g_iadd hΓ dX3_way_131 ?_
                    refine m_callV (As := [.int (iI (i + 1)), .int (iI (j + 1))]) (rest := []) hok hΓ (m_restAt hok τ48 (i + 1) (j + 1) (by first | assumption | omega | (simp only [τ480, τ48n, τ48u, τ48c, τ48b, τ48E, τ4822]; first | assumption | omega) | (simp only [τ480, τ48n, τ48u, τ48c, τ48b, τ48E]; first | assumption | omega)) (by first | assumption | omega | (simp only [τ480, τ48n, τ48u, τ48c, τ48b, τ48E, τ4822]; first | assumption | omega) | (simp only [τ480, τ48n, τ48u, τ48c, τ48b, τ48E]; first | assumption | omega)) (by first | assumption | omega | (simp only [τ480, τ48n, τ48u, τ48c, τ48b, τ48E, τ4822]; first | assumption | omega) | (simp only [τ480, τ48n, τ48u, τ48c, τ48b, τ48E]; first | assumption | omega))) rfl q1712 q1714 qs92 q131 q1715 ndX3_restAt rfl (by decide) (by decide) rfl rfl (Nat.le_of_ble_eq_true rfl) dX3_way_132 rfl (fun v78 τ78 τ78h => ?_)
                    obtain ⟨rfl, τ78h⟩ := τ78h
                    rw [τ78h]
                    clear τ78h
                    show gW Γ E (mM E h ad τ48) 0 0 _ _ (.int (iI (rat τ48 (i + 1) (j + 1))) :: _)
                    refine g_iload hΓ rfl dX3_way_135 ?_
                    refine g_icmp_ne (tgt := 149) hΓ (by omega) (by omega) dX3_way_137 (by decide) (fun c79 => ?_) (fun c79 => ?_)
                    · refine g_aload_n hΓ rfl dX3_way_149 ?_
                      refine g_iload hΓ rfl dX3_way_150 ?_
                      refine g_iconst hΓ dX3_way_152 ?_
                      refine g_iadd hΓ dX3_way_153 ?_
                      refine g_iload hΓ rfl dX3_way_154 ?_
                      refine m_callV (As := [.int (iI (i + 1)), .int (iI j)]) (rest := []) hok hΓ (m_restAt hok τ48 (i + 1) j (by first | assumption | omega | (simp only [τ480, τ48n, τ48u, τ48c, τ48b, τ48E, τ4822]; first | assumption | omega) | (simp only [τ480, τ48n, τ48u, τ48c, τ48b, τ48E]; first | assumption | omega)) (by first | assumption | omega | (simp only [τ480, τ48n, τ48u, τ48c, τ48b, τ48E, τ4822]; first | assumption | omega) | (simp only [τ480, τ48n, τ48u, τ48c, τ48b, τ48E]; first | assumption | omega)) (by first | assumption | omega | (simp only [τ480, τ48n, τ48u, τ48c, τ48b, τ48E, τ4822]; first | assumption | omega) | (simp only [τ480, τ48n, τ48u, τ48c, τ48b, τ48E]; first | assumption | omega))) rfl q1712 q1714 qs92 q131 q1715 ndX3_restAt rfl (by decide) (by decide) rfl rfl (Nat.le_of_ble_eq_true rfl) dX3_way_156 rfl (fun v80 τ80 τ80h => ?_)
                      obtain ⟨rfl, τ80h⟩ := τ80h
                      rw [τ80h]
                      clear τ80h
                      show gW Γ E (mM E h ad τ48) 0 0 _ _ (.int (iI (rat τ48 (i + 1) j)) :: _)
                      refine g_iload hΓ rfl dX3_way_159 ?_
                      refine g_icmp_ne (tgt := 170) hΓ (by omega) (by omega) dX3_way_161 (by decide) (fun c81 => ?_) (fun c81 => ?_)
                      · obtain ⟨x82, ex82⟩ : ∃ z9 : Int, z9 = j + 1 := ⟨_, rfl⟩
                        refine g_iinc hΓ dX3_way_170 rfl rfl (lv' := [some (.ref h), some (.int (iI a)), some (.int (iI b)), some (.int (iI k)), some (.int (iI w)), some (.int (iI i)), some (.int (iI x82)), some (.int (iI n9)), some (.int (iI x49)), some (.int (iI x77))]) (by rw [ex82]; rfl) ?_
                        have hxe : nxt (csd σ a b 0) (σ 0 1042) (σ 0 1043) (i, j) = (i, x82) := by
                          rw [nxt, if_neg (by simp only; omega), if_neg (by simp only; omega)]
                          rw [ex82]
                        have hy := hx
                        rw [hxe] at hy
                        simp only at hy
                        obtain ⟨x83, ex83⟩ : ∃ z9 : Int, z9 = n9 + 1 := ⟨_, rfl⟩
                        refine g_iinc hΓ dX3_way_173 rfl rfl (lv' := [some (.ref h), some (.int (iI a)), some (.int (iI b)), some (.int (iI k)), some (.int (iI w)), some (.int (iI i)), some (.int (iI x82)), some (.int (iI x83)), some (.int (iI x49)), some (.int (iI x77))]) (by rw [ex83]; rfl) ?_
                        refine g_goto (tgt := 68) hΓ dX3_way_176 (by decide) ?_
                        refine g_lvw (lv' := [some (.ref h), some (.int (iI a)), some (.int (iI b)), some (.int (iI k)), some (.int (iI w)), some (.int (iI i)), some (.int (iI x82)), some (.int (iI x83)), some (.int (iI x49)), none]) ⟨rfl, ⟨rfl, ⟨rfl, ⟨rfl, ⟨rfl, ⟨rfl, ⟨rfl, ⟨rfl, ⟨rfl, trivial⟩⟩⟩⟩⟩⟩⟩⟩⟩ ?_
                        exact ih_loop i x82 x83 (by omega) (by omega) (by have z := hx.2.2.2.2.2.1; rw [hxe] at z; exact z) (by rw [← hv, show (32 - n9).toNat = (32 - x83).toNat + 1 by omega, wayL, if_pos (by simp only; omega), hxe, ex83])
                      · obtain ⟨x84, ex84⟩ : ∃ z9 : Int, z9 = i + 1 := ⟨_, rfl⟩
                        refine g_iinc hΓ dX3_way_164 rfl rfl (lv' := [some (.ref h), some (.int (iI a)), some (.int (iI b)), some (.int (iI k)), some (.int (iI w)), some (.int (iI x84)), some (.int (iI j)), some (.int (iI n9)), some (.int (iI x49)), some (.int (iI x77))]) (by rw [ex84]; rfl) ?_
                        refine g_goto (tgt := 173) hΓ dX3_way_167 (by decide) ?_
                        have hxe : nxt (csd σ a b 0) (σ 0 1042) (σ 0 1043) (i, j) = (x84, j) := by
                          rw [nxt, if_neg (by simp only; omega), if_pos (by simp only; omega)]
                          rw [ex84]
                        have hy := hx
                        rw [hxe] at hy
                        simp only at hy
                        obtain ⟨x85, ex85⟩ : ∃ z9 : Int, z9 = n9 + 1 := ⟨_, rfl⟩
                        refine g_iinc hΓ dX3_way_173 rfl rfl (lv' := [some (.ref h), some (.int (iI a)), some (.int (iI b)), some (.int (iI k)), some (.int (iI w)), some (.int (iI x84)), some (.int (iI j)), some (.int (iI x85)), some (.int (iI x49)), some (.int (iI x77))]) (by rw [ex85]; rfl) ?_
                        refine g_goto (tgt := 68) hΓ dX3_way_176 (by decide) ?_
                        refine g_lvw (lv' := [some (.ref h), some (.int (iI a)), some (.int (iI b)), some (.int (iI k)), some (.int (iI w)), some (.int (iI x84)), some (.int (iI j)), some (.int (iI x85)), some (.int (iI x49)), none]) ⟨rfl, ⟨rfl, ⟨rfl, ⟨rfl, ⟨rfl, ⟨rfl, ⟨rfl, ⟨rfl, ⟨rfl, trivial⟩⟩⟩⟩⟩⟩⟩⟩⟩ ?_
                        exact ih_loop x84 j x85 (by omega) (by omega) (by have z := hx.2.2.2.2.2.1; rw [hxe] at z; exact z) (by rw [← hv, show (32 - n9).toNat = (32 - x85).toNat + 1 by omega, wayL, if_pos (by simp only; omega), hxe, ex85])
                    · obtain ⟨x86, ex86⟩ : ∃ z9 : Int, z9 = i + 1 := ⟨_, rfl⟩
                      refine g_iinc hΓ dX3_way_140 rfl rfl (lv' := [some (.ref h), some (.int (iI a)), some (.int (iI b)), some (.int (iI k)), some (.int (iI w)), some (.int (iI x86)), some (.int (iI j)), some (.int (iI n9)), some (.int (iI x49)), some (.int (iI x77))]) (by rw [ex86]; rfl) ?_
                      obtain ⟨x87, ex87⟩ : ∃ z9 : Int, z9 = j + 1 := ⟨_, rfl⟩
                      refine g_iinc hΓ dX3_way_143 rfl rfl (lv' := [some (.ref h), some (.int (iI a)), some (.int (iI b)), some (.int (iI k)), some (.int (iI w)), some (.int (iI x86)), some (.int (iI x87)), some (.int (iI n9)), some (.int (iI x49)), some (.int (iI x77))]) (by rw [ex87]; rfl) ?_
                      refine g_goto (tgt := 173) hΓ dX3_way_146 (by decide) ?_
                      have hxe : nxt (csd σ a b 0) (σ 0 1042) (σ 0 1043) (i, j) = (x86, x87) := by
                        rw [nxt, if_pos (by simp only; omega)]
                        rw [ex86, ex87]
                      have hy := hx
                      rw [hxe] at hy
                      simp only at hy
                      obtain ⟨x88, ex88⟩ : ∃ z9 : Int, z9 = n9 + 1 := ⟨_, rfl⟩
                      refine g_iinc hΓ dX3_way_173 rfl rfl (lv' := [some (.ref h), some (.int (iI a)), some (.int (iI b)), some (.int (iI k)), some (.int (iI w)), some (.int (iI x86)), some (.int (iI x87)), some (.int (iI x88)), some (.int (iI x49)), some (.int (iI x77))]) (by rw [ex88]; rfl) ?_
                      refine g_goto (tgt := 68) hΓ dX3_way_176 (by decide) ?_
                      refine g_lvw (lv' := [some (.ref h), some (.int (iI a)), some (.int (iI b)), some (.int (iI k)), some (.int (iI w)), some (.int (iI x86)), some (.int (iI x87)), some (.int (iI x88)), some (.int (iI x49)), none]) ⟨rfl, ⟨rfl, ⟨rfl, ⟨rfl, ⟨rfl, ⟨rfl, ⟨rfl, ⟨rfl, ⟨rfl, trivial⟩⟩⟩⟩⟩⟩⟩⟩⟩ ?_
                      exact ih_loop x86 x87 x88 (by omega) (by omega) (by have z := hx.2.2.2.2.2.1; rw [hxe] at z; exact z) (by rw [← hv, show (32 - n9).toNat = (32 - x88).toNat + 1 by omega, wayL, if_pos (by simp only; omega), hxe, ex88])
          exact loop 33 0 0 0 (by omega) (by omega) (by omega) rfl
        · refine g_iconst hΓ dX3_way_29 ?_
          exact m_iret hΓ dX3_way_30 ⟨ri (by rw [sp_way, if_pos (by omega)]), trivial, (fun k j hk => (τ1f k j (fun e => hk ((show ∀ x ∈ [22], x ∈ [22, 23] by decide) k e))))⟩
