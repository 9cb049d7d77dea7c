set_option maxRecDepth 100000
set_option maxHeartbeats 4000000 in
theorem m_fault {l : Launch} {E : gE} {h : Nat} {ad : Nat → Nat} (hok : mOK E h ad) (σ : mS)  (w : Int) (hw : r32 w) : mC l E h ad yX3_fault cX3_fault 2 (some .int) 0 [.ref h, .int (iI w)] σ (fun rv σ' => rv = some (.int (iI (if w = 0 then σ 14 0 else if w = 1 then σ 15 0 else -1))) ∧ σ' = σ) := by
  refine mC.of (by decide) [some (.ref h), some (.int (iI w))] (Nat.le_of_ble_eq_true rfl) rfl rfl (fun Γ hΓ => ?_)
  refine g_iload_n hΓ rfl dX3_fault_0 ?_
  refine g_if_ne (tgt := 11) hΓ (by omega) dX3_fault_1 (by decide) (fun c1 => ?_) (fun c1 => ?_)
  · refine g_iload_n hΓ rfl dX3_fault_11 ?_
    refine g_iconst hΓ dX3_fault_12 ?_
    refine g_icmp_ne (tgt := 23) hΓ (by omega) (by omega) dX3_fault_13 (by decide) (fun c2 => ?_) (fun c2 => ?_)
    · refine g_iconst hΓ dX3_fault_23 ?_
      exact m_iret hΓ dX3_fault_24 ⟨ri (by first | rfl | omega | (simp_all; done) | (simp_all; omega)), rfl⟩
    · refine g_aload_n hΓ rfl dX3_fault_16 ?_
      refine m_geti hok hΓ 15 (by decide) rfl rfl q1372 rfl dX3_fault_17 ?_
      refine g_goto (tgt := 24) hΓ dX3_fault_20 (by decide) ?_
      exact m_iret hΓ dX3_fault_24 ⟨ri (by first | rfl | omega | (simp_all; done) | (simp_all; omega)), rfl⟩
  · refine g_aload_n hΓ rfl dX3_fault_4 ?_
    refine m_geti hok hΓ 14 (by decide) rfl rfl q1371 rfl dX3_fault_5 ?_
    refine g_goto (tgt := 24) hΓ dX3_fault_8 (by decide) ?_
    exact m_iret hΓ dX3_fault_24 ⟨ri (by first | rfl | omega | (simp_all; done) | (simp_all; omega)), rfl⟩
set_option maxHeartbeats 4000000 in
theorem m_isModel {l : Launch} {E : gE} {h : Nat} {ad : Nat → Nat} (hok : mOK E h ad) (σ : mS)  (m : Int) (hm : r32 m) (hr : rowOK (σ 0)) : mC l E h ad yX3_isModel cX3_isModel 2 (some .boolean) 1 [.ref h, .int (iI m)] σ (fun rv σ' => rv = some (.int (iI (if 0 ≤ m ∧ m < σ 0 1000 then 1 else 0))) ∧ σ' = σ) := by
  refine mC.of (by decide) [some (.ref h), some (.int (iI m))] (Nat.le_of_ble_eq_true rfl) rfl rfl (fun Γ hΓ => ?_)
  obtain ⟨h1000, h1009, h1042, h1043, h1044, h1045, h1046, h1047, hms, hsi, hsm, hnm⟩ := id hr
  refine g_iload_n hΓ rfl dX3_isModel_0 ?_
  refine g_iconst hΓ dX3_isModel_1 ?_
  refine g_aload_n hΓ rfl dX3_isModel_2 ?_
  refine m_geta hok hΓ 0 (by decide) rfl rfl q1357 rfl dX3_isModel_3 ?_
  refine g_sipush hΓ (by decide) dX3_isModel_6 ?_
  refine m_ald hok hΓ 0 (by decide) rfl (n := 1048) rfl (by omega) (by decide) dX3_isModel_9 ?_
  refine g_iconst hΓ dX3_isModel_10 ?_
  refine g_isub hΓ dX3_isModel_11 ?_
  refine m_callS (As := [.int (iI m), .int (iI 0), .int (iI ((σ 0 1000) - 1))]) (rest := []) hok hΓ (m_isIn hok σ m 0 ((σ 0 1000) - 1) (by first | assumption | omega) (by first | assumption | omega) (by first | assumption | omega)) rfl q1549 q1550 q131 q1551 ndX3_isIn rfl (by decide) (by decide) rfl (Nat.le_of_ble_eq_true rfl) dX3_isModel_12 rfl (fun v1 τ1 τ1h => ?_)
  obtain ⟨rfl, τ1h⟩ := τ1h
  rw [τ1h]
  clear τ1h
  show gW Γ E (mM E h ad σ) 0 0 _ _ (.int (iI (if 0 ≤ m ∧ m ≤ ((σ 0 1000) - 1) then 1 else 0)) :: _)
  exact m_zret hΓ (by omega) dX3_isModel_15 ⟨ri (by first | rfl | omega | (simp_all; done) | (simp_all; omega)), rfl⟩
set_option maxHeartbeats 4000000 in
theorem m_named {l : Launch} {E : gE} {h : Nat} {ad : Nat → Nat} (hok : mOK E h ad) (σ : mS)  (m : Int) (k : Int) (hm : r32 m) (hk : r32 k) (hr : rowOK (σ 0)) : mC l E h ad yX3_named cX3_named 3 (some .int) 2 [.ref h, .int (iI m), .int (iI k)] σ (fun rv σ' => rv = some (.int (iI (if (0 ≤ m ∧ m < σ 0 1000) ∧ 0 ≤ k ∧ k ≤ 3 then σ 0 (1010 + 4 * m + k) else -1))) ∧ σ' = σ) := by
  refine mC.of (by decide) [some (.ref h), some (.int (iI m)), some (.int (iI k))] (Nat.le_of_ble_eq_true rfl) rfl rfl (fun Γ hΓ => ?_)
  obtain ⟨h1000, h1009, h1042, h1043, h1044, h1045, h1046, h1047, hms, hsi, hsm, hnm⟩ := id hr
  refine g_aload_n hΓ rfl dX3_named_0 ?_
  refine g_iload_n hΓ rfl dX3_named_1 ?_
  refine m_callV (As := [.int (iI m)]) (rest := []) hok hΓ (m_isModel hok σ m (by first | assumption | omega) (by first | assumption | omega)) rfl q1594 q1596 qs76 q131 q1597 ndX3_isModel rfl (by decide) (by decide) rfl rfl (Nat.le_of_ble_eq_true rfl) dX3_named_2 rfl (fun v1 τ1 τ1h => ?_)
  obtain ⟨rfl, τ1h⟩ := τ1h
  rw [τ1h]
  clear τ1h
  show gW Γ E (mM E h ad σ) 0 0 _ _ (.int (iI (if 0 ≤ m ∧ m < σ 0 1000 then 1 else 0)) :: _)
  refine g_ifB_eq (tgt := 34) hΓ  dX3_named_5 (by decide) (fun c2 => ?_) (fun c2 => ?_)
  · refine g_iconst hΓ dX3_named_34 ?_
    exact m_iret hΓ dX3_named_35 ⟨ri (by first | (rw [if_pos (by omega)]) | (rw [if_neg (by omega)])), rfl⟩
  · refine g_iload_n hΓ rfl dX3_named_8 ?_
    refine g_iconst hΓ dX3_named_9 ?_
    refine g_iconst hΓ dX3_named_10 ?_
    refine m_callS (As := [.int (iI k), .int (iI 0), .int (iI 3)]) (rest := []) hok hΓ (m_isIn hok σ k 0 3 (by first | assumption | omega) (by first | assumption | omega) (by first | assumption | omega)) rfl q1549 q1550 q131 q1551 ndX3_isIn rfl (by decide) (by decide) rfl (Nat.le_of_ble_eq_true rfl) dX3_named_11 rfl (fun v3 τ3 τ3h => ?_)
    obtain ⟨rfl, τ3h⟩ := τ3h
    rw [τ3h]
    clear τ3h
    show gW Γ E (mM E h ad σ) 0 0 _ _ (.int (iI (if 0 ≤ k ∧ k ≤ 3 then 1 else 0)) :: _)
    refine g_ifB_eq (tgt := 34) hΓ  dX3_named_14 (by decide) (fun c4 => ?_) (fun c4 => ?_)
    · refine g_iconst hΓ dX3_named_34 ?_
      exact m_iret hΓ dX3_named_35 ⟨ri (by first | (rw [if_pos (by omega)]) | (rw [if_neg (by omega)])), rfl⟩
    · refine g_aload_n hΓ rfl dX3_named_17 ?_
      refine m_geta hok hΓ 0 (by decide) rfl rfl q1357 rfl dX3_named_18 ?_
      refine g_sipush hΓ (by decide) dX3_named_21 ?_
      refine g_iconst hΓ dX3_named_24 ?_
      refine g_iload_n hΓ rfl dX3_named_25 ?_
      refine g_imul hΓ dX3_named_26 ?_
      refine g_iadd hΓ dX3_named_27 ?_
      refine g_iload_n hΓ rfl dX3_named_28 ?_
      refine g_iadd hΓ dX3_named_29 ?_
      refine m_ald hok hΓ 0 (by decide) rfl (n := 1048) rfl (by omega) (by decide) dX3_named_30 ?_
      refine g_goto (tgt := 35) hΓ dX3_named_31 (by decide) ?_
      exact m_iret hΓ dX3_named_35 ⟨ri (by first | (rw [if_pos (by omega)]) | (rw [if_neg (by omega)])), rfl⟩
set_option maxHeartbeats 4000000 in
theorem m_isLetter {l : Launch} {E : gE} {h : Nat} {ad : Nat → Nat} (hok : mOK E h ad) (σ : mS)  (m : Int) (hm : r32 m) (hr : rowOK (σ 0)) : mC l E h ad yX3_isLetter cX3_isLetter 2 (some .boolean) 2 [.ref h, .int (iI m)] σ (fun rv σ' => rv = some (.int (iI (if m = -1 ∨ (0 ≤ m ∧ m < σ 0 1000) then 1 else 0))) ∧ σ' = σ) := by
  refine mC.of (by decide) [some (.ref h), some (.int (iI m))] (Nat.le_of_ble_eq_true rfl) rfl rfl (fun Γ hΓ => ?_)
  obtain ⟨h1000, h1009, h1042, h1043, h1044, h1045, h1046, h1047, hms, hsi, hsm, hnm⟩ := id hr
  refine g_iload_n hΓ rfl dX3_isLetter_0 ?_
  refine g_iconst hΓ dX3_isLetter_1 ?_
  refine g_icmp_eq (tgt := 13) hΓ (by omega) (by omega) dX3_isLetter_2 (by decide) (fun c1 => ?_) (fun c1 => ?_)
  · refine g_iconst hΓ dX3_isLetter_13 ?_
    refine g_goto (tgt := 18) hΓ dX3_isLetter_14 (by decide) ?_
    exact m_zret hΓ (by omega) dX3_isLetter_18 ⟨ri (by first | rfl | omega | (simp_all; done) | (simp_all; omega)), rfl⟩
  · refine g_aload_n hΓ rfl dX3_isLetter_5 ?_
    refine g_iload_n hΓ rfl dX3_isLetter_6 ?_
    refine m_callV (As := [.int (iI m)]) (rest := []) hok hΓ (m_isModel hok σ m (by first | assumption | omega) (by first | assumption | omega)) rfl q1594 q1596 qs76 q131 q1597 ndX3_isModel rfl (by decide) (by decide) rfl rfl (Nat.le_of_ble_eq_true rfl) dX3_isLetter_7 rfl (fun v2 τ2 τ2h => ?_)
    obtain ⟨rfl, τ2h⟩ := τ2h
    rw [τ2h]
    clear τ2h
    show gW Γ E (mM E h ad σ) 0 0 _ _ (.int (iI (if 0 ≤ m ∧ m < σ 0 1000 then 1 else 0)) :: _)
    refine g_ifB_eq (tgt := 17) hΓ  dX3_isLetter_10 (by decide) (fun c3 => ?_) (fun c3 => ?_)
    · refine g_iconst hΓ dX3_isLetter_17 ?_
      exact m_zret hΓ (by omega) dX3_isLetter_18 ⟨ri (by first | rfl | omega | (simp_all; done) | (simp_all; omega)), rfl⟩
    · refine g_iconst hΓ dX3_isLetter_13 ?_
      refine g_goto (tgt := 18) hΓ dX3_isLetter_14 (by decide) ?_
      exact m_zret hΓ (by omega) dX3_isLetter_18 ⟨ri (by first | rfl | omega | (simp_all; done) | (simp_all; omega)), rfl⟩
set_option maxHeartbeats 4000000 in
theorem m_firstOf {l : Launch} {E : gE} {h : Nat} {ad : Nat → Nat} (hok : mOK E h ad) (σ : mS)  (m : Int) (hm : r32 m) : mC l E h ad yX3_firstOf cX3_firstOf 2 (some .int) 0 [.ref h, .int (iI m)] σ (fun rv σ' => rv = some (.int (iI (fsS m))) ∧ σ' = σ) := by
  refine mC.of (by decide) [some (.ref h), some (.int (iI m))] (Nat.le_of_ble_eq_true rfl) rfl rfl (fun Γ hΓ => ?_)
  refine g_iload_n hΓ rfl dX3_firstOf_0 ?_
  refine g_iconst hΓ dX3_firstOf_1 ?_
  refine g_icmp_ne (tgt := 9) hΓ (by omega) (by omega) dX3_firstOf_2 (by decide) (fun c1 => ?_) (fun c1 => ?_)
  · refine g_bipush hΓ (by decide) dX3_firstOf_9 ?_
    refine g_iconst hΓ dX3_firstOf_11 ?_
    refine g_iload_n hΓ rfl dX3_firstOf_12 ?_
    refine g_imul hΓ dX3_firstOf_13 ?_
    refine g_iadd hΓ dX3_firstOf_14 ?_
    exact m_iret hΓ dX3_firstOf_15 ⟨ri (by rw [fsS]; first | rw [if_pos (by omega)] | rw [if_neg (by omega)]), rfl⟩
  · refine g_iconst hΓ dX3_firstOf_5 ?_
    refine g_goto (tgt := 15) hΓ dX3_firstOf_6 (by decide) ?_
    exact m_iret hΓ dX3_firstOf_15 ⟨ri (by rw [fsS]; first | rw [if_pos (by omega)] | rw [if_neg (by omega)]), rfl⟩
set_option maxHeartbeats 4000000 in
theorem m_manyOf {l : Launch} {E : gE} {h : Nat} {ad : Nat → Nat} (hok : mOK E h ad) (σ : mS)  (m : Int) (hm : r32 m) (hm : -1 ≤ m ∧ m < 8) : mC l E h ad yX3_manyOf cX3_manyOf 2 (some .int) 0 [.ref h, .int (iI m)] σ (fun rv σ' => rv = some (.int (iI (mnS σ m))) ∧ σ' = σ) := by
  refine mC.of (by decide) [some (.ref h), some (.int (iI m))] (Nat.le_of_ble_eq_true rfl) rfl rfl (fun Γ hΓ => ?_)
  refine g_iload_n hΓ rfl dX3_manyOf_0 ?_
  refine g_iconst hΓ dX3_manyOf_1 ?_
  refine g_icmp_ne (tgt := 16) hΓ (by omega) (by omega) dX3_manyOf_2 (by decide) (fun c1 => ?_) (fun c1 => ?_)
  · refine g_aload_n hΓ rfl dX3_manyOf_16 ?_
    refine m_geta hok hΓ 0 (by decide) rfl rfl q1357 rfl dX3_manyOf_17 ?_
    refine g_sipush hΓ (by decide) dX3_manyOf_20 ?_
    refine g_iload_n hΓ rfl dX3_manyOf_23 ?_
    refine g_iadd hΓ dX3_manyOf_24 ?_
    refine m_ald hok hΓ 0 (by decide) rfl (n := 1048) rfl (by omega) (by decide) dX3_manyOf_25 ?_
    exact m_iret hΓ dX3_manyOf_26 ⟨ri (by rw [mnS]; first | rw [if_pos (by omega)] | rw [if_neg (by omega)]), rfl⟩
  · refine g_aload_n hΓ rfl dX3_manyOf_5 ?_
    refine m_geta hok hΓ 0 (by decide) rfl rfl q1357 rfl dX3_manyOf_6 ?_
    refine g_sipush hΓ (by decide) dX3_manyOf_9 ?_
    refine m_ald hok hΓ 0 (by decide) rfl (n := 1048) rfl (by omega) (by decide) dX3_manyOf_12 ?_
    refine g_goto (tgt := 26) hΓ dX3_manyOf_13 (by decide) ?_
    exact m_iret hΓ dX3_manyOf_26 ⟨ri (by rw [mnS]; first | rw [if_pos (by omega)] | rw [if_neg (by omega)]), rfl⟩
set_option maxHeartbeats 4000000 in
theorem m_strokes {l : Launch} {E : gE} {h : Nat} {ad : Nat → Nat} (hok : mOK E h ad) (σ : mS)  (m : Int) (hm : r32 m) (hr : rowOK (σ 0)) : mC l E h ad yX3_strokes cX3_strokes 2 (some .int) 3 [.ref h, .int (iI m)] σ (fun rv σ' => rv = some (.int (iI (if m = -1 ∨ (0 ≤ m ∧ m < σ 0 1000) then mnS σ m else -1))) ∧ σ' = σ) := by
  refine mC.of (by decide) [some (.ref h), some (.int (iI m))] (Nat.le_of_ble_eq_true rfl) rfl rfl (fun Γ hΓ => ?_)
  obtain ⟨h1000, h1009, h1042, h1043, h1044, h1045, h1046, h1047, hms, hsi, hsm, hnm⟩ := id hr
  refine g_aload_n hΓ rfl dX3_strokes_0 ?_
  refine g_iload_n hΓ rfl dX3_strokes_1 ?_
  refine m_callV (As := [.int (iI m)]) (rest := []) hok hΓ (m_isLetter hok σ m (by first | assumption | omega) (by first | assumption | omega)) rfl q1602 q1604 qs77 q131 q1605 ndX3_isLetter rfl (by decide) (by decide) rfl rfl (Nat.le_of_ble_eq_true rfl) dX3_strokes_2 rfl (fun v1 τ1 τ1h => ?_)
  obtain ⟨rfl, τ1h⟩ := τ1h
  rw [τ1h]
  clear τ1h
  show gW Γ E (mM E h ad σ) 0 0 _ _ (.int (iI (if m = -1 ∨ (0 ≤ m ∧ m < σ 0 1000) then 1 else 0)) :: _)
  refine g_ifB_eq (tgt := 16) hΓ  dX3_strokes_5 (by decide) (fun c2 => ?_) (fun c2 => ?_)
  · refine g_iconst hΓ dX3_strokes_16 ?_
    exact m_iret hΓ dX3_strokes_17 ⟨ri (by first | rw [if_pos (by omega)] | rw [if_neg (by omega)]), rfl⟩
  · refine g_aload_n hΓ rfl dX3_strokes_8 ?_
    refine g_iload_n hΓ rfl dX3_strokes_9 ?_
    refine m_callV (As := [.int (iI m)]) (rest := []) hok hΓ (m_manyOf hok σ m (by first | assumption | omega) (by first | assumption | omega)) rfl q1606 q1608 qs78 q131 q1609 ndX3_manyOf rfl (by decide) (by decide) rfl rfl (Nat.le_of_ble_eq_true rfl) dX3_strokes_10 rfl (fun v3 τ3 τ3h => ?_)
    obtain ⟨rfl, τ3h⟩ := τ3h
    rw [τ3h]
    clear τ3h
    show gW Γ E (mM E h ad σ) 0 0 _ _ (.int (iI (mnS σ m)) :: _)
    refine g_goto (tgt := 17) hΓ dX3_strokes_13 (by decide) ?_
    exact m_iret hΓ dX3_strokes_17 ⟨ri (by first | rw [if_pos (by omega)] | rw [if_neg (by omega)]), rfl⟩
set_option maxHeartbeats 4000000 in
theorem m_pointsOf {l : Launch} {E : gE} {h : Nat} {ad : Nat → Nat} (hok : mOK E h ad) (σ : mS)  (s : Int) (hs : 0 ≤ s ∧ s < 104) : mC l E h ad yX3_pointsOf cX3_pointsOf 2 (some .int) 0 [.ref h, .int (iI s)] σ (fun rv σ' => rv = some (.int (iI (np σ s))) ∧ σ' = σ) := by
  refine mC.of (by decide) [some (.ref h), some (.int (iI s))] (Nat.le_of_ble_eq_true rfl) rfl rfl (fun Γ hΓ => ?_)
  refine g_iload_n hΓ rfl dX3_pointsOf_0 ?_
  refine g_bipush hΓ (by decide) dX3_pointsOf_1 ?_
  refine g_icmp_ge (tgt := 19) hΓ (by omega) (by omega) dX3_pointsOf_3 (by decide) (fun c1 => ?_) (fun c1 => ?_)
  · refine g_aload_n hΓ rfl dX3_pointsOf_19 ?_
    refine m_geta hok hΓ 8 (by decide) rfl rfl q1365 rfl dX3_pointsOf_20 ?_
    refine g_iload_n hΓ rfl dX3_pointsOf_23 ?_
    refine g_bipush hΓ (by decide) dX3_pointsOf_24 ?_
    refine g_isub hΓ dX3_pointsOf_26 ?_
    refine m_ald hok hΓ 8 (by decide) rfl (n := 64) rfl (by omega) (by decide) dX3_pointsOf_27 ?_
    exact m_iret hΓ dX3_pointsOf_28 ⟨ri (by rw [np]; first | rw [if_pos (by omega)] | rw [if_neg (by omega)]), rfl⟩
  · refine g_aload_n hΓ rfl dX3_pointsOf_6 ?_
    refine m_geta hok hΓ 0 (by decide) rfl rfl q1357 rfl dX3_pointsOf_7 ?_
    refine g_sipush hΓ (by decide) dX3_pointsOf_10 ?_
    refine g_iload_n hΓ rfl dX3_pointsOf_13 ?_
    refine g_iadd hΓ dX3_pointsOf_14 ?_
    refine m_ald hok hΓ 0 (by decide) rfl (n := 1048) rfl (by omega) (by decide) dX3_pointsOf_15 ?_
    refine g_goto (tgt := 28) hΓ dX3_pointsOf_16 (by decide) ?_
    exact m_iret hΓ dX3_pointsOf_28 ⟨ri (by rw [np]; first | rw [if_pos (by omega)] | rw [if_neg (by omega)]), rfl⟩
set_option maxHeartbeats 4000000 in
theorem m_numberOf {l : Launch} {E : gE} {h : Nat} {ad : Nat → Nat} (hok : mOK E h ad) (σ : mS)  (s : Int) (k : Int) (x : Int) (hs : 0 ≤ s ∧ s < 104) (hk : 0 ≤ 2 * k + x ∧ 2 * k + x < 24) (hk2 : r32 k ∧ r32 x) : mC l E h ad yX3_numberOf cX3_numberOf 4 (some .int) 0 [.ref h, .int (iI s), .int (iI k), .int (iI x)] σ (fun rv σ' => rv = some (.int (iI (nu σ s (2 * k + x)))) ∧ σ' = σ) := by
  refine mC.of (by decide) [some (.ref h), some (.int (iI s)), some (.int (iI k)), some (.int (iI x))] (Nat.le_of_ble_eq_true rfl) rfl rfl (fun Γ hΓ => ?_)
  refine g_iload_n hΓ rfl dX3_numberOf_0 ?_
  refine g_bipush hΓ (by decide) dX3_numberOf_1 ?_
  refine g_icmp_ge (tgt := 26) hΓ (by omega) (by omega) dX3_numberOf_3 (by decide) (fun c1 => ?_) (fun c1 => ?_)
  · refine g_aload_n hΓ rfl dX3_numberOf_26 ?_
    refine m_geta hok hΓ 7 (by decide) rfl rfl q1364 rfl dX3_numberOf_27 ?_
    refine g_bipush hΓ (by decide) dX3_numberOf_30 ?_
    refine g_iload_n hΓ rfl dX3_numberOf_32 ?_
    refine g_bipush hΓ (by decide) dX3_numberOf_33 ?_
    refine g_isub hΓ dX3_numberOf_35 ?_
    refine g_imul hΓ dX3_numberOf_36 ?_
    refine g_iconst hΓ dX3_numberOf_37 ?_
    refine g_iload_n hΓ rfl dX3_numberOf_38 ?_
    refine g_imul hΓ dX3_numberOf_39 ?_
    refine g_iadd hΓ dX3_numberOf_40 ?_
    refine g_iload_n hΓ rfl dX3_numberOf_41 ?_
    refine g_iadd hΓ dX3_numberOf_42 ?_
    refine m_ald hok hΓ 7 (by decide) rfl (n := 1536) rfl (by omega) (by decide) dX3_numberOf_43 ?_
    exact m_iret hΓ dX3_numberOf_44 ⟨ri (by rw [nu]; first | (rw [if_pos (by omega)]; congr 1; omega) | (rw [if_neg (by omega)]; congr 1; omega)), rfl⟩
  · refine g_aload_n hΓ rfl dX3_numberOf_6 ?_
    refine m_geta hok hΓ 0 (by decide) rfl rfl q1357 rfl dX3_numberOf_7 ?_
    refine g_iconst hΓ dX3_numberOf_10 ?_
    refine g_bipush hΓ (by decide) dX3_numberOf_11 ?_
    refine g_iload_n hΓ rfl dX3_numberOf_13 ?_
    refine g_imul hΓ dX3_numberOf_14 ?_
    refine g_iadd hΓ dX3_numberOf_15 ?_
    refine g_iconst hΓ dX3_numberOf_16 ?_
    refine g_iload_n hΓ rfl dX3_numberOf_17 ?_
    refine g_imul hΓ dX3_numberOf_18 ?_
    refine g_iadd hΓ dX3_numberOf_19 ?_
    refine g_iload_n hΓ rfl dX3_numberOf_20 ?_
    refine g_iadd hΓ dX3_numberOf_21 ?_
    refine m_ald hok hΓ 0 (by decide) rfl (n := 1048) rfl (by omega) (by decide) dX3_numberOf_22 ?_
    refine g_goto (tgt := 44) hΓ dX3_numberOf_23 (by decide) ?_
    exact m_iret hΓ dX3_numberOf_44 ⟨ri (by rw [nu]; first | (rw [if_pos (by omega)]; congr 1; omega) | (rw [if_neg (by omega)]; congr 1; omega)), rfl⟩
set_option maxHeartbeats 4000000 in
theorem m_strokeOf {l : Launch} {E : gE} {h : Nat} {ad : Nat → Nat} (hok : mOK E h ad) (σ : mS)  (m : Int) (k : Int) (hm : r32 m) (hk : r32 k) (hr : rowOK (σ 0)) : mC l E h ad yX3_strokeOf cX3_strokeOf 3 (some .int) 3 [.ref h, .int (iI m), .int (iI k)] σ (fun rv σ' => rv = some (.int (iI (stO σ m k))) ∧ σ' = σ) := by
  refine mC.of (by decide) [some (.ref h), some (.int (iI m)), some (.int (iI k))] (Nat.le_of_ble_eq_true rfl) rfl rfl (fun Γ hΓ => ?_)
  obtain ⟨h1000, h1009, h1042, h1043, h1044, h1045, h1046, h1047, hms, hsi, hsm, hnm⟩ := id hr
  have hmm := fun h => mnS_r hr (m := m) h
  refine g_aload_n hΓ rfl dX3_strokeOf_0 ?_
  refine g_iload_n hΓ rfl dX3_strokeOf_1 ?_
  refine m_callV (As := [.int (iI m)]) (rest := []) hok hΓ (m_isLetter hok σ m (by first | assumption | omega) (by first | assumption | omega)) rfl q1602 q1604 qs77 q131 q1605 ndX3_isLetter rfl (by decide) (by decide) rfl rfl (Nat.le_of_ble_eq_true rfl) dX3_strokeOf_2 rfl (fun v1 τ1 τ1h => ?_)
  obtain ⟨rfl, τ1h⟩ := τ1h
  rw [τ1h]
  clear τ1h
  show gW Γ E (mM E h ad σ) 0 0 _ _ (.int (iI (if m = -1 ∨ (0 ≤ m ∧ m < σ 0 1000) then 1 else 0)) :: _)
  refine g_ifB_eq (tgt := 33) hΓ  dX3_strokeOf_5 (by decide) (fun c2 => ?_) (fun c2 => ?_)
  · refine g_iconst hΓ dX3_strokeOf_33 ?_
    exact m_iret hΓ dX3_strokeOf_34 ⟨ri (by rw [stO]; first | rw [if_pos (by omega)] | rw [if_neg (by omega)]), rfl⟩
  · refine g_iload_n hΓ rfl dX3_strokeOf_8 ?_
    refine g_iconst hΓ dX3_strokeOf_9 ?_
    refine g_aload_n hΓ rfl dX3_strokeOf_10 ?_
    refine g_iload_n hΓ rfl dX3_strokeOf_11 ?_
    refine m_callV (As := [.int (iI m)]) (rest := [.int (iI 0), .int (iI k)]) hok hΓ (m_manyOf hok σ m (by first | assumption | omega) (by first | assumption | omega)) rfl q1606 q1608 qs78 q131 q1609 ndX3_manyOf rfl (by decide) (by decide) rfl rfl (Nat.le_of_ble_eq_true rfl) dX3_strokeOf_12 rfl (fun v3 τ3 τ3h => ?_)
    obtain ⟨rfl, τ3h⟩ := τ3h
    rw [τ3h]
    clear τ3h
    show gW Γ E (mM E h ad σ) 0 0 _ _ (.int (iI (mnS σ m)) :: _)
    refine g_iconst hΓ dX3_strokeOf_15 ?_
    refine g_isub hΓ dX3_strokeOf_16 ?_
    refine m_callS (As := [.int (iI k), .int (iI 0), .int (iI ((mnS σ m) - 1))]) (rest := []) hok hΓ (m_isIn hok σ k 0 ((mnS σ m) - 1) (by first | assumption | omega) (by first | assumption | omega) (by first | assumption | omega)) rfl q1549 q1550 q131 q1551 ndX3_isIn rfl (by decide) (by decide) rfl (Nat.le_of_ble_eq_true rfl) dX3_strokeOf_17 rfl (fun v4 τ4 τ4h => ?_)
    obtain ⟨rfl, τ4h⟩ := τ4h
    rw [τ4h]
    clear τ4h
    show gW Γ E (mM E h ad σ) 0 0 _ _ (.int (iI (if 0 ≤ k ∧ k ≤ ((mnS σ m) - 1) then 1 else 0)) :: _)
    refine g_ifB_eq (tgt := 33) hΓ  dX3_strokeOf_20 (by decide) (fun c5 => ?_) (fun c5 => ?_)
    · refine g_iconst hΓ dX3_strokeOf_33 ?_
      exact m_iret hΓ dX3_strokeOf_34 ⟨ri (by rw [stO]; first | rw [if_pos (by omega)] | rw [if_neg (by omega)]), rfl⟩
    · refine g_aload_n hΓ rfl dX3_strokeOf_23 ?_
      refine g_iload_n hΓ rfl dX3_strokeOf_24 ?_
      refine m_callV (As := [.int (iI m)]) (rest := []) hok hΓ (m_firstOf hok σ m (by first | assumption | omega)) rfl q1618 q1620 qs80 q131 q1621 ndX3_firstOf rfl (by decide) (by decide) rfl rfl (Nat.le_of_ble_eq_true rfl) dX3_strokeOf_25 rfl (fun v6 τ6 τ6h => ?_)
      obtain ⟨rfl, τ6h⟩ := τ6h
      rw [τ6h]
      clear τ6h
      show gW Γ E (mM E h ad σ) 0 0 _ _ (.int (iI (fsS m)) :: _)
      refine g_iload_n hΓ rfl dX3_strokeOf_28 ?_
      refine g_iadd hΓ dX3_strokeOf_29 ?_
      refine g_goto (tgt := 34) hΓ dX3_strokeOf_30 (by decide) ?_
      exact m_iret hΓ dX3_strokeOf_34 ⟨ri (by rw [stO]; first | rw [if_pos (by omega)] | rw [if_neg (by omega)]), rfl⟩
set_option maxHeartbeats 4000000 in
theorem m_rootOf {l : Launch} {E : gE} {h : Nat} {ad : Nat → Nat} (hok : mOK E h ad) (σ : mS)  (v : Int) (hv : 0 ≤ v ∧ v < 400000000) : mC l E h ad yX3_rootOf cX3_rootOf 4 (some .int) 0 [.int (iI v)] σ (fun rv σ' => rv = some (.int (iI (isq v))) ∧ σ' = σ) := by
  refine mC.of (by decide) [some (.int (iI v)), none, none, none] (Nat.le_of_ble_eq_true rfl) rfl rfl (fun Γ hΓ => ?_)
  have loop : ∀ (fu : Nat) (a : Int) (b : Int), (b - a).toNat < fu → (0 ≤ a ∧ a ≤ b ∧ b ≤ 20000) → (a * a ≤ v) → (v < (b + 1) * (b + 1)) → gW Γ E (mM E h ad σ) 0 0 6 [some (.int (iI v)), some (.int (iI a)), some (.int (iI b)), none] [] := by
    intro fu
    induction fu with
    | zero => intro a b hn; exact absurd hn (Nat.not_lt_zero _)
    | succ fu ih_loop =>
      intro a b hn hab h1 h2
      refine g_iload_n hΓ rfl dX3_rootOf_6 ?_
      refine g_iload_n hΓ rfl dX3_rootOf_7 ?_
      refine g_icmp_ge (tgt := 38) hΓ (by omega) (by omega) dX3_rootOf_8 (by decide) (fun c1 => ?_) (fun c1 => ?_)
      · refine g_iload_n hΓ rfl dX3_rootOf_38 ?_
        exact m_iret hΓ dX3_rootOf_39 ⟨ri (isq_eq (by omega) (by omega) h1 (by have hq : a = b := (by omega); rw [hq]; exact h2)), rfl⟩
      · refine g_iload_n hΓ rfl dX3_rootOf_11 ?_
        refine g_iload_n hΓ rfl dX3_rootOf_12 ?_
        refine g_iadd hΓ dX3_rootOf_13 ?_
        refine g_iconst hΓ dX3_rootOf_14 ?_
        refine g_iadd hΓ dX3_rootOf_15 ?_
        refine g_iconst hΓ dX3_rootOf_16 ?_
        refine g_idivN hΓ (by omega) (by omega) (by omega) dX3_rootOf_17 ?_
        obtain ⟨x2, ex2⟩ : ∃ z9 : Int, z9 = ((a + b) + 1) / 2 := ⟨_, rfl⟩
        refine g_topi ex2.symm ?_
        refine g_istore_n hΓ dX3_rootOf_18 rfl (Nat.le_of_ble_eq_true rfl) (lv' := [some (.int (iI v)), some (.int (iI a)), some (.int (iI b)), some (.int (iI x2))]) rfl ?_
        have hsq := sq_b (x := x2) (A := 20000) (by omega) (by omega)
        refine g_iload_n hΓ rfl dX3_rootOf_19 ?_
        refine g_iload_n hΓ rfl dX3_rootOf_20 ?_
        refine g_imul hΓ dX3_rootOf_21 ?_
        refine g_iload_n hΓ rfl dX3_rootOf_22 ?_
        refine g_icmp_gt (tgt := 31) hΓ (by omega) (by omega) dX3_rootOf_23 (by decide) (fun c3 => ?_) (fun c3 => ?_)
        · refine g_iload_n hΓ rfl dX3_rootOf_31 ?_
          refine g_iconst hΓ dX3_rootOf_32 ?_
          refine g_isub hΓ dX3_rootOf_33 ?_
          obtain ⟨x4, ex4⟩ : ∃ z9 : Int, z9 = x2 - 1 := ⟨_, rfl⟩
          refine g_topi ex4.symm ?_
          refine g_istore_n hΓ dX3_rootOf_34 rfl (Nat.le_of_ble_eq_true rfl) (lv' := [some (.int (iI v)), some (.int (iI a)), some (.int (iI x4)), some (.int (iI x2))]) rfl ?_
          refine g_goto (tgt := 6) hΓ dX3_rootOf_35 (by decide) ?_
          refine g_lvw (lv' := [some (.int (iI v)), some (.int (iI a)), some (.int (iI x4)), none]) ⟨rfl, ⟨rfl, ⟨rfl, trivial⟩⟩⟩ ?_
          exact ih_loop a x4 (by omega) (by omega) (by first | assumption | omega) (by first | assumption | (rw [show x4 + 1 = x2 by omega]; omega))
        · refine g_iload_n hΓ rfl dX3_rootOf_26 ?_
          refine g_istore_n hΓ dX3_rootOf_27 rfl (Nat.le_of_ble_eq_true rfl) (lv' := [some (.int (iI v)), some (.int (iI x2)), some (.int (iI b)), some (.int (iI x2))]) rfl ?_
          refine g_goto (tgt := 35) hΓ dX3_rootOf_28 (by decide) ?_
          refine g_goto (tgt := 6) hΓ dX3_rootOf_35 (by decide) ?_
          refine g_lvw (lv' := [some (.int (iI v)), some (.int (iI x2)), some (.int (iI b)), none]) ⟨rfl, ⟨rfl, ⟨rfl, trivial⟩⟩⟩ ?_
          exact ih_loop x2 b (by omega) (by omega) (by first | assumption | omega) (by first | assumption | (rw [show b + 1 = x2 by omega]; omega))
  refine g_iconst hΓ dX3_rootOf_0 ?_
  refine g_istore_n hΓ dX3_rootOf_1 rfl (Nat.le_of_ble_eq_true rfl) (lv' := [some (.int (iI v)), some (.int (iI 0)), none, none]) rfl ?_
  refine g_sipush hΓ (by decide) dX3_rootOf_2 ?_
  refine g_istore_n hΓ dX3_rootOf_5 rfl (Nat.le_of_ble_eq_true rfl) (lv' := [some (.int (iI v)), some (.int (iI 0)), some (.int (iI 20000)), none]) rfl ?_
  exact loop 20001 0 20000 (by decide) ⟨by omega, by omega, by omega⟩ (by omega) (by omega)
set_option maxHeartbeats 4000000 in
theorem m_pieceOf {l : Launch} {E : gE} {h : Nat} {ad : Nat → Nat} (hok : mOK E h ad) (σ : mS)  (s : Int) (k : Int) (hs : 0 ≤ s ∧ s < 104) (hsk : skOK (np σ s) (nu σ s)) (hk : 0 ≤ k ∧ k + 1 < np σ s) : mC l E h ad yX3_pieceOf cX3_pieceOf 5 (some .int) 1 [.ref h, .int (iI s), .int (iI k)] σ (fun rv σ' => rv = some (.int (iI (pcs (nu σ s) k))) ∧ σ' = σ) := by
  refine mC.of (by decide) [some (.ref h), some (.int (iI s)), some (.int (iI k)), none, none] (Nat.le_of_ble_eq_true rfl) rfl rfl (fun Γ hΓ => ?_)
  have hn := hsk.2.1
  have harg := pcs_arg hsk hk.1 hk.2
  refine g_aload_n hΓ rfl dX3_pieceOf_0 ?_
  refine g_iload_n hΓ rfl dX3_pieceOf_1 ?_
  refine g_iload_n hΓ rfl dX3_pieceOf_2 ?_
  refine g_iconst hΓ dX3_pieceOf_3 ?_
  refine g_iadd hΓ dX3_pieceOf_4 ?_
  refine g_iconst hΓ dX3_pieceOf_5 ?_
  refine m_callV (As := [.int (iI s), .int (iI (k + 1)), .int (iI 0)]) (rest := []) hok hΓ (m_numberOf hok σ s (k + 1) 0 (by first | assumption | omega) (by first | assumption | omega) (by first | assumption | omega)) rfl q1626 q1628 qs82 q131 q1629 ndX3_numberOf rfl (by decide) (by decide) rfl rfl (Nat.le_of_ble_eq_true rfl) dX3_pieceOf_6 rfl (fun v1 τ1 τ1h => ?_)
  obtain ⟨rfl, τ1h⟩ := τ1h
  rw [τ1h]
  clear τ1h
  show gW Γ E (mM E h ad σ) 0 0 _ _ (.int (iI (nu σ s (2 * (k + 1) + 0))) :: _)
  refine g_aload_n hΓ rfl dX3_pieceOf_9 ?_
  refine g_iload_n hΓ rfl dX3_pieceOf_10 ?_
  refine g_iload_n hΓ rfl dX3_pieceOf_11 ?_
  refine g_iconst hΓ dX3_pieceOf_12 ?_
  refine m_callV (As := [.int (iI s), .int (iI k), .int (iI 0)]) (rest := [.int (iI (nu σ s (2 * (k + 1) + 0)))]) hok hΓ (m_numberOf hok σ s k 0 (by first | assumption | omega) (by first | assumption | omega) (by first | assumption | omega)) rfl q1626 q1628 qs82 q131 q1629 ndX3_numberOf rfl (by decide) (by decide) rfl rfl (Nat.le_of_ble_eq_true rfl) dX3_pieceOf_13 rfl (fun v2 τ2 τ2h => ?_)
  obtain ⟨rfl, τ2h⟩ := τ2h
  rw [τ2h]
  clear τ2h
  show gW Γ E (mM E h ad σ) 0 0 _ _ (.int (iI (nu σ s (2 * k + 0))) :: _)
  refine g_isub hΓ dX3_pieceOf_16 ?_
  obtain ⟨x3, ex3⟩ : ∃ z9 : Int, z9 = (nu σ s (2 * (k + 1) + 0)) - (nu σ s (2 * k + 0)) := ⟨_, rfl⟩
  refine g_topi ex3.symm ?_
  refine g_istore_n hΓ dX3_pieceOf_17 rfl (Nat.le_of_ble_eq_true rfl) (lv' := [some (.ref h), some (.int (iI s)), some (.int (iI k)), some (.int (iI x3)), none]) rfl ?_
  refine g_aload_n hΓ rfl dX3_pieceOf_18 ?_
  refine g_iload_n hΓ rfl dX3_pieceOf_19 ?_
  refine g_iload_n hΓ rfl dX3_pieceOf_20 ?_
  refine g_iconst hΓ dX3_pieceOf_21 ?_
  refine g_iadd hΓ dX3_pieceOf_22 ?_
  refine g_iconst hΓ dX3_pieceOf_23 ?_
  refine m_callV (As := [.int (iI s), .int (iI (k + 1)), .int (iI 1)]) (rest := []) hok hΓ (m_numberOf hok σ s (k + 1) 1 (by first | assumption | omega) (by first | assumption | omega) (by first | assumption | omega)) rfl q1626 q1628 qs82 q131 q1629 ndX3_numberOf rfl (by decide) (by decide) rfl rfl (Nat.le_of_ble_eq_true rfl) dX3_pieceOf_24 rfl (fun v4 τ4 τ4h => ?_)
  obtain ⟨rfl, τ4h⟩ := τ4h
  rw [τ4h]
  clear τ4h
  show gW Γ E (mM E h ad σ) 0 0 _ _ (.int (iI (nu σ s (2 * (k + 1) + 1))) :: _)
  refine g_aload_n hΓ rfl dX3_pieceOf_27 ?_
  refine g_iload_n hΓ rfl dX3_pieceOf_28 ?_
  refine g_iload_n hΓ rfl dX3_pieceOf_29 ?_
  refine g_iconst hΓ dX3_pieceOf_30 ?_
  refine m_callV (As := [.int (iI s), .int (iI k), .int (iI 1)]) (rest := [.int (iI (nu σ s (2 * (k + 1) + 1)))]) hok hΓ (m_numberOf hok σ s k 1 (by first | assumption | omega) (by first | assumption | omega) (by first | assumption | omega)) rfl q1626 q1628 qs82 q131 q1629 ndX3_numberOf rfl (by decide) (by decide) rfl rfl (Nat.le_of_ble_eq_true rfl) dX3_pieceOf_31 rfl (fun v5 τ5 τ5h => ?_)
  obtain ⟨rfl, τ5h⟩ := τ5h
  rw [τ5h]
  clear τ5h
  show gW Γ E (mM E h ad σ) 0 0 _ _ (.int (iI (nu σ s (2 * k + 1))) :: _)
  refine g_isub hΓ dX3_pieceOf_34 ?_
  obtain ⟨x6, ex6⟩ : ∃ z9 : Int, z9 = (nu σ s (2 * (k + 1) + 1)) - (nu σ s (2 * k + 1)) := ⟨_, rfl⟩
  refine g_topi ex6.symm ?_
  refine g_istore hΓ dX3_pieceOf_35 rfl (Nat.le_of_ble_eq_true rfl) (lv' := [some (.ref h), some (.int (iI s)), some (.int (iI k)), some (.int (iI x3)), some (.int (iI x6))]) rfl ?_
  rw [← ex3, ← ex6] at harg
  refine g_sipush hΓ (by decide) dX3_pieceOf_37 ?_
  refine g_iload_n hΓ rfl dX3_pieceOf_40 ?_
  refine g_iload_n hΓ rfl dX3_pieceOf_41 ?_
  refine g_imul hΓ dX3_pieceOf_42 ?_
  refine g_iload hΓ rfl dX3_pieceOf_43 ?_
  refine g_iload hΓ rfl dX3_pieceOf_45 ?_
  refine g_imul hΓ dX3_pieceOf_47 ?_
  refine g_iadd hΓ dX3_pieceOf_48 ?_
  refine g_imul hΓ dX3_pieceOf_49 ?_
  refine m_callS (As := [.int (iI (10000 * ((x3 * x3) + (x6 * x6))))]) (rest := []) hok hΓ (m_rootOf hok σ (10000 * ((x3 * x3) + (x6 * x6))) (by first | assumption | omega)) rfl q1642 q1643 q131 q1644 ndX3_rootOf rfl (by decide) (by decide) rfl (Nat.le_of_ble_eq_true rfl) dX3_pieceOf_50 rfl (fun v7 τ7 τ7h => ?_)
  obtain ⟨rfl, τ7h⟩ := τ7h
  rw [τ7h]
  clear τ7h
  show gW Γ E (mM E h ad σ) 0 0 _ _ (.int (iI (isq (10000 * ((x3 * x3) + (x6 * x6))))) :: _)
  exact m_iret hΓ dX3_pieceOf_53 ⟨ri (by rw [pcs, ex3, ex6]), rfl⟩
set_option maxHeartbeats 4000000 in
theorem m_lengthOf {l : Launch} {E : gE} {h : Nat} {ad : Nat → Nat} (hok : mOK E h ad) (σ : mS)  (s : Int) (hs : 0 ≤ s ∧ s < 104) (hsk : skOK (np σ s) (nu σ s)) : mC l E h ad yX3_lengthOf cX3_lengthOf 4 (some .int) 2 [.ref h, .int (iI s)] σ (fun rv σ' => rv = some (.int (iI (lnS (np σ s) (nu σ s)))) ∧ σ' = σ) := by
  refine mC.of (by decide) [some (.ref h), some (.int (iI s)), none, none] (Nat.le_of_ble_eq_true rfl) rfl rfl (fun Γ hΓ => ?_)
  have hn := hsk.1
  have hn2 := hsk.2.1
  have loop : ∀ (fu : Nat) (u : Int) (k : Int), (np σ s - k).toNat < fu → (0 ≤ k ∧ k + 1 ≤ np σ s) → (u = lenF (nu σ s) k.toNat) → gW Γ E (mM E h ad σ) 0 0 4 [some (.ref h), some (.int (iI s)), some (.int (iI u)), some (.int (iI k))] [] := by
    intro fu
    induction fu with
    | zero => intro u k hn; exact absurd hn (Nat.not_lt_zero _)
    | succ fu ih_loop =>
      intro u k hn hk hu
      refine g_iload_n hΓ rfl dX3_lengthOf_4 ?_
      refine g_iconst hΓ dX3_lengthOf_5 ?_
      refine g_iadd hΓ dX3_lengthOf_6 ?_
      refine g_aload_n hΓ rfl dX3_lengthOf_7 ?_
      refine g_iload_n hΓ rfl dX3_lengthOf_8 ?_
      refine m_callV (As := [.int (iI s)]) (rest := [.int (iI (k + 1))]) hok hΓ (m_pointsOf hok σ s (by first | assumption | omega)) rfl q1622 q1624 qs81 q131 q1625 ndX3_pointsOf rfl (by decide) (by decide) rfl rfl (Nat.le_of_ble_eq_true rfl) dX3_lengthOf_9 rfl (fun v1 τ1 τ1h => ?_)
      obtain ⟨rfl, τ1h⟩ := τ1h
      rw [τ1h]
      clear τ1h
      show gW Γ E (mM E h ad σ) 0 0 _ _ (.int (iI (np σ s)) :: _)
      refine g_icmp_ge (tgt := 30) hΓ (by omega) (by omega) dX3_lengthOf_12 (by decide) (fun c2 => ?_) (fun c2 => ?_)
      · refine g_iload_n hΓ rfl dX3_lengthOf_30 ?_
        exact m_iret hΓ dX3_lengthOf_31 ⟨ri (by rw [hu, lnS, show (np σ s - 1).toNat = k.toNat by omega]), rfl⟩
      · refine g_iload_n hΓ rfl dX3_lengthOf_15 ?_
        refine g_aload_n hΓ rfl dX3_lengthOf_16 ?_
        refine g_iload_n hΓ rfl dX3_lengthOf_17 ?_
        refine g_iload_n hΓ rfl dX3_lengthOf_18 ?_
        refine m_callV (As := [.int (iI s), .int (iI k)]) (rest := [.int (iI u)]) hok hΓ (m_pieceOf hok σ s k (by first | assumption | omega) (by first | assumption | omega) (by first | assumption | omega)) rfl q1638 q1640 qs84 q131 q1641 ndX3_pieceOf rfl (by decide) (by decide) rfl rfl (Nat.le_of_ble_eq_true rfl) dX3_lengthOf_19 rfl (fun v3 τ3 τ3h => ?_)
        obtain ⟨rfl, τ3h⟩ := τ3h
        rw [τ3h]
        clear τ3h
        show gW Γ E (mM E h ad σ) 0 0 _ _ (.int (iI (pcs (nu σ s) k)) :: _)
        refine g_iadd hΓ dX3_lengthOf_22 ?_
        obtain ⟨x4, ex4⟩ : ∃ z9 : Int, z9 = u + (pcs (nu σ s) k) := ⟨_, rfl⟩
        refine g_topi ex4.symm ?_
        refine g_istore_n hΓ dX3_lengthOf_23 rfl (Nat.le_of_ble_eq_true rfl) (lv' := [some (.ref h), some (.int (iI s)), some (.int (iI x4)), some (.int (iI k))]) rfl ?_
        obtain ⟨x5, ex5⟩ : ∃ z9 : Int, z9 = k + 1 := ⟨_, rfl⟩
        refine g_iinc hΓ dX3_lengthOf_24 rfl rfl (lv' := [some (.ref h), some (.int (iI s)), some (.int (iI x4)), some (.int (iI x5))]) (by rw [ex5]; rfl) ?_
        refine g_goto (tgt := 4) hΓ dX3_lengthOf_27 (by decide) ?_
        exact ih_loop x4 x5 (by omega) (by omega) (by rw [show x5.toNat = k.toNat + 1 by omega, lenF, ← hu, show ((k.toNat : Nat) : Int) = k by omega]; omega)
  refine g_iconst hΓ dX3_lengthOf_0 ?_
  refine g_istore_n hΓ dX3_lengthOf_1 rfl (Nat.le_of_ble_eq_true rfl) (lv' := [some (.ref h), some (.int (iI s)), some (.int (iI 0)), none]) rfl ?_
  refine g_iconst hΓ dX3_lengthOf_2 ?_
  refine g_istore_n hΓ dX3_lengthOf_3 rfl (Nat.le_of_ble_eq_true rfl) (lv' := [some (.ref h), some (.int (iI s)), some (.int (iI 0)), some (.int (iI 0))]) rfl ?_
  exact loop 13 0 0 (by omega) (by omega) rfl
