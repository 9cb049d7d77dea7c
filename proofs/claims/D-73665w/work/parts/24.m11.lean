set_option maxRecDepth 100000
set_option maxHeartbeats 4000000 in
theorem m_scoreOf {l : Launch} {E : gE} {h : Nat} {ad : Nat → Nat} (hok : mOK E h ad) (σ : mS)  (a : Int) (n : Int) (b : Int) (m : Int) (hl : letS σ a n) (hm : letS σ b m) (hr : rowOK (σ 0)) : mC l E h ad yX3_scoreOf cX3_scoreOf 5 (some .int) 7 [.ref h, .int (iI a), .int (iI n), .int (iI b), .int (iI m)] σ (fun rv σ' => rv = some (.int (iI (scS σ a n b m))) ∧ (pairT σ' σ a n b m (σ 0 1043) (σ 0 1044) (σ 0 1045)) ∧ ∀ (k : Nat) (j : Int), k ∉ [22, 23, 24, 25, 26, 27, 28, 29] → σ' k j = σ k j) := by
  refine mC.of (by decide) [some (.ref h), some (.int (iI a)), some (.int (iI n)), some (.int (iI b)), some (.int (iI m))] (Nat.le_of_ble_eq_true rfl) rfl rfl (fun Γ hΓ => ?_)
  obtain ⟨h1000, h1009, h1042, h1043, h1044, h1045, h1046, h1047, hms, hsi, hsm, hnm⟩ := id hr
  have hl1 := hl.2
  have hm1 := hm.2
  refine g_aload_n hΓ rfl dX3_scoreOf_0 ?_
  refine g_iload_n hΓ rfl dX3_scoreOf_1 ?_
  refine g_iload_n hΓ rfl dX3_scoreOf_2 ?_
  refine g_iload_n hΓ rfl dX3_scoreOf_3 ?_
  refine g_iload hΓ rfl dX3_scoreOf_4 ?_
  refine g_aload_n hΓ rfl dX3_scoreOf_6 ?_
  refine m_geta hok hΓ 0 (by decide) rfl rfl q1357 rfl dX3_scoreOf_7 ?_
  refine g_sipush hΓ (by decide) dX3_scoreOf_10 ?_
  refine m_ald hok hΓ 0 (by decide) rfl (n := 1048) rfl (by omega) (by decide) dX3_scoreOf_13 ?_
  refine m_callV (As := [.int (iI a), .int (iI n), .int (iI b), .int (iI m), .int (iI (σ 0 1043))]) (rest := []) hok hΓ (m_laysPairs hok σ a n b m (σ 0 1043) (by first | assumption | omega) (by first | assumption | omega) (by first | assumption | omega) (by first | assumption | omega)) rfl q1754 q1756 qs97 q131 q1757 ndX3_laysPairs rfl (by decide) (by decide) rfl rfl (Nat.le_of_ble_eq_true rfl) dX3_scoreOf_14 rfl (fun v1 τ1 τ1h => ?_)
  obtain ⟨rfl, τ1h, τ1f⟩ := τ1h
  have τ10 : τ1 0 = σ 0 := funext fun j => τ1f 0 j (by decide)
  obtain ⟨htb, hcs⟩ := pair_tab h1042 h1047 h1043.1 hl hm τ10 τ1h.1 τ1h.2.1 τ1h.2.2
  refine g_aload_n hΓ rfl dX3_scoreOf_17 ?_
  refine g_aload_n hΓ rfl dX3_scoreOf_18 ?_
  refine m_geta hok hΓ 0 (by decide) rfl rfl q1357 rfl dX3_scoreOf_19 ?_
  refine g_sipush hΓ (by decide) dX3_scoreOf_22 ?_
  refine m_ald hok hΓ 0 (by decide) rfl (n := 1048) rfl (by omega) (by decide) dX3_scoreOf_25 ?_
  refine g_topi ((τ1f 0 1044 (by decide))) ?_
  refine g_aload_n hΓ rfl dX3_scoreOf_26 ?_
  refine m_geta hok hΓ 0 (by decide) rfl rfl q1357 rfl dX3_scoreOf_27 ?_
  refine g_sipush hΓ (by decide) dX3_scoreOf_30 ?_
  refine m_ald hok hΓ 0 (by decide) rfl (n := 1048) rfl (by omega) (by decide) dX3_scoreOf_33 ?_
  refine g_topi ((τ1f 0 1045 (by decide))) ?_
  refine m_callV (As := [.int (iI (σ 0 1044)), .int (iI (σ 0 1045))]) (rest := []) hok hΓ (m_scoreBy hok τ1 (σ 0 1044) (σ 0 1045) (by first | assumption | omega) (by first | assumption | omega) (by first | assumption | omega)) rfl q1762 q1764 qs99 q131 q1765 ndX3_scoreBy rfl (by decide) (by decide) rfl rfl (Nat.le_of_ble_eq_true rfl) dX3_scoreOf_34 rfl (fun v2 τ2 τ2h => ?_)
  obtain ⟨rfl, τ2h, τ2f⟩ := τ2h
  show gW Γ E (mM E h ad τ2) 0 0 _ _ (.int (iI (bsF (cs3 τ1 (σ 0 1045)) (σ 0 1044) (τ1 25 0).toNat (τ1 24 0).toNat (τ1 24 0).toNat 0)) :: _)
  exact m_iret hΓ dX3_scoreOf_37 ⟨ri (by rw [scS, scr, τ1h.1, τ1h.2.1]; exact pair_bs (by omega) (by omega) (hcs (σ 0 1045)) (Nat.le_refl _) (Nat.two_pow_pos _)), ⟨(τ2f 24 0 (by decide)).trans τ1h.1, (τ2f 25 0 (by decide)).trans τ1h.2.1, fun i j h0 h1 h2 h3 => by rw [τ2f 26 _ (by decide), τ2f 27 _ (by decide), τ2f 28 _ (by decide)]; exact τ1h.2.2 i j h0 h1 h2 h3, fun i T h0 h1 h2 => by
      have z := τ2h i T h0 (by rw [τ1h.1]; exact h1) (by rw [τ1h.2.1]; exact h2)
      rw [τ1h.1, τ1h.2.1] at z
      rw [z]
      exact pair_bs (by omega) (by omega) (hcs (σ 0 1045)) (by omega) h2⟩, (fun k j hk => ((τ2f k j (fun e => hk ((show ∀ x ∈ [29], x ∈ [22, 23, 24, 25, 26, 27, 28, 29] by decide) k e))).trans (τ1f k j (fun e => hk ((show ∀ x ∈ [22, 23, 24, 25, 26, 27, 28], x ∈ [22, 23, 24, 25, 26, 27, 28, 29] by decide) k e)))))⟩
set_option maxHeartbeats 4000000 in
theorem m_scoreOfTwo {l : Launch} {E : gE} {h : Nat} {ad : Nat → Nat} (hok : mOK E h ad) (σ : mS)  (x : Int) (y : Int) (hx : isL σ x) (hy : isL σ y) (hr : rowOK (σ 0)) : mC l E h ad yX3_scoreOfTwo cX3_scoreOfTwo 3 (some .int) 8 [.ref h, .int (iI x), .int (iI y)] σ (fun rv σ' => rv = some (.int (iI (sc2 σ x y))) ∧ (pairL σ' σ x y) ∧ ∀ (k : Nat) (j : Int), k ∉ [22, 23, 24, 25, 26, 27, 28, 29] → σ' k j = σ k j) := by
  refine mC.of (by decide) [some (.ref h), some (.int (iI x)), some (.int (iI y))] (Nat.le_of_ble_eq_true rfl) rfl rfl (fun Γ hΓ => ?_)
  obtain ⟨h1000, h1009, h1042, h1043, h1044, h1045, h1046, h1047, hms, hsi, hsm, hnm⟩ := id hr
  have hlx := letS_of hr hx
  have hly := letS_of hr hy
  refine g_aload_n hΓ rfl dX3_scoreOfTwo_0 ?_
  refine g_aload_n hΓ rfl dX3_scoreOfTwo_1 ?_
  refine g_iload_n hΓ rfl dX3_scoreOfTwo_2 ?_
  refine m_callV (As := [.int (iI x)]) (rest := [.ref h]) hok hΓ (m_firstOf hok σ x (by first | assumption | omega)) rfl q1618 q1620 qs80 q131 q1621 ndX3_firstOf rfl (by decide) (by decide) rfl rfl (Nat.le_of_ble_eq_true rfl) dX3_scoreOfTwo_3 rfl (fun v1 τ1 τ1h => ?_)
  obtain ⟨rfl, τ1h⟩ := τ1h
  rw [τ1h]
  clear τ1h
  show gW Γ E (mM E h ad σ) 0 0 _ _ (.int (iI (fsS x)) :: _)
  refine g_aload_n hΓ rfl dX3_scoreOfTwo_6 ?_
  refine g_iload_n hΓ rfl dX3_scoreOfTwo_7 ?_
  refine m_callV (As := [.int (iI x)]) (rest := [.int (iI (fsS x)), .ref h]) hok hΓ (m_manyOf hok σ x (by first | assumption | omega) (by first | assumption | omega)) rfl q1606 q1608 qs78 q131 q1609 ndX3_manyOf rfl (by decide) (by decide) rfl rfl (Nat.le_of_ble_eq_true rfl) dX3_scoreOfTwo_8 rfl (fun v2 τ2 τ2h => ?_)
  obtain ⟨rfl, τ2h⟩ := τ2h
  rw [τ2h]
  clear τ2h
  show gW Γ E (mM E h ad σ) 0 0 _ _ (.int (iI (mnS σ x)) :: _)
  refine g_aload_n hΓ rfl dX3_scoreOfTwo_11 ?_
  refine g_iload_n hΓ rfl dX3_scoreOfTwo_12 ?_
  refine m_callV (As := [.int (iI y)]) (rest := [.int (iI (mnS σ x)), .int (iI (fsS x)), .ref h]) hok hΓ (m_firstOf hok σ y (by first | assumption | omega)) rfl q1618 q1620 qs80 q131 q1621 ndX3_firstOf rfl (by decide) (by decide) rfl rfl (Nat.le_of_ble_eq_true rfl) dX3_scoreOfTwo_13 rfl (fun v3 τ3 τ3h => ?_)
  obtain ⟨rfl, τ3h⟩ := τ3h
  rw [τ3h]
  clear τ3h
  show gW Γ E (mM E h ad σ) 0 0 _ _ (.int (iI (fsS y)) :: _)
  refine g_aload_n hΓ rfl dX3_scoreOfTwo_16 ?_
  refine g_iload_n hΓ rfl dX3_scoreOfTwo_17 ?_
  refine m_callV (As := [.int (iI y)]) (rest := [.int (iI (fsS y)), .int (iI (mnS σ x)), .int (iI (fsS x)), .ref h]) hok hΓ (m_manyOf hok σ y (by first | assumption | omega) (by first | assumption | omega)) rfl q1606 q1608 qs78 q131 q1609 ndX3_manyOf rfl (by decide) (by decide) rfl rfl (Nat.le_of_ble_eq_true rfl) dX3_scoreOfTwo_18 rfl (fun v4 τ4 τ4h => ?_)
  obtain ⟨rfl, τ4h⟩ := τ4h
  rw [τ4h]
  clear τ4h
  show gW Γ E (mM E h ad σ) 0 0 _ _ (.int (iI (mnS σ y)) :: _)
  refine m_callV (As := [.int (iI (fsS x)), .int (iI (mnS σ x)), .int (iI (fsS y)), .int (iI (mnS σ y))]) (rest := []) hok hΓ (m_scoreOf hok σ (fsS x) (mnS σ x) (fsS y) (mnS σ y) (by first | assumption | omega) (by first | assumption | omega) (by first | assumption | omega)) rfl q1750 q1752 qs96 q131 q1753 ndX3_scoreOf rfl (by decide) (by decide) rfl rfl (Nat.le_of_ble_eq_true rfl) dX3_scoreOfTwo_21 rfl (fun v5 τ5 τ5h => ?_)
  obtain ⟨rfl, τ5h, τ5f⟩ := τ5h
  show gW Γ E (mM E h ad τ5) 0 0 _ _ (.int (iI (scS σ (fsS x) (mnS σ x) (fsS y) (mnS σ y))) :: _)
  exact m_iret hΓ dX3_scoreOfTwo_24 ⟨rfl, τ5h, (fun k j hk => (τ5f k j (fun e => hk ((show ∀ x ∈ [22, 23, 24, 25, 26, 27, 28, 29], x ∈ [22, 23, 24, 25, 26, 27, 28, 29] by decide) k e))))⟩
set_option maxHeartbeats 4000000 in
theorem m_score {l : Launch} {E : gE} {h : Nat} {ad : Nat → Nat} (hok : mOK E h ad) (σ : mS)  (x : Int) (y : Int) (hx : r32 x) (hy : r32 y) (hr : rowOK (σ 0)) : mC l E h ad yX3_score cX3_score 3 (some .int) 9 [.ref h, .int (iI x), .int (iI y)] σ (fun rv σ' => rv = some (.int (iI (sp_score σ x y))) ∧ (True) ∧ ∀ (k : Nat) (j : Int), k ∉ [22, 23, 24, 25, 26, 27, 28, 29] → σ' k j = σ k j) := by
  refine mC.of (by decide) [some (.ref h), some (.int (iI x)), some (.int (iI y))] (Nat.le_of_ble_eq_true rfl) rfl rfl (fun Γ hΓ => ?_)
  refine g_aload_n hΓ rfl dX3_score_0 ?_
  refine g_iload_n hΓ rfl dX3_score_1 ?_
  refine m_callV (As := [.int (iI x)]) (rest := []) hok hΓ (m_isLetter hok σ x (by first | assumption | omega) (by first | assumption | omega)) rfl q1602 q1604 qs77 q131 q1605 ndX3_isLetter rfl (by decide) (by decide) rfl rfl (Nat.le_of_ble_eq_true rfl) dX3_score_2 rfl (fun v1 τ1 τ1h => ?_)
  obtain ⟨rfl, τ1h⟩ := τ1h
  rw [τ1h]
  clear τ1h
  show gW Γ E (mM E h ad σ) 0 0 _ _ (.int (iI (if x = -1 ∨ (0 ≤ x ∧ x < σ 0 1000) then 1 else 0)) :: _)
  refine g_ifB_eq (tgt := 25) hΓ  dX3_score_5 (by decide) (fun c2 => ?_) (fun c2 => ?_)
  · refine g_iconst hΓ dX3_score_25 ?_
    exact m_iret hΓ dX3_score_26 ⟨ri (by rw [sp_score]; first | rw [if_pos (by omega)] | rw [if_neg (by omega)]), trivial, (fun k j hk => rfl)⟩
  · refine g_aload_n hΓ rfl dX3_score_8 ?_
    refine g_iload_n hΓ rfl dX3_score_9 ?_
    refine m_callV (As := [.int (iI y)]) (rest := []) hok hΓ (m_isLetter hok σ y (by first | assumption | omega) (by first | assumption | omega)) rfl q1602 q1604 qs77 q131 q1605 ndX3_isLetter rfl (by decide) (by decide) rfl rfl (Nat.le_of_ble_eq_true rfl) dX3_score_10 rfl (fun v3 τ3 τ3h => ?_)
    obtain ⟨rfl, τ3h⟩ := τ3h
    rw [τ3h]
    clear τ3h
    show gW Γ E (mM E h ad σ) 0 0 _ _ (.int (iI (if y = -1 ∨ (0 ≤ y ∧ y < σ 0 1000) then 1 else 0)) :: _)
    refine g_ifB_eq (tgt := 25) hΓ  dX3_score_13 (by decide) (fun c4 => ?_) (fun c4 => ?_)
    · refine g_iconst hΓ dX3_score_25 ?_
      exact m_iret hΓ dX3_score_26 ⟨ri (by rw [sp_score]; first | rw [if_pos (by omega)] | rw [if_neg (by omega)]), trivial, (fun k j hk => rfl)⟩
    · refine g_aload_n hΓ rfl dX3_score_16 ?_
      refine g_iload_n hΓ rfl dX3_score_17 ?_
      refine g_iload_n hΓ rfl dX3_score_18 ?_
      refine m_callV (As := [.int (iI x), .int (iI y)]) (rest := []) hok hΓ (m_scoreOfTwo hok σ x y (by first | assumption | omega) (by first | assumption | omega) (by first | assumption | omega)) rfl q1746 q1748 qs95 q131 q1749 ndX3_scoreOfTwo rfl (by decide) (by decide) rfl rfl (Nat.le_of_ble_eq_true rfl) dX3_score_19 rfl (fun v5 τ5 τ5h => ?_)
      obtain ⟨rfl, τ5h, τ5f⟩ := τ5h
      show gW Γ E (mM E h ad τ5) 0 0 _ _ (.int (iI (sc2 σ x y)) :: _)
      refine g_goto (tgt := 26) hΓ dX3_score_22 (by decide) ?_
      exact m_iret hΓ dX3_score_26 ⟨ri (by rw [sp_score]; first | rw [if_pos (by omega)] | rw [if_neg (by omega)]), trivial, (fun k j hk => (τ5f k j (fun e => hk ((show ∀ x ∈ [22, 23, 24, 25, 26, 27, 28, 29], x ∈ [22, 23, 24, 25, 26, 27, 28, 29] by decide) k e))))⟩
