set_option maxRecDepth 100000
set_option maxHeartbeats 4000000 in
theorem m_here {l : Launch} {E : gE} {h : Nat} {ad : Nat → Nat} (hok : mOK E h ad) (σ : mS)   (hz : 0 ≤ σ 16 0 ∧ σ 16 0 ≤ 1600) (htp : ∀ j, 0 ≤ j → j < 1600 → 0 ≤ σ 11 j ∧ σ 11 j < 256) (hat : 0 ≤ σ 17 0 ∧ σ 17 0 ≤ σ 16 0) : mC l E h ad yX3_here cX3_here 1 (some .int) 1 [.ref h] σ (fun rv σ' => rv = some (.int (iI (bya σ (hrS σ)))) ∧ (σ' 17 0 = hrS σ) ∧ ∀ (k : Nat) (j : Int), k ∉ [17] → σ' k j = σ k j) := by
  refine mC.of (by decide) [some (.ref h)] (Nat.le_of_ble_eq_true rfl) rfl rfl (fun Γ hΓ => ?_)
  have loop : ∀ (fu : Nat) (t : mS), (σ 16 0 - t 17 0).toNat < fu → (0 ≤ t 17 0 ∧ t 17 0 ≤ σ 16 0) → (hrS σ = skZ isSp σ (t 17 0)) → (∀ (k : Nat) (j : Int), k ∉ [17] → t k j = σ k j) → gW Γ E (mM E h ad t) 0 0 0 [some (.ref h)] [] := by
    intro fu
    induction fu with
    | zero => intro t hn; exact absurd hn (Nat.not_lt_zero _)
    | succ fu ih_loop =>
      intro t hn hb hA tf
      have t11 : t 11 = σ 11 := funext fun j => tf 11 j (by decide)
      have t16 : t 16 0 = σ 16 0 := tf 16 0 (by decide)
      have hbe := bya_of t11 t16
      have hbp : bya t (t 17 0) = bya σ (t 17 0) := by rw [hbe]
      have hin : bya σ (t 17 0) ≠ -1 → 0 ≤ t 17 0 ∧ t 17 0 < σ 16 0 := bya_in
      have hbr := bya_r σ (t 17 0) htp hz
      have hz1 : 0 ≤ t 16 0 ∧ t 16 0 ≤ 1600 := by rw [t16]; exact hz
      refine g_aload_n hΓ rfl dX3_here_0 ?_
      refine g_aload_n hΓ rfl dX3_here_1 ?_
      refine m_geti hok hΓ 17 (by decide) rfl rfl q1374 rfl dX3_here_2 ?_
      refine m_callV (As := [.int (iI (t 17 0))]) (rest := []) hok hΓ (m_byteAt hok t (t 17 0) (by first | assumption | omega) (by first | assumption | omega)) rfl q1521 q1523 qs63 q131 q1524 ndX3_byteAt rfl (by decide) (by decide) rfl rfl (Nat.le_of_ble_eq_true rfl) dX3_here_5 rfl (fun v1 τ1 τ1h => ?_)
      obtain ⟨rfl, τ1h⟩ := τ1h
      rw [τ1h]
      clear τ1h
      show gW Γ E (mM E h ad t) 0 0 _ _ (.int (iI (bya t (t 17 0))) :: _)
      refine g_bipush hΓ (by decide) dX3_here_8 ?_
      refine g_icmp_eq (tgt := 26) hΓ (by omega) (by omega) dX3_here_10 (by decide) (fun c2 => ?_) (fun c2 => ?_)
      · refine g_aload_n hΓ rfl dX3_here_26 ?_
        refine g_dup hΓ rfl dX3_here_27 ?_
        refine m_geti hok hΓ 17 (by decide) rfl rfl q1374 rfl dX3_here_28 ?_
        refine g_iconst hΓ dX3_here_31 ?_
        refine g_iadd hΓ dX3_here_32 ?_
        refine m_puti hok hΓ 17 (by decide) rfl rfl q1374 rfl rfl rfl dX3_here_33 (fun τ3 τ3e => ?_)
        have τ3r : τ3 17 0 = (t 17 0) + 1 := by rw [τ3e]; exact us_s _ _ _ _
        have τ3f : ∀ (k9 : Nat) (j9 : Int), (k9 ≠ 17 ∨ j9 ≠ 0) → τ3 k9 j9 = t k9 j9 := fun k9 j9 hh => by rw [τ3e]; exact us_n hh
        refine g_goto (tgt := 0) hΓ dX3_here_36 (by decide) ?_
        exact ih_loop τ3 (by omega) (by omega) (hA.trans (by rw [τ3r]; exact skZ_s (by omega) (by omega))) (fun k j hk => ((τ3f k j (Or.inl (fun e => hk (by rw [e]; decide)))).trans (tf k j (fun e => hk ((show ∀ x ∈ [17], x ∈ [17] by decide) k e)))))
      · refine g_aload_n hΓ rfl dX3_here_13 ?_
        refine g_aload_n hΓ rfl dX3_here_14 ?_
        refine m_geti hok hΓ 17 (by decide) rfl rfl q1374 rfl dX3_here_15 ?_
        refine m_callV (As := [.int (iI (t 17 0))]) (rest := []) hok hΓ (m_byteAt hok t (t 17 0) (by first | assumption | omega) (by first | assumption | omega)) rfl q1521 q1523 qs63 q131 q1524 ndX3_byteAt rfl (by decide) (by decide) rfl rfl (Nat.le_of_ble_eq_true rfl) dX3_here_18 rfl (fun v4 τ4 τ4h => ?_)
        obtain ⟨rfl, τ4h⟩ := τ4h
        rw [τ4h]
        clear τ4h
        show gW Γ E (mM E h ad t) 0 0 _ _ (.int (iI (bya t (t 17 0))) :: _)
        refine g_bipush hΓ (by decide) dX3_here_21 ?_
        refine g_icmp_ne (tgt := 39) hΓ (by omega) (by omega) dX3_here_23 (by decide) (fun c5 => ?_) (fun c5 => ?_)
        · refine g_aload_n hΓ rfl dX3_here_39 ?_
          refine g_aload_n hΓ rfl dX3_here_40 ?_
          refine m_geti hok hΓ 17 (by decide) rfl rfl q1374 rfl dX3_here_41 ?_
          refine m_callV (As := [.int (iI (t 17 0))]) (rest := []) hok hΓ (m_byteAt hok t (t 17 0) (by first | assumption | omega) (by first | assumption | omega)) rfl q1521 q1523 qs63 q131 q1524 ndX3_byteAt rfl (by decide) (by decide) rfl rfl (Nat.le_of_ble_eq_true rfl) dX3_here_44 rfl (fun v6 τ6 τ6h => ?_)
          obtain ⟨rfl, τ6h⟩ := τ6h
          rw [τ6h]
          clear τ6h
          show gW Γ E (mM E h ad t) 0 0 _ _ (.int (iI (bya t (t 17 0))) :: _)
          exact m_iret hΓ dX3_here_47 ⟨ri (by rw [hA, hbe, skZ_n (by omega)]), (by rw [hA, skZ_n (by omega)]), (fun k j hk => (tf k j (fun e => hk ((show ∀ x ∈ [17], x ∈ [17] by decide) k e))))⟩
        · refine g_aload_n hΓ rfl dX3_here_26 ?_
          refine g_dup hΓ rfl dX3_here_27 ?_
          refine m_geti hok hΓ 17 (by decide) rfl rfl q1374 rfl dX3_here_28 ?_
          refine g_iconst hΓ dX3_here_31 ?_
          refine g_iadd hΓ dX3_here_32 ?_
          refine m_puti hok hΓ 17 (by decide) rfl rfl q1374 rfl rfl rfl dX3_here_33 (fun τ7 τ7e => ?_)
          have τ7r : τ7 17 0 = (t 17 0) + 1 := by rw [τ7e]; exact us_s _ _ _ _
          have τ7f : ∀ (k9 : Nat) (j9 : Int), (k9 ≠ 17 ∨ j9 ≠ 0) → τ7 k9 j9 = t k9 j9 := fun k9 j9 hh => by rw [τ7e]; exact us_n hh
          refine g_goto (tgt := 0) hΓ dX3_here_36 (by decide) ?_
          exact ih_loop τ7 (by omega) (by omega) (hA.trans (by rw [τ7r]; exact skZ_s (by omega) (by omega))) (fun k j hk => ((τ7f k j (Or.inl (fun e => hk (by rw [e]; decide)))).trans (tf k j (fun e => hk ((show ∀ x ∈ [17], x ∈ [17] by decide) k e)))))
  exact loop 1601 σ (by omega) (by omega) rfl (fun k j _ => rfl)
set_option maxHeartbeats 4000000 in
theorem m_signAt {l : Launch} {E : gE} {h : Nat} {ad : Nat → Nat} (hok : mOK E h ad) (σ : mS)  (i : Int) (htp : ∀ j, 0 ≤ j → j < 1600 → 0 ≤ σ 11 j ∧ σ 11 j < 256) (hi : 0 ≤ i ∧ i ≤ 1600) (hf : 0 ≤ σ 18 0 ∧ σ 18 0 ≤ 1600) (hat : 0 ≤ σ 17 0 ∧ σ 17 0 ≤ 1600) : mC l E h ad yX3_signAt cX3_signAt 2 (some .int) 0 [.ref h, .int (iI i)] σ (fun rv σ' => rv = some (.int (iI (if σ 18 0 + i < σ 17 0 then σ 11 (σ 18 0 + i) - 96 else 0))) ∧ σ' = σ) := by
  refine mC.of (by decide) [some (.ref h), some (.int (iI i))] (Nat.le_of_ble_eq_true rfl) rfl rfl (fun Γ hΓ => ?_)
  refine g_aload_n hΓ rfl dX3_signAt_0 ?_
  refine m_geti hok hΓ 18 (by decide) rfl rfl q1375 rfl dX3_signAt_1 ?_
  refine g_iload_n hΓ rfl dX3_signAt_4 ?_
  refine g_iadd hΓ dX3_signAt_5 ?_
  refine g_aload_n hΓ rfl dX3_signAt_6 ?_
  refine m_geti hok hΓ 17 (by decide) rfl rfl q1374 rfl dX3_signAt_7 ?_
  refine g_icmp_ge (tgt := 30) hΓ (by omega) (by omega) dX3_signAt_10 (by decide) (fun c1 => ?_) (fun c1 => ?_)
  · refine g_iconst hΓ dX3_signAt_30 ?_
    exact m_iret hΓ dX3_signAt_31 ⟨ri (by first | rfl | omega | (simp_all; done) | (simp_all; omega)), rfl⟩
  · refine g_aload_n hΓ rfl dX3_signAt_13 ?_
    refine m_geta hok hΓ 11 (by decide) rfl rfl q1368 rfl dX3_signAt_14 ?_
    refine g_aload_n hΓ rfl dX3_signAt_17 ?_
    refine m_geti hok hΓ 18 (by decide) rfl rfl q1375 rfl dX3_signAt_18 ?_
    refine g_iload_n hΓ rfl dX3_signAt_21 ?_
    refine g_iadd hΓ dX3_signAt_22 ?_
    refine m_ald hok hΓ 11 (by decide) rfl (n := 1600) rfl (by omega) (by decide) dX3_signAt_23 ?_
    refine g_bipush hΓ (by decide) dX3_signAt_24 ?_
    refine g_isub hΓ dX3_signAt_26 ?_
    refine g_goto (tgt := 31) hΓ dX3_signAt_27 (by decide) ?_
    exact m_iret hΓ dX3_signAt_31 ⟨ri (by first | rfl | omega | (simp_all; done) | (simp_all; omega)), rfl⟩
set_option maxHeartbeats 4000000 in
theorem m_word {l : Launch} {E : gE} {h : Nat} {ad : Nat → Nat} (hok : mOK E h ad) (σ : mS)   (hz : 0 ≤ σ 16 0 ∧ σ 16 0 ≤ 1600) (htp : ∀ j, 0 ≤ j → j < 1600 → 0 ≤ σ 11 j ∧ σ 11 j < 256) (hat : 0 ≤ σ 17 0 ∧ σ 17 0 ≤ σ 16 0) (hw : r32 (σ 19 0)) : mC l E h ad yX3_word cX3_word 1 none 2 [.ref h] σ (fun rv σ' => rv = none ∧ (p4R σ' (wdS σ)) ∧ ∀ (k : Nat) (j : Int), k ∉ [17, 18, 19, 20] → σ' k j = σ k j) := by
  refine mC.of (by decide) [some (.ref h)] (Nat.le_of_ble_eq_true rfl) rfl rfl (fun Γ hΓ => ?_)
  refine g_aload_n hΓ rfl dX3_word_0 ?_
  refine m_callV (As := []) (rest := []) hok hΓ (m_goesWell hok σ  (by first | assumption | omega)) rfl q1513 q1515 qs61 q131 q1516 ndX3_goesWell rfl (by decide) (by decide) rfl rfl (Nat.le_of_ble_eq_true rfl) dX3_word_1 rfl (fun v1 τ1 τ1h => ?_)
  obtain ⟨rfl, τ1h⟩ := τ1h
  rw [τ1h]
  clear τ1h
  show gW Γ E (mM E h ad σ) 0 0 _ _ (.int (iI (if σ 19 0 = 0 then 1 else 0)) :: _)
  refine g_ifB_ne (tgt := 8) hΓ  dX3_word_4 (by decide) (fun c2 => ?_) (fun c2 => ?_)
  · refine g_aload_n hΓ rfl dX3_word_8 ?_
    refine m_callV (As := []) (rest := []) hok hΓ (m_here hok σ  (by first | assumption | omega) (by first | assumption | omega) (by first | assumption | omega)) rfl q1517 q1519 qs62 q131 q1520 ndX3_here rfl (by decide) (by decide) rfl rfl (Nat.le_of_ble_eq_true rfl) dX3_word_9 rfl (fun v3 τ3 τ3h => ?_)
    obtain ⟨rfl, τ3h, τ3f⟩ := τ3h
    show gW Γ E (mM E h ad τ3) 0 0 _ _ (.int (iI (bya σ (hrS σ))) :: _)
    refine g_pop hΓ rfl dX3_word_12 ?_
    refine g_aload_n hΓ rfl dX3_word_13 ?_
    refine g_aload_n hΓ rfl dX3_word_14 ?_
    refine m_geti hok hΓ 17 (by decide) rfl rfl q1374 rfl dX3_word_15 ?_
    refine m_puti hok hΓ 18 (by decide) rfl rfl q1375 rfl rfl rfl dX3_word_18 (fun τ4 τ4e => ?_)
    have τ4r : τ4 18 0 = τ3 17 0 := by rw [τ4e]; exact us_s _ _ _ _
    have τ4f : ∀ (k9 : Nat) (j9 : Int), (k9 ≠ 18 ∨ j9 ≠ 0) → τ4 k9 j9 = τ3 k9 j9 := fun k9 j9 hh => by rw [τ4e]; exact us_n hh
    have hhr := hrS_r hat.2
    have hq : τ3 17 0 = hrS σ := τ3h
    have τ411 : τ4 11 = σ 11 := funext fun j => ((τ4f 11 j (Or.inl (by decide))).trans (τ3f 11 j (by decide)))
    have τ416 : τ4 16 0 = σ 16 0 := ((τ4f 16 0 (Or.inl (by decide))).trans (τ3f 16 0 (by decide)))
    have τ419 : τ4 19 0 = σ 19 0 := ((τ4f 19 0 (Or.inl (by decide))).trans (τ3f 19 0 (by decide)))
    have τ4b := bya_of τ411 τ416
    have τ4z : 0 ≤ τ4 16 0 ∧ τ4 16 0 ≤ 1600 := by rw [τ416]; exact hz
    have τ4t : ∀ j, 0 ≤ j → j < 1600 → 0 ≤ τ4 11 j ∧ τ4 11 j < 256 := by rw [τ411]; exact htp
    have τ4b0 : bya τ4 (τ3 17 0) = bya σ (hrS σ) := by first | (rw [τ4b, hq]; done) | (rw [τ4b]; done)
    have τ4r0 := bya_r σ (hrS σ) htp hz
    have τ4b1 : bya τ4 (τ3 17 0 - 1) = bya σ (hrS σ - 1) := by first | (rw [τ4b, hq]; done) | (rw [τ4b]; done)
    have τ4r1 := bya_r σ (hrS σ - 1) htp hz
    refine g_aload_n hΓ rfl dX3_word_21 ?_
    refine g_aload_n hΓ rfl dX3_word_22 ?_
    refine m_geti hok hΓ 17 (by decide) rfl rfl q1374 rfl dX3_word_23 ?_
    refine g_topi ((τ4f 17 0 (Or.inl (by decide)))) ?_
    refine m_callV (As := [.int (iI (τ3 17 0))]) (rest := []) hok hΓ (m_isSmall hok τ4 (τ3 17 0) (by first | assumption | omega) (by first | assumption | omega) (by first | assumption | omega)) rfl q1533 q1535 qs66 q131 q1536 ndX3_isSmall rfl (by decide) (by decide) rfl rfl (Nat.le_of_ble_eq_true rfl) dX3_word_26 rfl (fun v5 τ5 τ5h => ?_)
    obtain ⟨rfl, τ5h⟩ := τ5h
    rw [τ5h]
    clear τ5h
    show gW Γ E (mM E h ad τ4) 0 0 _ _ (.int (iI (if 97 ≤ bya τ4 (τ3 17 0) ∧ bya τ4 (τ3 17 0) ≤ 122 then 1 else 0)) :: _)
    refine g_ifB_eq (tgt := 58) hΓ  dX3_word_29 (by decide) (fun c6 => ?_) (fun c6 => ?_)
    · refine g_aload_n hΓ rfl dX3_word_58 ?_
      refine g_iconst hΓ dX3_word_59 ?_
      refine g_aload_n hΓ rfl dX3_word_60 ?_
      refine m_geti hok hΓ 17 (by decide) rfl rfl q1374 rfl dX3_word_61 ?_
      refine g_topi ((τ4f 17 0 (Or.inl (by decide)))) ?_
      refine m_callV (As := [.int (iI 1), .int (iI (τ3 17 0))]) (rest := []) hok hΓ (m_faults hok τ4 1 (τ3 17 0) (by first | assumption | omega)) rfl q1525 q1527 qs64 q131 q1528 ndX3_faults rfl (by decide) (by decide) rfl rfl (Nat.le_of_ble_eq_true rfl) dX3_word_64 rfl (fun v7 τ7 τ7h => ?_)
      obtain ⟨rfl, τ7h, τ7f⟩ := τ7h
      exact m_vret hΓ dX3_word_67 ⟨rfl, (by
          have hbe : ¬ beW isSl σ (hrS σ) := by rw [beW, isSl, isSl, isDg]; omega
          have h19 : τ4 19 0 = σ 19 0 := ((τ4f 19 0 (Or.inl (by decide))).trans (τ3f 19 0 (by decide)))
          rw [wdS, if_pos (by omega), if_neg hbe]
          exact ⟨by simp only; rw [τ7f 17 0 (by decide), τ4f 17 0 (Or.inl (by decide)), hq], by simp only; rw [τ7f 18 0 (by decide), τ4r]; exact hq, by simp only; rw [τ7h.1, if_pos (by omega)], by simp only; rw [τ7h.2, if_pos (by omega)]; exact hq⟩), (fun k j hk => (((τ7f k j (fun e => hk ((show ∀ x ∈ [19, 20], x ∈ [17, 18, 19, 20] by decide) k e))).trans (τ4f k j (Or.inl (fun e => hk (by rw [e]; decide))))).trans (τ3f k j (fun e => hk ((show ∀ x ∈ [17], x ∈ [17, 18, 19, 20] by decide) k e)))))⟩
    · refine g_aload_n hΓ rfl dX3_word_32 ?_
      refine g_aload_n hΓ rfl dX3_word_33 ?_
      refine m_geti hok hΓ 17 (by decide) rfl rfl q1374 rfl dX3_word_34 ?_
      refine g_topi ((τ4f 17 0 (Or.inl (by decide)))) ?_
      refine g_iconst hΓ dX3_word_37 ?_
      refine g_isub hΓ dX3_word_38 ?_
      refine m_callV (As := [.int (iI ((τ3 17 0) - 1))]) (rest := []) hok hΓ (m_isSmall hok τ4 ((τ3 17 0) - 1) (by first | assumption | omega) (by first | assumption | omega) (by first | assumption | omega)) rfl q1533 q1535 qs66 q131 q1536 ndX3_isSmall rfl (by decide) (by decide) rfl rfl (Nat.le_of_ble_eq_true rfl) dX3_word_39 rfl (fun v8 τ8 τ8h => ?_)
      obtain ⟨rfl, τ8h⟩ := τ8h
      rw [τ8h]
      clear τ8h
      show gW Γ E (mM E h ad τ4) 0 0 _ _ (.int (iI (if 97 ≤ bya τ4 ((τ3 17 0) - 1) ∧ bya τ4 ((τ3 17 0) - 1) ≤ 122 then 1 else 0)) :: _)
      refine g_ifB_ne (tgt := 58) hΓ  dX3_word_42 (by decide) (fun c9 => ?_) (fun c9 => ?_)
      · refine g_aload_n hΓ rfl dX3_word_58 ?_
        refine g_iconst hΓ dX3_word_59 ?_
        refine g_aload_n hΓ rfl dX3_word_60 ?_
        refine m_geti hok hΓ 17 (by decide) rfl rfl q1374 rfl dX3_word_61 ?_
        refine g_topi ((τ4f 17 0 (Or.inl (by decide)))) ?_
        refine m_callV (As := [.int (iI 1), .int (iI (τ3 17 0))]) (rest := []) hok hΓ (m_faults hok τ4 1 (τ3 17 0) (by first | assumption | omega)) rfl q1525 q1527 qs64 q131 q1528 ndX3_faults rfl (by decide) (by decide) rfl rfl (Nat.le_of_ble_eq_true rfl) dX3_word_64 rfl (fun v10 τ10 τ10h => ?_)
        obtain ⟨rfl, τ10h, τ10f⟩ := τ10h
        exact m_vret hΓ dX3_word_67 ⟨rfl, (by
            have hbe : ¬ beW isSl σ (hrS σ) := by rw [beW, isSl, isSl, isDg]; omega
            have h19 : τ4 19 0 = σ 19 0 := ((τ4f 19 0 (Or.inl (by decide))).trans (τ3f 19 0 (by decide)))
            rw [wdS, if_pos (by omega), if_neg hbe]
            exact ⟨by simp only; rw [τ10f 17 0 (by decide), τ4f 17 0 (Or.inl (by decide)), hq], by simp only; rw [τ10f 18 0 (by decide), τ4r]; exact hq, by simp only; rw [τ10h.1, if_pos (by omega)], by simp only; rw [τ10h.2, if_pos (by omega)]; exact hq⟩), (fun k j hk => (((τ10f k j (fun e => hk ((show ∀ x ∈ [19, 20], x ∈ [17, 18, 19, 20] by decide) k e))).trans (τ4f k j (Or.inl (fun e => hk (by rw [e]; decide))))).trans (τ3f k j (fun e => hk ((show ∀ x ∈ [17], x ∈ [17, 18, 19, 20] by decide) k e)))))⟩
      · refine g_aload_n hΓ rfl dX3_word_45 ?_
        refine g_aload_n hΓ rfl dX3_word_46 ?_
        refine m_geti hok hΓ 17 (by decide) rfl rfl q1374 rfl dX3_word_47 ?_
        refine g_topi ((τ4f 17 0 (Or.inl (by decide)))) ?_
        refine g_iconst hΓ dX3_word_50 ?_
        refine g_isub hΓ dX3_word_51 ?_
        refine m_callV (As := [.int (iI ((τ3 17 0) - 1))]) (rest := []) hok hΓ (m_isDigit hok τ4 ((τ3 17 0) - 1) (by first | assumption | omega) (by first | assumption | omega) (by first | assumption | omega)) rfl q1537 q1539 qs67 q131 q1540 ndX3_isDigit rfl (by decide) (by decide) rfl rfl (Nat.le_of_ble_eq_true rfl) dX3_word_52 rfl (fun v11 τ11 τ11h => ?_)
        obtain ⟨rfl, τ11h⟩ := τ11h
        rw [τ11h]
        clear τ11h
        show gW Γ E (mM E h ad τ4) 0 0 _ _ (.int (iI (if 48 ≤ bya τ4 ((τ3 17 0) - 1) ∧ bya τ4 ((τ3 17 0) - 1) ≤ 57 then 1 else 0)) :: _)
        refine g_ifB_eq (tgt := 68) hΓ  dX3_word_55 (by decide) (fun c12 => ?_) (fun c12 => ?_)
        · have hbe : beW isSl σ (hrS σ) := by rw [beW, isSl, isSl, isDg]; omega
          have h417 : τ4 17 0 = hrS σ := (τ4f 17 0 (Or.inl (by decide))).trans hq
          have loop : ∀ (fu : Nat) (t : mS), (σ 16 0 - t 17 0).toNat < fu → (0 ≤ t 17 0 ∧ t 17 0 ≤ σ 16 0) → (skZ isSl σ (hrS σ) = skZ isSl σ (t 17 0)) → (∀ (k : Nat) (j : Int), k ∉ [17] → t k j = τ4 k j) → gW Γ E (mM E h ad t) 0 0 68 [some (.ref h)] [] := by
            intro fu
            induction fu with
            | zero => intro t hn; exact absurd hn (Nat.not_lt_zero _)
            | succ fu ih_loop =>
              intro t hn hb hA tf
              have t11 : t 11 = σ 11 := funext fun j => (((tf 11 j (by decide)).trans (τ4f 11 j (Or.inl (by decide)))).trans (τ3f 11 j (by decide)))
              have t16 : t 16 0 = σ 16 0 := (((tf 16 0 (by decide)).trans (τ4f 16 0 (Or.inl (by decide)))).trans (τ3f 16 0 (by decide)))
              have t19 : t 19 0 = σ 19 0 := (((tf 19 0 (by decide)).trans (τ4f 19 0 (Or.inl (by decide)))).trans (τ3f 19 0 (by decide)))
              have tb := bya_of t11 t16
              have tz : 0 ≤ t 16 0 ∧ t 16 0 ≤ 1600 := by rw [t16]; exact hz
              have tt : ∀ j, 0 ≤ j → j < 1600 → 0 ≤ t 11 j ∧ t 11 j < 256 := by rw [t11]; exact htp
              have tb0 : bya t (t 17 0) = bya σ (t 17 0) := by first | (rw [tb, hq]; done) | (rw [tb]; done)
              have tr0 := bya_r σ (t 17 0) htp hz
              have hin : bya σ (t 17 0) ≠ -1 → 0 ≤ t 17 0 ∧ t 17 0 < σ 16 0 := bya_in
              refine g_aload_n hΓ rfl dX3_word_68 ?_
              refine g_aload_n hΓ rfl dX3_word_69 ?_
              refine m_geti hok hΓ 17 (by decide) rfl rfl q1374 rfl dX3_word_70 ?_
              refine m_callV (As := [.int (iI (t 17 0))]) (rest := []) hok hΓ (m_isSmall hok t (t 17 0) (by first | assumption | omega) (by first | assumption | omega) (by first | assumption | omega)) rfl q1533 q1535 qs66 q131 q1536 ndX3_isSmall rfl (by decide) (by decide) rfl rfl (Nat.le_of_ble_eq_true rfl) dX3_word_73 rfl (fun v13 τ13 τ13h => ?_)
              obtain ⟨rfl, τ13h⟩ := τ13h
              rw [τ13h]
              clear τ13h
              show gW Γ E (mM E h ad t) 0 0 _ _ (.int (iI (if 97 ≤ bya t (t 17 0) ∧ bya t (t 17 0) ≤ 122 then 1 else 0)) :: _)
              refine g_ifB_eq (tgt := 92) hΓ  dX3_word_76 (by decide) (fun c14 => ?_) (fun c14 => ?_)
              · exact m_vret hΓ dX3_word_92 ⟨rfl, (by
                    rw [wdS, if_pos (by omega), if_pos hbe]
                    exact ⟨by simp only; rw [hA, skZ_n (by rw [isSl]; omega)], by simp only; rw [tf 18 0 (by decide), τ4r]; exact hq, by simp only; rw [(((tf 19 0 (by decide)).trans (τ4f 19 0 (Or.inl (by decide)))).trans (τ3f 19 0 (by decide)))]; omega, (((tf 20 0 (by decide)).trans (τ4f 20 0 (Or.inl (by decide)))).trans (τ3f 20 0 (by decide)))⟩), (fun k j hk => (((tf k j (fun e => hk ((show ∀ x ∈ [17], x ∈ [17, 18, 19, 20] by decide) k e))).trans (τ4f k j (Or.inl (fun e => hk (by rw [e]; decide))))).trans (τ3f k j (fun e => hk ((show ∀ x ∈ [17], x ∈ [17, 18, 19, 20] by decide) k e)))))⟩
              · refine g_aload_n hΓ rfl dX3_word_79 ?_
                refine g_dup hΓ rfl dX3_word_80 ?_
                refine m_geti hok hΓ 17 (by decide) rfl rfl q1374 rfl dX3_word_81 ?_
                refine g_iconst hΓ dX3_word_84 ?_
                refine g_iadd hΓ dX3_word_85 ?_
                refine m_puti hok hΓ 17 (by decide) rfl rfl q1374 rfl rfl rfl dX3_word_86 (fun τ15 τ15e => ?_)
                have τ15r : τ15 17 0 = (t 17 0) + 1 := by rw [τ15e]; exact us_s _ _ _ _
                have τ15f : ∀ (k9 : Nat) (j9 : Int), (k9 ≠ 17 ∨ j9 ≠ 0) → τ15 k9 j9 = t k9 j9 := fun k9 j9 hh => by rw [τ15e]; exact us_n hh
                refine g_goto (tgt := 68) hΓ dX3_word_89 (by decide) ?_
                exact ih_loop τ15 (by omega) (by omega) (hA.trans (by rw [τ15r]; exact skZ_s (by omega) (by rw [isSl]; omega))) (fun k j hk => (τ15f k j (Or.inl (fun e => hk (by rw [e]; decide)))).trans (tf k j hk))
          exact loop 1601 τ4 (by omega) (by omega) (by rw [τ4f 17 0 (Or.inl (by decide)), hq]) (fun k j _ => rfl)
        · refine g_aload_n hΓ rfl dX3_word_58 ?_
          refine g_iconst hΓ dX3_word_59 ?_
          refine g_aload_n hΓ rfl dX3_word_60 ?_
          refine m_geti hok hΓ 17 (by decide) rfl rfl q1374 rfl dX3_word_61 ?_
          refine g_topi ((τ4f 17 0 (Or.inl (by decide)))) ?_
          refine m_callV (As := [.int (iI 1), .int (iI (τ3 17 0))]) (rest := []) hok hΓ (m_faults hok τ4 1 (τ3 17 0) (by first | assumption | omega)) rfl q1525 q1527 qs64 q131 q1528 ndX3_faults rfl (by decide) (by decide) rfl rfl (Nat.le_of_ble_eq_true rfl) dX3_word_64 rfl (fun v16 τ16 τ16h => ?_)
          obtain ⟨rfl, τ16h, τ16f⟩ := τ16h
          exact m_vret hΓ dX3_word_67 ⟨rfl, (by
              have hbe : ¬ beW isSl σ (hrS σ) := by rw [beW, isSl, isSl, isDg]; omega
              have h19 : τ4 19 0 = σ 19 0 := ((τ4f 19 0 (Or.inl (by decide))).trans (τ3f 19 0 (by decide)))
              rw [wdS, if_pos (by omega), if_neg hbe]
              exact ⟨by simp only; rw [τ16f 17 0 (by decide), τ4f 17 0 (Or.inl (by decide)), hq], by simp only; rw [τ16f 18 0 (by decide), τ4r]; exact hq, by simp only; rw [τ16h.1, if_pos (by omega)], by simp only; rw [τ16h.2, if_pos (by omega)]; exact hq⟩), (fun k j hk => (((τ16f k j (fun e => hk ((show ∀ x ∈ [19, 20], x ∈ [17, 18, 19, 20] by decide) k e))).trans (τ4f k j (Or.inl (fun e => hk (by rw [e]; decide))))).trans (τ3f k j (fun e => hk ((show ∀ x ∈ [17], x ∈ [17, 18, 19, 20] by decide) k e)))))⟩
  · exact m_vret hΓ dX3_word_7 ⟨rfl, (by rw [wdS, if_neg (by omega)]; exact ⟨rfl, rfl, rfl, rfl⟩), (fun k j hk => rfl)⟩
set_option maxHeartbeats 4000000 in
theorem m_endsWell {l : Launch} {E : gE} {h : Nat} {ad : Nat → Nat} (hok : mOK E h ad) (σ : mS)   (hz : 0 ≤ σ 16 0 ∧ σ 16 0 ≤ 1600) (htp : ∀ j, 0 ≤ j → j < 1600 → 0 ≤ σ 11 j ∧ σ 11 j < 256) (hat : 0 ≤ σ 17 0 ∧ σ 17 0 ≤ σ 16 0) (hw : r32 (σ 19 0)) : mC l E h ad yX3_endsWell cX3_endsWell 1 none 2 [.ref h] σ (fun rv σ' => rv = none ∧ (σ' 17 0 = (ewS σ).1 ∧ σ' 19 0 = (ewS σ).2.1 ∧ σ' 20 0 = (ewS σ).2.2) ∧ ∀ (k : Nat) (j : Int), k ∉ [17, 19, 20] → σ' k j = σ k j) := by
  refine mC.of (by decide) [some (.ref h)] (Nat.le_of_ble_eq_true rfl) rfl rfl (fun Γ hΓ => ?_)
  refine g_aload_n hΓ rfl dX3_endsWell_0 ?_
  refine m_callV (As := []) (rest := []) hok hΓ (m_goesWell hok σ  (by first | assumption | omega)) rfl q1513 q1515 qs61 q131 q1516 ndX3_goesWell rfl (by decide) (by decide) rfl rfl (Nat.le_of_ble_eq_true rfl) dX3_endsWell_1 rfl (fun v1 τ1 τ1h => ?_)
  obtain ⟨rfl, τ1h⟩ := τ1h
  rw [τ1h]
  clear τ1h
  show gW Γ E (mM E h ad σ) 0 0 _ _ (.int (iI (if σ 19 0 = 0 then 1 else 0)) :: _)
  refine g_ifB_ne (tgt := 8) hΓ  dX3_endsWell_4 (by decide) (fun c2 => ?_) (fun c2 => ?_)
  · refine g_aload_n hΓ rfl dX3_endsWell_8 ?_
    refine m_callV (As := []) (rest := []) hok hΓ (m_here hok σ  (by first | assumption | omega) (by first | assumption | omega) (by first | assumption | omega)) rfl q1517 q1519 qs62 q131 q1520 ndX3_here rfl (by decide) (by decide) rfl rfl (Nat.le_of_ble_eq_true rfl) dX3_endsWell_9 rfl (fun v3 τ3 τ3h => ?_)
    obtain ⟨rfl, τ3h, τ3f⟩ := τ3h
    show gW Γ E (mM E h ad τ3) 0 0 _ _ (.int (iI (bya σ (hrS σ))) :: _)
    have hbr := bya_r σ (hrS σ) htp hz
    have hhr := hrS_r hat.2
    have hq : τ3 17 0 = hrS σ := τ3h
    have h19 : τ3 19 0 = σ 19 0 := (τ3f 19 0 (by decide))
    refine g_bipush hΓ (by decide) dX3_endsWell_12 ?_
    refine g_icmp_ne (tgt := 30) hΓ (by omega) (by omega) dX3_endsWell_14 (by decide) (fun c4 => ?_) (fun c4 => ?_)
    · refine g_aload_n hΓ rfl dX3_endsWell_30 ?_
      refine g_iconst hΓ dX3_endsWell_31 ?_
      refine g_aload_n hΓ rfl dX3_endsWell_32 ?_
      refine m_geti hok hΓ 17 (by decide) rfl rfl q1374 rfl dX3_endsWell_33 ?_
      refine m_callV (As := [.int (iI 1), .int (iI (τ3 17 0))]) (rest := []) hok hΓ (m_faults hok τ3 1 (τ3 17 0) (by first | assumption | omega)) rfl q1525 q1527 qs64 q131 q1528 ndX3_faults rfl (by decide) (by decide) rfl rfl (Nat.le_of_ble_eq_true rfl) dX3_endsWell_36 rfl (fun v5 τ5 τ5h => ?_)
      obtain ⟨rfl, τ5h, τ5f⟩ := τ5h
      exact m_vret hΓ dX3_endsWell_39 ⟨rfl, (by
          rw [ewS, if_pos (by omega), if_neg (by omega)]
          exact ⟨by simp only; rw [τ5f 17 0 (by decide), τ3h], by simp only; rw [τ5h.1, if_pos (by omega)], by simp only; rw [τ5h.2, if_pos (by omega), τ3h]⟩), (fun k j hk => ((τ5f k j (fun e => hk ((show ∀ x ∈ [19, 20], x ∈ [17, 19, 20] by decide) k e))).trans (τ3f k j (fun e => hk ((show ∀ x ∈ [17], x ∈ [17, 19, 20] by decide) k e)))))⟩
    · refine g_aload_n hΓ rfl dX3_endsWell_17 ?_
      refine g_dup hΓ rfl dX3_endsWell_18 ?_
      refine m_geti hok hΓ 17 (by decide) rfl rfl q1374 rfl dX3_endsWell_19 ?_
      refine g_iconst hΓ dX3_endsWell_22 ?_
      refine g_iadd hΓ dX3_endsWell_23 ?_
      refine m_puti hok hΓ 17 (by decide) rfl rfl q1374 rfl rfl rfl dX3_endsWell_24 (fun τ6 τ6e => ?_)
      have τ6r : τ6 17 0 = (τ3 17 0) + 1 := by rw [τ6e]; exact us_s _ _ _ _
      have τ6f : ∀ (k9 : Nat) (j9 : Int), (k9 ≠ 17 ∨ j9 ≠ 0) → τ6 k9 j9 = τ3 k9 j9 := fun k9 j9 hh => by rw [τ6e]; exact us_n hh
      refine g_goto (tgt := 39) hΓ dX3_endsWell_27 (by decide) ?_
      exact m_vret hΓ dX3_endsWell_39 ⟨rfl, (by
          rw [ewS, if_pos (by omega), if_pos (by omega)]
          exact ⟨by simp only; rw [τ6r, τ3h], by simp only; rw [((τ6f 19 0 (Or.inl (by decide))).trans (τ3f 19 0 (by decide)))]; omega, ((τ6f 20 0 (Or.inl (by decide))).trans (τ3f 20 0 (by decide)))⟩), (fun k j hk => ((τ6f k j (Or.inl (fun e => hk (by rw [e]; decide)))).trans (τ3f k j (fun e => hk ((show ∀ x ∈ [17], x ∈ [17, 19, 20] by decide) k e)))))⟩
  · exact m_vret hΓ dX3_endsWell_7 ⟨rfl, (by rw [ewS, if_neg (by omega)]; exact ⟨rfl, rfl, rfl⟩), (fun k j hk => rfl)⟩
