set_option maxRecDepth 100000
set_option maxHeartbeats 4000000 in
theorem m_strays {l : Launch} {E : gE} {h : Nat} {ad : Nat → Nat} (hok : mOK E h ad) (σ : mS)  (a : Int) (b : Int) (ha : r32 a) (hb : r32 b) (hr : rowOK (σ 0)) : mC l E h ad yX3_strays cX3_strays 6 (some .int) 7 [.ref h, .int (iI a), .int (iI b)] σ (fun rv σ' => rv = some (.int (iI (sp_strays σ a b))) ∧ (True) ∧ ∀ (k : Nat) (j : Int), k ∉ [22, 23] → σ' k j = σ k j) := by
  refine mC.of (by decide) [some (.ref h), some (.int (iI a)), some (.int (iI b)), none, none, none] (Nat.le_of_ble_eq_true rfl) rfl rfl (fun Γ hΓ => ?_)
  obtain ⟨h1000, h1009, h1042, h1043, h1044, h1045, h1046, h1047, hms, hsi, hsm, hnm⟩ := id hr
  refine g_aload_n hΓ rfl dX3_strays_0 ?_
  refine g_iload_n hΓ rfl dX3_strays_1 ?_
  refine g_iload_n hΓ rfl dX3_strays_2 ?_
  refine g_iconst hΓ dX3_strays_3 ?_
  refine g_iconst hΓ dX3_strays_4 ?_
  refine m_callV (As := [.int (iI a), .int (iI b), .int (iI (-1)), .int (iI 0)]) (rest := []) hok hΓ (m_way hok σ a b (-1) 0 (by first | assumption | omega) (by first | assumption | omega) (by first | assumption | omega) (by first | assumption | omega) (by first | assumption | omega)) rfl q1729 q1722 q1723 q131 q1724 ndX3_way rfl (by decide) (by decide) rfl rfl (Nat.le_of_ble_eq_true rfl) dX3_strays_5 rfl (fun v1 τ1 τ1h => ?_)
  obtain ⟨rfl, τ1h, τ1f⟩ := τ1h
  show gW Γ E (mM E h ad τ1) 0 0 _ _ (.int (iI (sp_way σ a b (-1) 0)) :: _)
  obtain ⟨x2, ex2⟩ : ∃ z9 : Int, z9 = sp_way σ a b (-1) 0 := ⟨_, rfl⟩
  refine g_topi ex2.symm ?_
  refine g_istore_n hΓ dX3_strays_8 rfl (Nat.le_of_ble_eq_true rfl) (lv' := [some (.ref h), some (.int (iI a)), some (.int (iI b)), some (.int (iI x2)), none, none]) rfl ?_
  have hwr := sp_way_r hr a b (-1) 0
  refine g_iload_n hΓ rfl dX3_strays_9 ?_
  refine g_iconst hΓ dX3_strays_10 ?_
  refine g_icmp_ne (tgt := 18) hΓ (by omega) (by omega) dX3_strays_11 (by decide) (fun c3 => ?_) (fun c3 => ?_)
  · refine g_iconst hΓ dX3_strays_18 ?_
    refine g_istore hΓ dX3_strays_19 rfl (Nat.le_of_ble_eq_true rfl) (lv' := [some (.ref h), some (.int (iI a)), some (.int (iI b)), some (.int (iI x2)), some (.int (iI 0)), none]) rfl ?_
    refine g_iconst hΓ dX3_strays_21 ?_
    refine g_istore hΓ dX3_strays_22 rfl (Nat.le_of_ble_eq_true rfl) (lv' := [some (.ref h), some (.int (iI a)), some (.int (iI b)), some (.int (iI x2)), some (.int (iI 0)), some (.int (iI 0))]) rfl ?_
    have loop : ∀ (fu : Nat) (u : Int) (q : Int) (t : mS), (x2 - q).toNat < fu → (0 ≤ q ∧ q ≤ x2) → (u = strF σ a b q.toNat) → (∀ (k : Nat) (j : Int), k ∉ [22, 23] → t k j = σ k j) → gW Γ E (mM E h ad t) 0 0 24 [some (.ref h), some (.int (iI a)), some (.int (iI b)), some (.int (iI x2)), some (.int (iI u)), some (.int (iI q))] [] := by
      intro fu
      induction fu with
      | zero => intro u q t hn; exact absurd hn (Nat.not_lt_zero _)
      | succ fu ih_loop =>
        intro u q t hn hq hu tf
        have t0 : t 0 = σ 0 := funext fun j => (tf 0 j (by decide))
        have t7 : t 7 = σ 7 := funext fun j => (tf 7 j (by decide))
        have t8 : t 8 = σ 8 := funext fun j => (tf 8 j (by decide))
        have tn := np_same t0 t8
        have tu := nu_same t0 t7
        have tc := cds_same t0 t7 t8
        have tb := cdb_same t0 t7 t8
        have tE := els_same t0 t7 t8
        have tW := sp_way_same t0 t7 t8
        have tP := prd_same t0 t7 t8
        have hr1 : rowOK (t 0) := by rw [t0]; exact hr
        refine g_iload hΓ rfl dX3_strays_24 ?_
        refine g_iload_n hΓ rfl dX3_strays_26 ?_
        refine g_icmp_ge (tgt := 65) hΓ (by omega) (by omega) dX3_strays_27 (by decide) (fun c4 => ?_) (fun c4 => ?_)
        · refine g_iload hΓ rfl dX3_strays_65 ?_
          exact m_iret hΓ dX3_strays_67 ⟨ri (by rw [sp_strays, if_neg (by omega), hu, show q.toNat = (sp_way σ a b (-1) 0).toNat by omega]), trivial, tf⟩
        · have r1 := sp_way_r hr a b q 0
          have r2 := sp_way_r hr a b q 1
          have r3 := strF_r hr a b q.toNat
          refine g_iload hΓ rfl dX3_strays_30 ?_
          refine g_aload_n hΓ rfl dX3_strays_32 ?_
          refine g_iload_n hΓ rfl dX3_strays_33 ?_
          refine g_iload_n hΓ rfl dX3_strays_34 ?_
          refine g_iload hΓ rfl dX3_strays_35 ?_
          refine g_iconst hΓ dX3_strays_37 ?_
          refine m_callV (As := [.int (iI a), .int (iI b), .int (iI q), .int (iI 0)]) (rest := [.int (iI u)]) hok hΓ (m_way hok t a b q 0 (by first | assumption | omega | (simp only [t0, tn, tu, tc, tb, tE, t22]; first | assumption | omega) | (simp only [t0, tn, tu, tc, tb, tE]; first | assumption | omega)) (by first | assumption | omega | (simp only [t0, tn, tu, tc, tb, tE, t22]; first | assumption | omega) | (simp only [t0, tn, tu, tc, tb, tE]; first | assumption | omega)) (by first | assumption | omega | (simp only [t0, tn, tu, tc, tb, tE, t22]; first | assumption | omega) | (simp only [t0, tn, tu, tc, tb, tE]; first | assumption | omega)) (by first | assumption | omega | (simp only [t0, tn, tu, tc, tb, tE, t22]; first | assumption | omega) | (simp only [t0, tn, tu, tc, tb, tE]; first | assumption | omega)) (by first | assumption | omega | (simp only [t0, tn, tu, tc, tb, tE, t22]; first | assumption | omega) | (simp only [t0, tn, tu, tc, tb, tE]; first | assumption | omega))) rfl q1729 q1722 q1723 q131 q1724 ndX3_way rfl (by decide) (by decide) rfl rfl (Nat.le_of_ble_eq_true rfl) dX3_strays_38 rfl (fun v5 τ5 τ5h => ?_)
          obtain ⟨rfl, τ5h, τ5f⟩ := τ5h
          show gW Γ E (mM E h ad τ5) 0 0 _ _ (.int (iI (sp_way t a b q 0)) :: _)
          refine g_topi (show (sp_way t a b q 0 : Int) = (sp_way σ a b q 0) by simp only [t0, tn, tu, tc, tb, tE, tW, tP]) ?_
          have τ50 : τ5 0 = σ 0 := funext fun j => ((τ5f 0 j (by decide)).trans (tf 0 j (by decide)))
          have τ57 : τ5 7 = σ 7 := funext fun j => ((τ5f 7 j (by decide)).trans (tf 7 j (by decide)))
          have τ58 : τ5 8 = σ 8 := funext fun j => ((τ5f 8 j (by decide)).trans (tf 8 j (by decide)))
          have τ5n := np_same τ50 τ58
          have τ5u := nu_same τ50 τ57
          have τ5c := cds_same τ50 τ57 τ58
          have τ5b := cdb_same τ50 τ57 τ58
          have τ5E := els_same τ50 τ57 τ58
          have τ5W := sp_way_same τ50 τ57 τ58
          have τ5P := prd_same τ50 τ57 τ58
          have hr2 : rowOK (τ5 0) := by rw [τ50]; exact hr
          refine g_aload_n hΓ rfl dX3_strays_41 ?_
          refine g_iload_n hΓ rfl dX3_strays_42 ?_
          refine g_iload_n hΓ rfl dX3_strays_43 ?_
          refine g_iload hΓ rfl dX3_strays_44 ?_
          refine g_iconst hΓ dX3_strays_46 ?_
          refine m_callV (As := [.int (iI a), .int (iI b), .int (iI q), .int (iI 1)]) (rest := [.int (iI (sp_way σ a b q 0)), .int (iI u)]) hok hΓ (m_way hok τ5 a b q 1 (by first | assumption | omega | (simp only [τ50, τ5n, τ5u, τ5c, τ5b, τ5E, τ522]; first | assumption | omega) | (simp only [τ50, τ5n, τ5u, τ5c, τ5b, τ5E]; first | assumption | omega)) (by first | assumption | omega | (simp only [τ50, τ5n, τ5u, τ5c, τ5b, τ5E, τ522]; first | assumption | omega) | (simp only [τ50, τ5n, τ5u, τ5c, τ5b, τ5E]; first | assumption | omega)) (by first | assumption | omega | (simp only [τ50, τ5n, τ5u, τ5c, τ5b, τ5E, τ522]; first | assumption | omega) | (simp only [τ50, τ5n, τ5u, τ5c, τ5b, τ5E]; first | assumption | omega)) (by first | assumption | omega | (simp only [τ50, τ5n, τ5u, τ5c, τ5b, τ5E, τ522]; first | assumption | omega) | (simp only [τ50, τ5n, τ5u, τ5c, τ5b, τ5E]; first | assumption | omega)) (by first | assumption | omega | (simp only [τ50, τ5n, τ5u, τ5c, τ5b, τ5E, τ522]; first | assumption | omega) | (simp only [τ50, τ5n, τ5u, τ5c, τ5b, τ5E]; first | assumption | omega))) rfl q1729 q1722 q1723 q131 q1724 ndX3_way rfl (by decide) (by decide) rfl rfl (Nat.le_of_ble_eq_true rfl) dX3_strays_47 rfl (fun v6 τ6 τ6h => ?_)
          obtain ⟨rfl, τ6h, τ6f⟩ := τ6h
          show gW Γ E (mM E h ad τ6) 0 0 _ _ (.int (iI (sp_way τ5 a b q 1)) :: _)
          refine g_topi (show (sp_way τ5 a b q 1 : Int) = (sp_way σ a b q 1) by simp only [τ50, τ5n, τ5u, τ5c, τ5b, τ5E, τ5W, τ5P]) ?_
          refine g_isub hΓ dX3_strays_50 ?_
          refine m_callS (As := [.int (iI ((sp_way σ a b q 0) - (sp_way σ a b q 1)))]) (rest := [.int (iI u)]) hok hΓ (m_plain hok τ6 ((sp_way σ a b q 0) - (sp_way σ a b q 1)) (by omega)) rfl q1664 q1665 q131 q1666 ndX3_plain rfl (by decide) (by decide) rfl (Nat.le_of_ble_eq_true rfl) dX3_strays_51 rfl (fun v7 τ7 τ7h => ?_)
          obtain ⟨rfl, τ7h⟩ := τ7h
          rw [τ7h]
          clear τ7h
          show gW Γ E (mM E h ad τ6) 0 0 _ _ (.int (iI (if ((sp_way σ a b q 0) - (sp_way σ a b q 1)) < 0 then -((sp_way σ a b q 0) - (sp_way σ a b q 1)) else ((sp_way σ a b q 0) - (sp_way σ a b q 1)))) :: _)
          refine m_callS (As := [.int (iI u), .int (iI (if ((sp_way σ a b q 0) - (sp_way σ a b q 1)) < 0 then -((sp_way σ a b q 0) - (sp_way σ a b q 1)) else ((sp_way σ a b q 0) - (sp_way σ a b q 1))))]) (rest := []) hok hΓ (m_greater hok τ6 u (if ((sp_way σ a b q 0) - (sp_way σ a b q 1)) < 0 then -((sp_way σ a b q 0) - (sp_way σ a b q 1)) else ((sp_way σ a b q 0) - (sp_way σ a b q 1))) (by first | omega | (refine ⟨?_, ?_⟩ <;> split <;> omega)) (by first | omega | (refine ⟨?_, ?_⟩ <;> split <;> omega))) rfl q1693 q1694 q131 q1695 ndX3_greater rfl (by decide) (by decide) rfl (Nat.le_of_ble_eq_true rfl) dX3_strays_54 rfl (fun v8 τ8 τ8h => ?_)
          obtain ⟨rfl, τ8h⟩ := τ8h
          rw [τ8h]
          clear τ8h
          show gW Γ E (mM E h ad τ6) 0 0 _ _ (.int (iI (max u (if ((sp_way σ a b q 0) - (sp_way σ a b q 1)) < 0 then -((sp_way σ a b q 0) - (sp_way σ a b q 1)) else ((sp_way σ a b q 0) - (sp_way σ a b q 1))))) :: _)
          obtain ⟨x9, ex9⟩ : ∃ z9 : Int, z9 = max u (if ((sp_way σ a b q 0) - (sp_way σ a b q 1)) < 0 then -((sp_way σ a b q 0) - (sp_way σ a b q 1)) else ((sp_way σ a b q 0) - (sp_way σ a b q 1))) := ⟨_, rfl⟩
          refine g_topi ex9.symm ?_
          refine g_istore hΓ dX3_strays_57 rfl (Nat.le_of_ble_eq_true rfl) (lv' := [some (.ref h), some (.int (iI a)), some (.int (iI b)), some (.int (iI x2)), some (.int (iI x9)), some (.int (iI q))]) rfl ?_
          obtain ⟨x10, ex10⟩ : ∃ z9 : Int, z9 = q + 1 := ⟨_, rfl⟩
          refine g_iinc hΓ dX3_strays_59 rfl rfl (lv' := [some (.ref h), some (.int (iI a)), some (.int (iI b)), some (.int (iI x2)), some (.int (iI x9)), some (.int (iI x10))]) (by rw [ex10]; rfl) ?_
          refine g_goto (tgt := 24) hΓ dX3_strays_62 (by decide) ?_
          exact ih_loop x9 x10 τ6 (by omega) (by omega) (by rw [show x10.toNat = q.toNat + 1 by omega, strF, ← hu, show ((q.toNat : Nat) : Int) = q by omega, ex9]) (fun k' j' hk' => (((τ6f k' j' hk').trans (τ5f k' j' hk')).trans (tf k' j' hk')))
    exact loop 35 0 0 τ1 (by omega) (by omega) rfl τ1f
  · refine g_iconst hΓ dX3_strays_14 ?_
    refine g_goto (tgt := 19) hΓ dX3_strays_15 (by decide) ?_
    refine g_istore hΓ dX3_strays_19 rfl (Nat.le_of_ble_eq_true rfl) (lv' := [some (.ref h), some (.int (iI a)), some (.int (iI b)), some (.int (iI x2)), some (.int (iI (-1))), none]) rfl ?_
    refine g_iconst hΓ dX3_strays_21 ?_
    refine g_istore hΓ dX3_strays_22 rfl (Nat.le_of_ble_eq_true rfl) (lv' := [some (.ref h), some (.int (iI a)), some (.int (iI b)), some (.int (iI x2)), some (.int (iI (-1))), some (.int (iI 0))]) rfl ?_
    refine g_iload hΓ rfl dX3_strays_24 ?_
    refine g_iload_n hΓ rfl dX3_strays_26 ?_
    refine g_icmp_ge (tgt := 65) hΓ (by omega) (by omega) dX3_strays_27 (by decide) (fun c11 => ?_) (fun c11 => ?_)
    · refine g_iload hΓ rfl dX3_strays_65 ?_
      exact m_iret hΓ dX3_strays_67 ⟨ri (by rw [sp_strays, if_pos (by omega)]), trivial, (fun k j hk => (τ1f k j (fun e => hk ((show ∀ x ∈ [22, 23], x ∈ [22, 23] by decide) k e))))⟩
    · exact absurd c11 (by omega)
set_option maxHeartbeats 4000000 in
theorem m_laysPairs {l : Launch} {E : gE} {h : Nat} {ad : Nat → Nat} (hok : mOK E h ad) (σ : mS)  (a : Int) (n : Int) (b : Int) (m : Int) (w : Int) (hl : letS σ a n) (hm : letS σ b m) (he : 4 ≤ σ 0 1042 ∧ σ 0 1042 ≤ 16) (hw : 0 ≤ w ∧ w ≤ 16) : mC l E h ad yX3_laysPairs cX3_laysPairs 10 none 6 [.ref h, .int (iI a), .int (iI n), .int (iI b), .int (iI m), .int (iI w)] σ (fun rv σ' => rv = none ∧ (σ' 24 0 = n ∧ σ' 25 0 = m ∧ ∀ i j, 0 ≤ i → i < n → 0 ≤ j → j < m → σ' 26 (8 * i + j) = els σ (a + i) (b + j) 0 w ∧ σ' 27 (8 * i + j) = els σ (a + i) (b + j) 1 w ∧ σ' 28 (8 * i + j) = cll σ a n b m i j) ∧ ∀ (k : Nat) (j : Int), k ∉ [22, 23, 24, 25, 26, 27, 28] → σ' k j = σ k j) := by
  refine mC.of (by decide) [some (.ref h), some (.int (iI a)), some (.int (iI n)), some (.int (iI b)), some (.int (iI m)), some (.int (iI w)), none, none, none, none] (Nat.le_of_ble_eq_true rfl) rfl rfl (fun Γ hΓ => ?_)
  refine g_aload_n hΓ rfl dX3_laysPairs_0 ?_
  refine g_iload_n hΓ rfl dX3_laysPairs_1 ?_
  refine m_puti hok hΓ 24 (by decide) rfl rfl q1381 rfl rfl rfl dX3_laysPairs_2 (fun τ1 τ1e => ?_)
  have τ1r : τ1 24 0 = n := by rw [τ1e]; exact us_s _ _ _ _
  have τ1f : ∀ (k9 : Nat) (j9 : Int), (k9 ≠ 24 ∨ j9 ≠ 0) → τ1 k9 j9 = σ k9 j9 := fun k9 j9 hh => by rw [τ1e]; exact us_n hh
  refine g_aload_n hΓ rfl dX3_laysPairs_5 ?_
  refine g_iload hΓ rfl dX3_laysPairs_6 ?_
  refine m_puti hok hΓ 25 (by decide) rfl rfl q1382 rfl rfl rfl dX3_laysPairs_8 (fun τ2 τ2e => ?_)
  have τ2r : τ2 25 0 = m := by rw [τ2e]; exact us_s _ _ _ _
  have τ2f : ∀ (k9 : Nat) (j9 : Int), (k9 ≠ 25 ∨ j9 ≠ 0) → τ2 k9 j9 = τ1 k9 j9 := fun k9 j9 hh => by rw [τ2e]; exact us_n hh
  have τ20 : τ2 0 = σ 0 := funext fun j => ((τ2f 0 j (Or.inl (by decide))).trans (τ1f 0 j (Or.inl (by decide))))
  have τ27 : τ2 7 = σ 7 := funext fun j => ((τ2f 7 j (Or.inl (by decide))).trans (τ1f 7 j (Or.inl (by decide))))
  have τ28 : τ2 8 = σ 8 := funext fun j => ((τ2f 8 j (Or.inl (by decide))).trans (τ1f 8 j (Or.inl (by decide))))
  have τ2n := np_same τ20 τ28
  have τ2u := nu_same τ20 τ27
  have τ2c := cds_same τ20 τ27 τ28
  have τ2b := cdb_same τ20 τ27 τ28
  have τ2E := els_same τ20 τ27 τ28
  have τ2W := sp_way_same τ20 τ27 τ28
  have τ2P := prd_same τ20 τ27 τ28
  have τ2L := letS_same τ20 τ27 τ28
  have τ2S := celS_same τ20 τ27 τ28
  have τ2R := scr_same τ20 τ27 τ28
  have hl1 : letS τ2 a n := by rw [τ2L]; exact hl
  have he1 : 4 ≤ τ2 0 1042 ∧ τ2 0 1042 ≤ 16 := by rw [τ20]; exact he
  refine g_aload_n hΓ rfl dX3_laysPairs_11 ?_
  refine g_iload_n hΓ rfl dX3_laysPairs_12 ?_
  refine g_iload_n hΓ rfl dX3_laysPairs_13 ?_
  refine m_callV (As := [.int (iI a), .int (iI n)]) (rest := []) hok hΓ (m_laysLetter hok τ2 a n (by first | assumption | omega) (by first | assumption | omega)) rfl q1758 q1760 qs98 q131 q1761 ndX3_laysLetter rfl (by decide) (by decide) rfl rfl (Nat.le_of_ble_eq_true rfl) dX3_laysPairs_14 rfl (fun v3 τ3 τ3h => ?_)
  obtain ⟨rfl, τ3h, τ3f⟩ := τ3h
  have τ30 : τ3 0 = σ 0 := funext fun j => (((τ3f 0 j (by decide)).trans (τ2f 0 j (Or.inl (by decide)))).trans (τ1f 0 j (Or.inl (by decide))))
  have τ37 : τ3 7 = σ 7 := funext fun j => (((τ3f 7 j (by decide)).trans (τ2f 7 j (Or.inl (by decide)))).trans (τ1f 7 j (Or.inl (by decide))))
  have τ38 : τ3 8 = σ 8 := funext fun j => (((τ3f 8 j (by decide)).trans (τ2f 8 j (Or.inl (by decide)))).trans (τ1f 8 j (Or.inl (by decide))))
  have τ3n := np_same τ30 τ38
  have τ3u := nu_same τ30 τ37
  have τ3c := cds_same τ30 τ37 τ38
  have τ3b := cdb_same τ30 τ37 τ38
  have τ3E := els_same τ30 τ37 τ38
  have τ3W := sp_way_same τ30 τ37 τ38
  have τ3P := prd_same τ30 τ37 τ38
  have τ3L := letS_same τ30 τ37 τ38
  have τ3S := celS_same τ30 τ37 τ38
  have τ3R := scr_same τ30 τ37 τ38
  have hm1 : letS τ3 b m := by rw [τ3L]; exact hm
  have he2 : 4 ≤ τ3 0 1042 ∧ τ3 0 1042 ≤ 16 := by rw [τ30]; exact he
  refine g_aload_n hΓ rfl dX3_laysPairs_17 ?_
  refine g_iload_n hΓ rfl dX3_laysPairs_18 ?_
  refine g_iload hΓ rfl dX3_laysPairs_19 ?_
  refine m_callV (As := [.int (iI b), .int (iI m)]) (rest := []) hok hΓ (m_laysLetter hok τ3 b m (by first | assumption | omega) (by first | assumption | omega)) rfl q1758 q1760 qs98 q131 q1761 ndX3_laysLetter rfl (by decide) (by decide) rfl rfl (Nat.le_of_ble_eq_true rfl) dX3_laysPairs_21 rfl (fun v4 τ4 τ4h => ?_)
  obtain ⟨rfl, τ4h, τ4f⟩ := τ4h
  refine g_iconst hΓ dX3_laysPairs_24 ?_
  refine g_istore hΓ dX3_laysPairs_25 rfl (Nat.le_of_ble_eq_true rfl) (lv' := [some (.ref h), some (.int (iI a)), some (.int (iI n)), some (.int (iI b)), some (.int (iI m)), some (.int (iI w)), some (.int (iI 0)), none, none, none]) rfl ?_
  obtain ⟨ha0, ha1, ha2, ha3, ha4⟩ := id hl
  obtain ⟨hb0, hb1, hb2, hb3, hb4⟩ := id hm
  have loop : ∀ (fu : Nat) (i : Int) (t : mS), (n - i).toNat < fu → (0 ≤ i ∧ i ≤ n) → (∀ i' j', 0 ≤ i' → 0 ≤ j' → j' < m → (i' < i ∨ (i' = i ∧ j' < 0)) → t 26 (8 * i' + j') = els σ (a + i') (b + j') 0 w ∧ t 27 (8 * i' + j') = els σ (a + i') (b + j') 1 w ∧ t 28 (8 * i' + j') = cll σ a n b m i' j') → (∀ s, a ≤ s → s < a + n → ∀ j, 0 ≤ j → j < σ 0 1042 → t 22 (16 * s + j) = cds σ s j) → (∀ s, b ≤ s → s < b + m → ∀ j, 0 ≤ j → j < σ 0 1042 → t 22 (16 * s + j) = cds σ s j) → (t 24 0 = n ∧ t 25 0 = m) → (∀ (k : Nat) (j : Int), k ∉ [22, 23, 24, 25, 26, 27, 28] → t k j = σ k j) → gW Γ E (mM E h ad t) 0 0 27 [some (.ref h), some (.int (iI a)), some (.int (iI n)), some (.int (iI b)), some (.int (iI m)), some (.int (iI w)), some (.int (iI i)), none, none, none] [] := by
    intro fu
    induction fu with
    | zero => intro i t hn; exact absurd hn (Nat.not_lt_zero _)
    | succ fu ih_loop =>
      intro i t hn hi hF hLA hLB hX tf
      refine g_iload hΓ rfl dX3_laysPairs_27 ?_
      refine g_iload_n hΓ rfl dX3_laysPairs_29 ?_
      refine g_icmp_ge (tgt := 178) hΓ (by omega) (by omega) dX3_laysPairs_30 (by decide) (fun c5 => ?_) (fun c5 => ?_)
      · exact m_vret hΓ dX3_laysPairs_178 ⟨rfl, ⟨hX.1, hX.2, fun i' j' h1 h2 h3 h4 => hF i' j' h1 h3 h4 (by omega)⟩, tf⟩
      · refine g_iconst hΓ dX3_laysPairs_33 ?_
        refine g_istore hΓ dX3_laysPairs_34 rfl (Nat.le_of_ble_eq_true rfl) (lv' := [some (.ref h), some (.int (iI a)), some (.int (iI n)), some (.int (iI b)), some (.int (iI m)), some (.int (iI w)), some (.int (iI i)), some (.int (iI 0)), none, none]) rfl ?_
        have loop2 : ∀ (fu : Nat) (j : Int) (t : mS), (m - j).toNat < fu → (0 ≤ j ∧ j ≤ m) → (∀ i' j', 0 ≤ i' → 0 ≤ j' → j' < m → (i' < i ∨ (i' = i ∧ j' < j)) → t 26 (8 * i' + j') = els σ (a + i') (b + j') 0 w ∧ t 27 (8 * i' + j') = els σ (a + i') (b + j') 1 w ∧ t 28 (8 * i' + j') = cll σ a n b m i' j') → (∀ s, a ≤ s → s < a + n → ∀ j, 0 ≤ j → j < σ 0 1042 → t 22 (16 * s + j) = cds σ s j) → (∀ s, b ≤ s → s < b + m → ∀ j, 0 ≤ j → j < σ 0 1042 → t 22 (16 * s + j) = cds σ s j) → (t 24 0 = n ∧ t 25 0 = m) → (∀ (k : Nat) (j : Int), k ∉ [22, 23, 24, 25, 26, 27, 28] → t k j = σ k j) → gW Γ E (mM E h ad t) 0 0 36 [some (.ref h), some (.int (iI a)), some (.int (iI n)), some (.int (iI b)), some (.int (iI m)), some (.int (iI w)), some (.int (iI i)), some (.int (iI j)), none, none] [] := by
          intro fu
          induction fu with
          | zero => intro j t hn; exact absurd hn (Nat.not_lt_zero _)
          | succ fu ih_loop2 =>
            intro j t hn hj hF hLA hLB hX tf
            have t0 : t 0 = σ 0 := funext fun j => (tf 0 j (by decide))
            have t7 : t 7 = σ 7 := funext fun j => (tf 7 j (by decide))
            have t8 : t 8 = σ 8 := funext fun j => (tf 8 j (by decide))
            have tn := np_same t0 t8
            have tu := nu_same t0 t7
            have tc := cds_same t0 t7 t8
            have tb := cdb_same t0 t7 t8
            have tE := els_same t0 t7 t8
            have tW := sp_way_same t0 t7 t8
            have tP := prd_same t0 t7 t8
            have tL := letS_same t0 t7 t8
            have tS := celS_same t0 t7 t8
            have tR := scr_same t0 t7 t8
            refine g_iload hΓ rfl dX3_laysPairs_36 ?_
            refine g_iload hΓ rfl dX3_laysPairs_38 ?_
            refine g_icmp_ge (tgt := 172) hΓ (by first | omega | (refine ⟨?_, ?_⟩ <;> split <;> omega)) (by first | omega | (refine ⟨?_, ?_⟩ <;> split <;> omega)) dX3_laysPairs_40 (by decide) (fun c6 => ?_) (fun c6 => ?_)
            · obtain ⟨x7, ex7⟩ : ∃ z9 : Int, z9 = i + 1 := ⟨_, rfl⟩
              refine g_iinc hΓ dX3_laysPairs_172 rfl rfl (lv' := [some (.ref h), some (.int (iI a)), some (.int (iI n)), some (.int (iI b)), some (.int (iI m)), some (.int (iI w)), some (.int (iI x7)), some (.int (iI j)), none, none]) (by rw [ex7]; rfl) ?_
              refine g_goto (tgt := 27) hΓ dX3_laysPairs_175 (by decide) ?_
              refine g_lvw (lv' := [some (.ref h), some (.int (iI a)), some (.int (iI n)), some (.int (iI b)), some (.int (iI m)), some (.int (iI w)), some (.int (iI x7)), none, none, none]) ⟨rfl, ⟨rfl, ⟨rfl, ⟨rfl, ⟨rfl, ⟨rfl, ⟨rfl, trivial⟩⟩⟩⟩⟩⟩⟩ ?_
              exact ih_loop x7 t (by omega) (by omega) (fun i' j' h1 h2 h3 h4 => hF i' j' h1 h2 h3 (by omega)) hLA hLB hX tf
            · have hla1 : ∀ q, 0 ≤ q → q < t 0 1042 → t 22 (16 * (a + i) + q) = cds t (a + i) q := by rw [t0, tc]; exact hLA (a + i) (by omega) (by omega)
              have hlb1 : ∀ q, 0 ≤ q → q < t 0 1042 → t 22 (16 * (b + j) + q) = cds t (b + j) q := by rw [t0, tc]; exact hLB (b + j) (by omega) (by omega)
              have he1 : 4 ≤ t 0 1042 ∧ t 0 1042 ≤ 16 := by rw [t0]; exact he
              refine g_aload_n hΓ rfl dX3_laysPairs_43 ?_
              refine m_geta hok hΓ 26 (by decide) rfl rfl q1383 rfl dX3_laysPairs_44 ?_
              refine g_bipush hΓ (by decide) dX3_laysPairs_47 ?_
              refine g_iload hΓ rfl dX3_laysPairs_49 ?_
              refine g_imul hΓ dX3_laysPairs_51 ?_
              refine g_iload hΓ rfl dX3_laysPairs_52 ?_
              refine g_iadd hΓ dX3_laysPairs_54 ?_
              refine g_aload_n hΓ rfl dX3_laysPairs_55 ?_
              refine g_iload_n hΓ rfl dX3_laysPairs_56 ?_
              refine g_iload hΓ rfl dX3_laysPairs_57 ?_
              refine g_iadd hΓ dX3_laysPairs_59 ?_
              refine g_iload_n hΓ rfl dX3_laysPairs_60 ?_
              refine g_iload hΓ rfl dX3_laysPairs_61 ?_
              refine g_iadd hΓ dX3_laysPairs_63 ?_
              refine g_iconst hΓ dX3_laysPairs_64 ?_
              refine g_iload hΓ rfl dX3_laysPairs_65 ?_
              refine m_callV (As := [.int (iI (a + i)), .int (iI (b + j)), .int (iI 0), .int (iI w)]) (rest := [.int (iI ((8 * i) + j)), .ref (ad 26)]) hok hΓ (m_elasticOf hok t (a + i) (b + j) 0 w (by first | assumption | omega) (by first | assumption | omega) (by first | assumption | omega) (by first | assumption | omega) (by first | assumption | omega) (by first | assumption | omega) (by first | assumption | omega)) rfl q1708 q1710 qs91 q131 q1711 ndX3_elasticOf rfl (by decide) (by decide) rfl rfl (Nat.le_of_ble_eq_true rfl) dX3_laysPairs_67 rfl (fun v8 τ8 τ8h => ?_)
              obtain ⟨rfl, τ8h, τ8f⟩ := τ8h
              show gW Γ E (mM E h ad τ8) 0 0 _ _ (.int (iI (els t (a + i) (b + j) 0 w)) :: _)
              refine g_topi (show (els t (a + i) (b + j) 0 w : Int) = (els σ (a + i) (b + j) 0 w) by simp only [t0, tn, tu, tc, tb, tE, tW, tP, tS, tR]) ?_
              refine m_ast hok hΓ 26 (by decide) rfl (n := 64) rfl (by omega) (by decide) dX3_laysPairs_70 (fun τ9 τ9e => ?_)
              have τ9r : τ9 26 ((8 * i) + j) = els σ (a + i) (b + j) 0 w := by rw [τ9e]; exact us_s _ _ _ _
              have τ9f : ∀ (k9 : Nat) (j9 : Int), (k9 ≠ 26 ∨ j9 ≠ ((8 * i) + j)) → τ9 k9 j9 = τ8 k9 j9 := fun k9 j9 hh => by rw [τ9e]; exact us_n hh
              have τ90 : τ9 0 = σ 0 := funext fun j => (((τ9f 0 j (Or.inl (by decide))).trans (τ8f 0 j (by decide))).trans (tf 0 j (by decide)))
              have τ97 : τ9 7 = σ 7 := funext fun j => (((τ9f 7 j (Or.inl (by decide))).trans (τ8f 7 j (by decide))).trans (tf 7 j (by decide)))
              have τ98 : τ9 8 = σ 8 := funext fun j => (((τ9f 8 j (Or.inl (by decide))).trans (τ8f 8 j (by decide))).trans (tf 8 j (by decide)))
              have τ9n := np_same τ90 τ98
              have τ9u := nu_same τ90 τ97
              have τ9c := cds_same τ90 τ97 τ98
              have τ9b := cdb_same τ90 τ97 τ98
              have τ9E := els_same τ90 τ97 τ98
              have τ9W := sp_way_same τ90 τ97 τ98
              have τ9P := prd_same τ90 τ97 τ98
              have τ9L := letS_same τ90 τ97 τ98
              have τ9S := celS_same τ90 τ97 τ98
              have τ9R := scr_same τ90 τ97 τ98
              have τ922 : τ9 22 = t 22 := funext fun j => (τ9f 22 j (Or.inl (by decide))).trans (τ8f 22 j (by decide))
              have hla2 : ∀ q, 0 ≤ q → q < τ9 0 1042 → τ9 22 (16 * (a + i) + q) = cds τ9 (a + i) q := by rw [τ90, τ9c, τ922]; exact hLA (a + i) (by omega) (by omega)
              have hlb2 : ∀ q, 0 ≤ q → q < τ9 0 1042 → τ9 22 (16 * (b + j) + q) = cds τ9 (b + j) q := by rw [τ90, τ9c, τ922]; exact hLB (b + j) (by omega) (by omega)
              have he2 : 4 ≤ τ9 0 1042 ∧ τ9 0 1042 ≤ 16 := by rw [τ90]; exact he
              refine g_aload_n hΓ rfl dX3_laysPairs_71 ?_
              refine m_geta hok hΓ 27 (by decide) rfl rfl q1384 rfl dX3_laysPairs_72 ?_
              refine g_bipush hΓ (by decide) dX3_laysPairs_75 ?_
              refine g_iload hΓ rfl dX3_laysPairs_77 ?_
              refine g_imul hΓ dX3_laysPairs_79 ?_
              refine g_iload hΓ rfl dX3_laysPairs_80 ?_
              refine g_iadd hΓ dX3_laysPairs_82 ?_
              refine g_aload_n hΓ rfl dX3_laysPairs_83 ?_
              refine g_iload_n hΓ rfl dX3_laysPairs_84 ?_
              refine g_iload hΓ rfl dX3_laysPairs_85 ?_
              refine g_iadd hΓ dX3_laysPairs_87 ?_
              refine g_iload_n hΓ rfl dX3_laysPairs_88 ?_
              refine g_iload hΓ rfl dX3_laysPairs_89 ?_
              refine g_iadd hΓ dX3_laysPairs_91 ?_
              refine g_iconst hΓ dX3_laysPairs_92 ?_
              refine g_iload hΓ rfl dX3_laysPairs_93 ?_
              refine m_callV (As := [.int (iI (a + i)), .int (iI (b + j)), .int (iI 1), .int (iI w)]) (rest := [.int (iI ((8 * i) + j)), .ref (ad 27)]) hok hΓ (m_elasticOf hok τ9 (a + i) (b + j) 1 w (by first | assumption | omega) (by first | assumption | omega) (by first | assumption | omega) (by first | assumption | omega) (by first | assumption | omega) (by first | assumption | omega) (by first | assumption | omega)) rfl q1708 q1710 qs91 q131 q1711 ndX3_elasticOf rfl (by decide) (by decide) rfl rfl (Nat.le_of_ble_eq_true rfl) dX3_laysPairs_95 rfl (fun v10 τ10 τ10h => ?_)
              obtain ⟨rfl, τ10h, τ10f⟩ := τ10h
              show gW Γ E (mM E h ad τ10) 0 0 _ _ (.int (iI (els τ9 (a + i) (b + j) 1 w)) :: _)
              refine g_topi (show (els τ9 (a + i) (b + j) 1 w : Int) = (els σ (a + i) (b + j) 1 w) by simp only [τ90, τ9n, τ9u, τ9c, τ9b, τ9E, τ9W, τ9P, τ9S, τ9R]) ?_
              refine m_ast hok hΓ 27 (by decide) rfl (n := 64) rfl (by omega) (by decide) dX3_laysPairs_98 (fun τ11 τ11e => ?_)
              have τ11r : τ11 27 ((8 * i) + j) = els σ (a + i) (b + j) 1 w := by rw [τ11e]; exact us_s _ _ _ _
              have τ11f : ∀ (k9 : Nat) (j9 : Int), (k9 ≠ 27 ∨ j9 ≠ ((8 * i) + j)) → τ11 k9 j9 = τ10 k9 j9 := fun k9 j9 hh => by rw [τ11e]; exact us_n hh
              have τ110 : τ11 0 = σ 0 := funext fun j => (((((τ11f 0 j (Or.inl (by decide))).trans (τ10f 0 j (by decide))).trans (τ9f 0 j (Or.inl (by decide)))).trans (τ8f 0 j (by decide))).trans (tf 0 j (by decide)))
              have τ117 : τ11 7 = σ 7 := funext fun j => (((((τ11f 7 j (Or.inl (by decide))).trans (τ10f 7 j (by decide))).trans (τ9f 7 j (Or.inl (by decide)))).trans (τ8f 7 j (by decide))).trans (tf 7 j (by decide)))
              have τ118 : τ11 8 = σ 8 := funext fun j => (((((τ11f 8 j (Or.inl (by decide))).trans (τ10f 8 j (by decide))).trans (τ9f 8 j (Or.inl (by decide)))).trans (τ8f 8 j (by decide))).trans (tf 8 j (by decide)))
              have τ11n := np_same τ110 τ118
              have τ11u := nu_same τ110 τ117
              have τ11c := cds_same τ110 τ117 τ118
              have τ11b := cdb_same τ110 τ117 τ118
              have τ11E := els_same τ110 τ117 τ118
              have τ11W := sp_way_same τ110 τ117 τ118
              have τ11P := prd_same τ110 τ117 τ118
              have τ11L := letS_same τ110 τ117 τ118
              have τ11S := celS_same τ110 τ117 τ118
              have τ11R := scr_same τ110 τ117 τ118
              have hla3 : letS τ11 a n := by rw [τ11L]; exact hl
              have hlb3 : letS τ11 b m := by rw [τ11L]; exact hm
              have p0 := celS_r (s := a + i) (ax := 0) hl (Or.inl rfl) (by omega) (by omega)
              have p1 := celS_r (s := a + i) (ax := 1) hl (Or.inr rfl) (by omega) (by omega)
              have p2 := celS_r (s := b + j) (ax := 0) hm (Or.inl rfl) (by omega) (by omega)
              have p3 := celS_r (s := b + j) (ax := 1) hm (Or.inr rfl) (by omega) (by omega)
              refine g_iconst hΓ dX3_laysPairs_99 ?_
              refine g_istore hΓ dX3_laysPairs_100 rfl (Nat.le_of_ble_eq_true rfl) (lv' := [some (.ref h), some (.int (iI a)), some (.int (iI n)), some (.int (iI b)), some (.int (iI m)), some (.int (iI w)), some (.int (iI i)), some (.int (iI j)), some (.int (iI 0)), none]) rfl ?_
              refine g_iconst hΓ dX3_laysPairs_102 ?_
              refine g_istore hΓ dX3_laysPairs_103 rfl (Nat.le_of_ble_eq_true rfl) (lv' := [some (.ref h), some (.int (iI a)), some (.int (iI n)), some (.int (iI b)), some (.int (iI m)), some (.int (iI w)), some (.int (iI i)), some (.int (iI j)), some (.int (iI 0)), some (.int (iI 0))]) rfl ?_
              refine g_iload hΓ rfl dX3_laysPairs_105 ?_
              refine g_iconst hΓ dX3_laysPairs_107 ?_
              refine g_icmp_ge (tgt := 151) hΓ (by first | omega | (refine ⟨?_, ?_⟩ <;> split <;> omega)) (by first | omega | (refine ⟨?_, ?_⟩ <;> split <;> omega)) dX3_laysPairs_108 (by decide) (fun c12 => ?_) (fun c12 => ?_)
              · exact absurd c12 (by decide)
              · refine g_iload hΓ rfl dX3_laysPairs_111 ?_
                refine g_aload_n hΓ rfl dX3_laysPairs_113 ?_
                refine g_iload_n hΓ rfl dX3_laysPairs_114 ?_
                refine g_iload hΓ rfl dX3_laysPairs_115 ?_
                refine g_iadd hΓ dX3_laysPairs_117 ?_
                refine g_iload_n hΓ rfl dX3_laysPairs_118 ?_
                refine g_iload_n hΓ rfl dX3_laysPairs_119 ?_
                refine g_iload hΓ rfl dX3_laysPairs_120 ?_
                refine m_callV (As := [.int (iI (a + i)), .int (iI a), .int (iI n), .int (iI 0)]) (rest := [.int (iI 0)]) hok hΓ (m_cellOf hok τ11 (a + i) a n 0 (by first | assumption | omega) (by first | assumption | omega) (by first | assumption | omega)) rfl q1685 q1687 qs87 q131 q1688 ndX3_cellOf rfl (by decide) (by decide) rfl rfl (Nat.le_of_ble_eq_true rfl) dX3_laysPairs_122 rfl (fun v13 τ13 τ13h => ?_)
                obtain ⟨rfl, τ13h⟩ := τ13h
                rw [τ13h]
                clear τ13h
                show gW Γ E (mM E h ad τ11) 0 0 _ _ (.int (iI (celS τ11 (a + i) a n 0)) :: _)
                refine g_topi (show (celS τ11 (a + i) a n 0 : Int) = (celS σ (a + i) a n 0) by simp only [τ110, τ11n, τ11u, τ11c, τ11b, τ11E, τ11W, τ11P, τ11S, τ11R]) ?_
                refine g_aload_n hΓ rfl dX3_laysPairs_125 ?_
                refine g_iload_n hΓ rfl dX3_laysPairs_126 ?_
                refine g_iload hΓ rfl dX3_laysPairs_127 ?_
                refine g_iadd hΓ dX3_laysPairs_129 ?_
                refine g_iload_n hΓ rfl dX3_laysPairs_130 ?_
                refine g_iload hΓ rfl dX3_laysPairs_131 ?_
                refine g_iload hΓ rfl dX3_laysPairs_133 ?_
                refine m_callV (As := [.int (iI (b + j)), .int (iI b), .int (iI m), .int (iI 0)]) (rest := [.int (iI (celS σ (a + i) a n 0)), .int (iI 0)]) hok hΓ (m_cellOf hok τ11 (b + j) b m 0 (by first | assumption | omega) (by first | assumption | omega) (by first | assumption | omega)) rfl q1685 q1687 qs87 q131 q1688 ndX3_cellOf rfl (by decide) (by decide) rfl rfl (Nat.le_of_ble_eq_true rfl) dX3_laysPairs_135 rfl (fun v14 τ14 τ14h => ?_)
                obtain ⟨rfl, τ14h⟩ := τ14h
                rw [τ14h]
                clear τ14h
                show gW Γ E (mM E h ad τ11) 0 0 _ _ (.int (iI (celS τ11 (b + j) b m 0)) :: _)
                refine g_topi (show (celS τ11 (b + j) b m 0 : Int) = (celS σ (b + j) b m 0) by simp only [τ110, τ11n, τ11u, τ11c, τ11b, τ11E, τ11W, τ11P, τ11S, τ11R]) ?_
                refine g_isub hΓ dX3_laysPairs_138 ?_
                refine m_callS (As := [.int (iI ((celS σ (a + i) a n 0) - (celS σ (b + j) b m 0)))]) (rest := [.int (iI 0)]) hok hΓ (m_plain hok τ11 ((celS σ (a + i) a n 0) - (celS σ (b + j) b m 0)) (by omega)) rfl q1664 q1665 q131 q1666 ndX3_plain rfl (by decide) (by decide) rfl (Nat.le_of_ble_eq_true rfl) dX3_laysPairs_139 rfl (fun v15 τ15 τ15h => ?_)
                obtain ⟨rfl, τ15h⟩ := τ15h
                rw [τ15h]
                clear τ15h
                show gW Γ E (mM E h ad τ11) 0 0 _ _ (.int (iI (if ((celS σ (a + i) a n 0) - (celS σ (b + j) b m 0)) < 0 then -((celS σ (a + i) a n 0) - (celS σ (b + j) b m 0)) else ((celS σ (a + i) a n 0) - (celS σ (b + j) b m 0)))) :: _)
                refine g_iadd hΓ dX3_laysPairs_142 ?_
                obtain ⟨x16, ex16⟩ : ∃ z9 : Int, z9 = 0 + (if ((celS σ (a + i) a n 0) - (celS σ (b + j) b m 0)) < 0 then -((celS σ (a + i) a n 0) - (celS σ (b + j) b m 0)) else ((celS σ (a + i) a n 0) - (celS σ (b + j) b m 0))) := ⟨_, rfl⟩
                refine g_topi ex16.symm ?_
                refine g_istore hΓ dX3_laysPairs_143 rfl (Nat.le_of_ble_eq_true rfl) (lv' := [some (.ref h), some (.int (iI a)), some (.int (iI n)), some (.int (iI b)), some (.int (iI m)), some (.int (iI w)), some (.int (iI i)), some (.int (iI j)), some (.int (iI x16)), some (.int (iI 0))]) rfl ?_
                refine g_iinc hΓ dX3_laysPairs_145 rfl rfl (lv' := [some (.ref h), some (.int (iI a)), some (.int (iI n)), some (.int (iI b)), some (.int (iI m)), some (.int (iI w)), some (.int (iI i)), some (.int (iI j)), some (.int (iI x16)), some (.int (iI 1))]) rfl ?_
                refine g_goto (tgt := 105) hΓ dX3_laysPairs_148 (by decide) ?_
                refine g_iload hΓ rfl dX3_laysPairs_105 ?_
                refine g_iconst hΓ dX3_laysPairs_107 ?_
                refine g_icmp_ge (tgt := 151) hΓ (by first | omega | (refine ⟨?_, ?_⟩ <;> split <;> omega)) (by first | omega | (refine ⟨?_, ?_⟩ <;> split <;> omega)) dX3_laysPairs_108 (by decide) (fun c17 => ?_) (fun c17 => ?_)
                · exact absurd c17 (by decide)
                · refine g_iload hΓ rfl dX3_laysPairs_111 ?_
                  refine g_aload_n hΓ rfl dX3_laysPairs_113 ?_
                  refine g_iload_n hΓ rfl dX3_laysPairs_114 ?_
                  refine g_iload hΓ rfl dX3_laysPairs_115 ?_
                  refine g_iadd hΓ dX3_laysPairs_117 ?_
                  refine g_iload_n hΓ rfl dX3_laysPairs_118 ?_
                  refine g_iload_n hΓ rfl dX3_laysPairs_119 ?_
                  refine g_iload hΓ rfl dX3_laysPairs_120 ?_
                  refine m_callV (As := [.int (iI (a + i)), .int (iI a), .int (iI n), .int (iI 1)]) (rest := [.int (iI x16)]) hok hΓ (m_cellOf hok τ11 (a + i) a n 1 (by first | assumption | omega) (by first | assumption | omega) (by first | assumption | omega)) rfl q1685 q1687 qs87 q131 q1688 ndX3_cellOf rfl (by decide) (by decide) rfl rfl (Nat.le_of_ble_eq_true rfl) dX3_laysPairs_122 rfl (fun v18 τ18 τ18h => ?_)
                  obtain ⟨rfl, τ18h⟩ := τ18h
                  rw [τ18h]
                  clear τ18h
                  show gW Γ E (mM E h ad τ11) 0 0 _ _ (.int (iI (celS τ11 (a + i) a n 1)) :: _)
                  refine g_topi (show (celS τ11 (a + i) a n 1 : Int) = (celS σ (a + i) a n 1) by simp only [τ110, τ11n, τ11u, τ11c, τ11b, τ11E, τ11W, τ11P, τ11S, τ11R]) ?_
                  refine g_aload_n hΓ rfl dX3_laysPairs_125 ?_
                  refine g_iload_n hΓ rfl dX3_laysPairs_126 ?_
                  refine g_iload hΓ rfl dX3_laysPairs_127 ?_
                  refine g_iadd hΓ dX3_laysPairs_129 ?_
                  refine g_iload_n hΓ rfl dX3_laysPairs_130 ?_
                  refine g_iload hΓ rfl dX3_laysPairs_131 ?_
                  refine g_iload hΓ rfl dX3_laysPairs_133 ?_
                  refine m_callV (As := [.int (iI (b + j)), .int (iI b), .int (iI m), .int (iI 1)]) (rest := [.int (iI (celS σ (a + i) a n 1)), .int (iI x16)]) hok hΓ (m_cellOf hok τ11 (b + j) b m 1 (by first | assumption | omega) (by first | assumption | omega) (by first | assumption | omega)) rfl q1685 q1687 qs87 q131 q1688 ndX3_cellOf rfl (by decide) (by decide) rfl rfl (Nat.le_of_ble_eq_true rfl) dX3_laysPairs_135 rfl (fun v19 τ19 τ19h => ?_)
                  obtain ⟨rfl, τ19h⟩ := τ19h
                  rw [τ19h]
                  clear τ19h
                  show gW Γ E (mM E h ad τ11) 0 0 _ _ (.int (iI (celS τ11 (b + j) b m 1)) :: _)
                  refine g_topi (show (celS τ11 (b + j) b m 1 : Int) = (celS σ (b + j) b m 1) by simp only [τ110, τ11n, τ11u, τ11c, τ11b, τ11E, τ11W, τ11P, τ11S, τ11R]) ?_
                  refine g_isub hΓ dX3_laysPairs_138 ?_
                  refine m_callS (As := [.int (iI ((celS σ (a + i) a n 1) - (celS σ (b + j) b m 1)))]) (rest := [.int (iI x16)]) hok hΓ (m_plain hok τ11 ((celS σ (a + i) a n 1) - (celS σ (b + j) b m 1)) (by omega)) rfl q1664 q1665 q131 q1666 ndX3_plain rfl (by decide) (by decide) rfl (Nat.le_of_ble_eq_true rfl) dX3_laysPairs_139 rfl (fun v20 τ20 τ20h => ?_)
                  obtain ⟨rfl, τ20h⟩ := τ20h
                  rw [τ20h]
                  clear τ20h
                  show gW Γ E (mM E h ad τ11) 0 0 _ _ (.int (iI (if ((celS σ (a + i) a n 1) - (celS σ (b + j) b m 1)) < 0 then -((celS σ (a + i) a n 1) - (celS σ (b + j) b m 1)) else ((celS σ (a + i) a n 1) - (celS σ (b + j) b m 1)))) :: _)
                  refine g_iadd hΓ dX3_laysPairs_142 ?_
                  obtain ⟨x21, ex21⟩ : ∃ z9 : Int, z9 = x16 + (if ((celS σ (a + i) a n 1) - (celS σ (b + j) b m 1)) < 0 then -((celS σ (a + i) a n 1) - (celS σ (b + j) b m 1)) else ((celS σ (a + i) a n 1) - (celS σ (b + j) b m 1))) := ⟨_, rfl⟩
                  refine g_topi ex21.symm ?_
                  refine g_istore hΓ dX3_laysPairs_143 rfl (Nat.le_of_ble_eq_true rfl) (lv' := [some (.ref h), some (.int (iI a)), some (.int (iI n)), some (.int (iI b)), some (.int (iI m)), some (.int (iI w)), some (.int (iI i)), some (.int (iI j)), some (.int (iI x21)), some (.int (iI 1))]) rfl ?_
                  refine g_iinc hΓ dX3_laysPairs_145 rfl rfl (lv' := [some (.ref h), some (.int (iI a)), some (.int (iI n)), some (.int (iI b)), some (.int (iI m)), some (.int (iI w)), some (.int (iI i)), some (.int (iI j)), some (.int (iI x21)), some (.int (iI 2))]) rfl ?_
                  refine g_goto (tgt := 105) hΓ dX3_laysPairs_148 (by decide) ?_
                  refine g_iload hΓ rfl dX3_laysPairs_105 ?_
                  refine g_iconst hΓ dX3_laysPairs_107 ?_
                  refine g_icmp_ge (tgt := 151) hΓ (by first | omega | (refine ⟨?_, ?_⟩ <;> split <;> omega)) (by first | omega | (refine ⟨?_, ?_⟩ <;> split <;> omega)) dX3_laysPairs_108 (by decide) (fun c22 => ?_) (fun c22 => ?_)
                  · refine g_aload_n hΓ rfl dX3_laysPairs_151 ?_
                    refine m_geta hok hΓ 28 (by decide) rfl rfl q1385 rfl dX3_laysPairs_152 ?_
                    refine g_bipush hΓ (by decide) dX3_laysPairs_155 ?_
                    refine g_iload hΓ rfl dX3_laysPairs_157 ?_
                    refine g_imul hΓ dX3_laysPairs_159 ?_
                    refine g_iload hΓ rfl dX3_laysPairs_160 ?_
                    refine g_iadd hΓ dX3_laysPairs_162 ?_
                    refine g_iload hΓ rfl dX3_laysPairs_163 ?_
                    refine m_ast hok hΓ 28 (by decide) rfl (n := 64) rfl (by omega) (by decide) dX3_laysPairs_165 (fun τ23 τ23e => ?_)
                    have τ23r : τ23 28 ((8 * i) + j) = x21 := by rw [τ23e]; exact us_s _ _ _ _
                    have τ23f : ∀ (k9 : Nat) (j9 : Int), (k9 ≠ 28 ∨ j9 ≠ ((8 * i) + j)) → τ23 k9 j9 = τ11 k9 j9 := fun k9 j9 hh => by rw [τ23e]; exact us_n hh
                    obtain ⟨x24, ex24⟩ : ∃ z9 : Int, z9 = j + 1 := ⟨_, rfl⟩
                    refine g_iinc hΓ dX3_laysPairs_166 rfl rfl (lv' := [some (.ref h), some (.int (iI a)), some (.int (iI n)), some (.int (iI b)), some (.int (iI m)), some (.int (iI w)), some (.int (iI i)), some (.int (iI x24)), some (.int (iI x21)), some (.int (iI 2))]) (by rw [ex24]; rfl) ?_
                    refine g_goto (tgt := 36) hΓ dX3_laysPairs_169 (by decide) ?_
                    refine g_lvw (lv' := [some (.ref h), some (.int (iI a)), some (.int (iI n)), some (.int (iI b)), some (.int (iI m)), some (.int (iI w)), some (.int (iI i)), some (.int (iI x24)), none, none]) ⟨rfl, ⟨rfl, ⟨rfl, ⟨rfl, ⟨rfl, ⟨rfl, ⟨rfl, ⟨rfl, trivial⟩⟩⟩⟩⟩⟩⟩⟩ ?_
                    exact ih_loop2 x24 τ23 (by omega) (by omega) (fun i' j' h1 h2 h3 h4 => by
                        by_cases q : i' = i ∧ j' = j
                        · obtain ⟨q1, q2⟩ := q
                          subst q1; subst q2
                          exact ⟨((τ23f 26 _ (Or.inl (by decide))).trans ((τ11f 26 _ (Or.inl (by decide))).trans (τ10f 26 _ (by decide)))).trans τ9r, (τ23f 27 _ (Or.inl (by decide))).trans τ11r, τ23r.trans (by rw [cll, ex21, ex16]; omega)⟩
                        · have z := hF i' j' h1 h2 h3 (by omega)
                          exact ⟨((τ23f 26 _ (Or.inl (by decide))).trans ((τ11f 26 _ (Or.inl (by decide))).trans ((τ10f 26 _ (by decide)).trans ((τ9f 26 _ (Or.inr (by omega))).trans (τ8f 26 _ (by decide)))))).trans z.1, ((τ23f 27 _ (Or.inl (by decide))).trans ((τ11f 27 _ (Or.inr (by omega))).trans ((τ10f 27 _ (by decide)).trans ((τ9f 27 _ (Or.inl (by decide))).trans (τ8f 27 _ (by decide)))))).trans z.2.1, ((τ23f 28 _ (Or.inr (by omega))).trans ((τ11f 28 _ (Or.inl (by decide))).trans ((τ10f 28 _ (by decide)).trans ((τ9f 28 _ (Or.inl (by decide))).trans (τ8f 28 _ (by decide)))))).trans z.2.2⟩) (fun s h1 h2 q h3 h4 => ((τ23f 22 _ (Or.inl (by decide))).trans ((τ11f 22 _ (Or.inl (by decide))).trans ((τ10f 22 _ (by decide)).trans ((τ9f 22 _ (Or.inl (by decide))).trans (τ8f 22 _ (by decide)))))).trans (hLA s h1 h2 q h3 h4)) (fun s h1 h2 q h3 h4 => ((τ23f 22 _ (Or.inl (by decide))).trans ((τ11f 22 _ (Or.inl (by decide))).trans ((τ10f 22 _ (by decide)).trans ((τ9f 22 _ (Or.inl (by decide))).trans (τ8f 22 _ (by decide)))))).trans (hLB s h1 h2 q h3 h4)) ⟨((τ23f 24 _ (Or.inl (by decide))).trans ((τ11f 24 _ (Or.inl (by decide))).trans ((τ10f 24 _ (by decide)).trans ((τ9f 24 _ (Or.inl (by decide))).trans (τ8f 24 _ (by decide)))))).trans hX.1, ((τ23f 25 _ (Or.inl (by decide))).trans ((τ11f 25 _ (Or.inl (by decide))).trans ((τ10f 25 _ (by decide)).trans ((τ9f 25 _ (Or.inl (by decide))).trans (τ8f 25 _ (by decide)))))).trans hX.2⟩ (fun k j hk => ((((((τ23f k j (Or.inl (fun e => hk (by rw [e]; decide)))).trans (τ11f k j (Or.inl (fun e => hk (by rw [e]; decide))))).trans (τ10f k j (fun e => hk ((show ∀ x ∈ [23], x ∈ [22, 23, 24, 25, 26, 27, 28] by decide) k e)))).trans (τ9f k j (Or.inl (fun e => hk (by rw [e]; decide))))).trans (τ8f k j (fun e => hk ((show ∀ x ∈ [23], x ∈ [22, 23, 24, 25, 26, 27, 28] by decide) k e)))).trans (tf k j (fun e => hk ((show ∀ x ∈ [22, 23, 24, 25, 26, 27, 28], x ∈ [22, 23, 24, 25, 26, 27, 28] by decide) k e)))))
                  · exact absurd c22 (by decide)
        exact loop2 9 0 t (by omega) (by omega) (fun i' j' h1 h2 h3 h4 => hF i' j' h1 h2 h3 (by omega)) hLA hLB hX tf
  exact loop 9 0 τ4 (by omega) (by omega) (fun i' j' h1 h2 h3 h4 => absurd h4 (by omega)) (fun s h1 h2 q h3 h4 => by
      by_cases z : b ≤ s ∧ s < b + m
      · rw [τ4h.1 s z.1 z.2 q h3 (by rw [τ30]; exact h4), τ3c]
      · rw [τ4h.2 _ (by omega)]
        rw [τ3h.1 s h1 h2 q h3 (by rw [τ20]; exact h4), τ2c]) (fun s h1 h2 q h3 h4 => by rw [τ4h.1 s h1 h2 q h3 (by rw [τ30]; exact h4), τ3c]) ⟨(τ4f 24 0 (by decide)).trans ((τ3f 24 0 (by decide)).trans ((τ2f 24 0 (Or.inl (by decide))).trans τ1r)), (τ4f 25 0 (by decide)).trans ((τ3f 25 0 (by decide)).trans τ2r)⟩ (fun k j hk => ((((τ4f k j (fun e => hk ((show ∀ x ∈ [22], x ∈ [22, 23, 24, 25, 26, 27, 28] by decide) k e))).trans (τ3f k j (fun e => hk ((show ∀ x ∈ [22], x ∈ [22, 23, 24, 25, 26, 27, 28] by decide) k e)))).trans (τ2f k j (Or.inl (fun e => hk (by rw [e]; decide))))).trans (τ1f k j (Or.inl (fun e => hk (by rw [e]; decide))))))
