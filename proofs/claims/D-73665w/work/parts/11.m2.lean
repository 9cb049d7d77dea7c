set_option maxRecDepth 100000
set_option maxHeartbeats 4000000 in
theorem m_lays {l : Launch} {E : gE} {h : Nat} {ad : Nat → Nat} (hok : mOK E h ad) (σ : mS)  (v : Int) (hv : r32 v) (ht : 0 ≤ σ 12 0 ∧ σ 12 0 + 4 ≤ 1600) : mC l E h ad yX3_lays cX3_lays 3 none 0 [.ref h, .int (iI v)] σ (fun rv σ' => rv = none ∧ (σ' 11 = lay4 (σ 11) (σ 12 0) v ∧ σ' 12 0 = σ 12 0 + 4) ∧ ∀ (k : Nat) (j : Int), k ∉ [11, 12] → σ' k j = σ k j) := by
  refine mC.of (by decide) [some (.ref h), some (.int (iI v)), none] (Nat.le_of_ble_eq_true rfl) rfl rfl (fun Γ hΓ => ?_)
  refine g_iconst hΓ dX3_lays_0 ?_
  refine g_istore_n hΓ dX3_lays_1 rfl (Nat.le_of_ble_eq_true rfl) (lv' := [some (.ref h), some (.int (iI v)), some (.int (iI 0))]) rfl ?_
  refine g_iload_n hΓ rfl dX3_lays_2 ?_
  refine g_iconst hΓ dX3_lays_3 ?_
  refine g_icmp_ge (tgt := 37) hΓ (by omega) (by omega) dX3_lays_4 (by decide) (fun c1 => ?_) (fun c1 => ?_)
  · exact absurd c1 (by decide)
  · refine g_aload_n hΓ rfl dX3_lays_7 ?_
    refine m_geta hok hΓ 11 (by decide) rfl rfl q1368 rfl dX3_lays_8 ?_
    refine g_aload_n hΓ rfl dX3_lays_11 ?_
    refine m_geti hok hΓ 12 (by decide) rfl rfl q1369 rfl dX3_lays_12 ?_
    refine g_iload_n hΓ rfl dX3_lays_15 ?_
    refine g_iadd hΓ dX3_lays_16 ?_
    refine g_iload_n hΓ rfl dX3_lays_17 ?_
    refine g_bipush hΓ (by decide) dX3_lays_18 ?_
    refine g_bipush hΓ (by decide) dX3_lays_20 ?_
    refine g_iload_n hΓ rfl dX3_lays_22 ?_
    refine g_imul hΓ dX3_lays_23 ?_
    refine g_topi (show (8 * 0 : Int) = 0 by decide) ?_
    refine g_isub hΓ dX3_lays_24 ?_
    refine g_topi (show (24 - 0 : Int) = 24 by decide) ?_
    refine g_ishr (a := v / 2 ^ 24) hΓ (sh_r hv 24 (by decide) rfl) dX3_lays_25 ?_
    refine g_sipush hΓ (by decide) dX3_lays_26 ?_
    refine g_iand (a := (v / 2 ^ 24) % 256) hΓ (an_255 _) dX3_lays_29 ?_
    refine m_ast hok hΓ 11 (by decide) rfl (n := 1600) rfl (by omega) (by decide) dX3_lays_30 (fun τ2 τ2e => ?_)
    have τ2r : τ2 11 ((σ 12 0) + 0) = (v / 2 ^ 24) % 256 := by rw [τ2e]; exact us_s _ _ _ _
    have τ2f : ∀ (k9 : Nat) (j9 : Int), (k9 ≠ 11 ∨ j9 ≠ ((σ 12 0) + 0)) → τ2 k9 j9 = σ k9 j9 := fun k9 j9 hh => by rw [τ2e]; exact us_n hh
    refine g_iinc hΓ dX3_lays_31 rfl rfl (lv' := [some (.ref h), some (.int (iI v)), some (.int (iI 1))]) rfl ?_
    refine g_goto (tgt := 2) hΓ dX3_lays_34 (by decide) ?_
    refine g_iload_n hΓ rfl dX3_lays_2 ?_
    refine g_iconst hΓ dX3_lays_3 ?_
    refine g_icmp_ge (tgt := 37) hΓ (by omega) (by omega) dX3_lays_4 (by decide) (fun c3 => ?_) (fun c3 => ?_)
    · exact absurd c3 (by decide)
    · refine g_aload_n hΓ rfl dX3_lays_7 ?_
      refine m_geta hok hΓ 11 (by decide) rfl rfl q1368 rfl dX3_lays_8 ?_
      refine g_aload_n hΓ rfl dX3_lays_11 ?_
      refine m_geti hok hΓ 12 (by decide) rfl rfl q1369 rfl dX3_lays_12 ?_
      refine g_topi ((τ2f 12 0 (Or.inl (by decide)))) ?_
      refine g_iload_n hΓ rfl dX3_lays_15 ?_
      refine g_iadd hΓ dX3_lays_16 ?_
      refine g_iload_n hΓ rfl dX3_lays_17 ?_
      refine g_bipush hΓ (by decide) dX3_lays_18 ?_
      refine g_bipush hΓ (by decide) dX3_lays_20 ?_
      refine g_iload_n hΓ rfl dX3_lays_22 ?_
      refine g_imul hΓ dX3_lays_23 ?_
      refine g_topi (show (8 * 1 : Int) = 8 by decide) ?_
      refine g_isub hΓ dX3_lays_24 ?_
      refine g_topi (show (24 - 8 : Int) = 16 by decide) ?_
      refine g_ishr (a := v / 2 ^ 16) hΓ (sh_r hv 16 (by decide) rfl) dX3_lays_25 ?_
      refine g_sipush hΓ (by decide) dX3_lays_26 ?_
      refine g_iand (a := (v / 2 ^ 16) % 256) hΓ (an_255 _) dX3_lays_29 ?_
      refine m_ast hok hΓ 11 (by decide) rfl (n := 1600) rfl (by omega) (by decide) dX3_lays_30 (fun τ4 τ4e => ?_)
      have τ4r : τ4 11 ((σ 12 0) + 1) = (v / 2 ^ 16) % 256 := by rw [τ4e]; exact us_s _ _ _ _
      have τ4f : ∀ (k9 : Nat) (j9 : Int), (k9 ≠ 11 ∨ j9 ≠ ((σ 12 0) + 1)) → τ4 k9 j9 = τ2 k9 j9 := fun k9 j9 hh => by rw [τ4e]; exact us_n hh
      refine g_iinc hΓ dX3_lays_31 rfl rfl (lv' := [some (.ref h), some (.int (iI v)), some (.int (iI 2))]) rfl ?_
      refine g_goto (tgt := 2) hΓ dX3_lays_34 (by decide) ?_
      refine g_iload_n hΓ rfl dX3_lays_2 ?_
      refine g_iconst hΓ dX3_lays_3 ?_
      refine g_icmp_ge (tgt := 37) hΓ (by omega) (by omega) dX3_lays_4 (by decide) (fun c5 => ?_) (fun c5 => ?_)
      · exact absurd c5 (by decide)
      · refine g_aload_n hΓ rfl dX3_lays_7 ?_
        refine m_geta hok hΓ 11 (by decide) rfl rfl q1368 rfl dX3_lays_8 ?_
        refine g_aload_n hΓ rfl dX3_lays_11 ?_
        refine m_geti hok hΓ 12 (by decide) rfl rfl q1369 rfl dX3_lays_12 ?_
        refine g_topi (((τ4f 12 0 (Or.inl (by decide))).trans (τ2f 12 0 (Or.inl (by decide))))) ?_
        refine g_iload_n hΓ rfl dX3_lays_15 ?_
        refine g_iadd hΓ dX3_lays_16 ?_
        refine g_iload_n hΓ rfl dX3_lays_17 ?_
        refine g_bipush hΓ (by decide) dX3_lays_18 ?_
        refine g_bipush hΓ (by decide) dX3_lays_20 ?_
        refine g_iload_n hΓ rfl dX3_lays_22 ?_
        refine g_imul hΓ dX3_lays_23 ?_
        refine g_topi (show (8 * 2 : Int) = 16 by decide) ?_
        refine g_isub hΓ dX3_lays_24 ?_
        refine g_topi (show (24 - 16 : Int) = 8 by decide) ?_
        refine g_ishr (a := v / 2 ^ 8) hΓ (sh_r hv 8 (by decide) rfl) dX3_lays_25 ?_
        refine g_sipush hΓ (by decide) dX3_lays_26 ?_
        refine g_iand (a := (v / 2 ^ 8) % 256) hΓ (an_255 _) dX3_lays_29 ?_
        refine m_ast hok hΓ 11 (by decide) rfl (n := 1600) rfl (by omega) (by decide) dX3_lays_30 (fun τ6 τ6e => ?_)
        have τ6r : τ6 11 ((σ 12 0) + 2) = (v / 2 ^ 8) % 256 := by rw [τ6e]; exact us_s _ _ _ _
        have τ6f : ∀ (k9 : Nat) (j9 : Int), (k9 ≠ 11 ∨ j9 ≠ ((σ 12 0) + 2)) → τ6 k9 j9 = τ4 k9 j9 := fun k9 j9 hh => by rw [τ6e]; exact us_n hh
        refine g_iinc hΓ dX3_lays_31 rfl rfl (lv' := [some (.ref h), some (.int (iI v)), some (.int (iI 3))]) rfl ?_
        refine g_goto (tgt := 2) hΓ dX3_lays_34 (by decide) ?_
        refine g_iload_n hΓ rfl dX3_lays_2 ?_
        refine g_iconst hΓ dX3_lays_3 ?_
        refine g_icmp_ge (tgt := 37) hΓ (by omega) (by omega) dX3_lays_4 (by decide) (fun c7 => ?_) (fun c7 => ?_)
        · exact absurd c7 (by decide)
        · refine g_aload_n hΓ rfl dX3_lays_7 ?_
          refine m_geta hok hΓ 11 (by decide) rfl rfl q1368 rfl dX3_lays_8 ?_
          refine g_aload_n hΓ rfl dX3_lays_11 ?_
          refine m_geti hok hΓ 12 (by decide) rfl rfl q1369 rfl dX3_lays_12 ?_
          refine g_topi ((((τ6f 12 0 (Or.inl (by decide))).trans (τ4f 12 0 (Or.inl (by decide)))).trans (τ2f 12 0 (Or.inl (by decide))))) ?_
          refine g_iload_n hΓ rfl dX3_lays_15 ?_
          refine g_iadd hΓ dX3_lays_16 ?_
          refine g_iload_n hΓ rfl dX3_lays_17 ?_
          refine g_bipush hΓ (by decide) dX3_lays_18 ?_
          refine g_bipush hΓ (by decide) dX3_lays_20 ?_
          refine g_iload_n hΓ rfl dX3_lays_22 ?_
          refine g_imul hΓ dX3_lays_23 ?_
          refine g_topi (show (8 * 3 : Int) = 24 by decide) ?_
          refine g_isub hΓ dX3_lays_24 ?_
          refine g_topi (show (24 - 24 : Int) = 0 by decide) ?_
          refine g_ishr (a := v / 2 ^ 0) hΓ (sh_r hv 0 (by decide) rfl) dX3_lays_25 ?_
          refine g_sipush hΓ (by decide) dX3_lays_26 ?_
          refine g_iand (a := (v / 2 ^ 0) % 256) hΓ (an_255 _) dX3_lays_29 ?_
          refine m_ast hok hΓ 11 (by decide) rfl (n := 1600) rfl (by omega) (by decide) dX3_lays_30 (fun τ8 τ8e => ?_)
          have τ8r : τ8 11 ((σ 12 0) + 3) = (v / 2 ^ 0) % 256 := by rw [τ8e]; exact us_s _ _ _ _
          have τ8f : ∀ (k9 : Nat) (j9 : Int), (k9 ≠ 11 ∨ j9 ≠ ((σ 12 0) + 3)) → τ8 k9 j9 = τ6 k9 j9 := fun k9 j9 hh => by rw [τ8e]; exact us_n hh
          refine g_iinc hΓ dX3_lays_31 rfl rfl (lv' := [some (.ref h), some (.int (iI v)), some (.int (iI 4))]) rfl ?_
          refine g_goto (tgt := 2) hΓ dX3_lays_34 (by decide) ?_
          refine g_iload_n hΓ rfl dX3_lays_2 ?_
          refine g_iconst hΓ dX3_lays_3 ?_
          refine g_icmp_ge (tgt := 37) hΓ (by omega) (by omega) dX3_lays_4 (by decide) (fun c9 => ?_) (fun c9 => ?_)
          · refine g_aload_n hΓ rfl dX3_lays_37 ?_
            refine g_dup hΓ rfl dX3_lays_38 ?_
            refine m_geti hok hΓ 12 (by decide) rfl rfl q1369 rfl dX3_lays_39 ?_
            refine g_topi (((((τ8f 12 0 (Or.inl (by decide))).trans (τ6f 12 0 (Or.inl (by decide)))).trans (τ4f 12 0 (Or.inl (by decide)))).trans (τ2f 12 0 (Or.inl (by decide))))) ?_
            refine g_iconst hΓ dX3_lays_42 ?_
            refine g_iadd hΓ dX3_lays_43 ?_
            refine m_puti hok hΓ 12 (by decide) rfl rfl q1369 rfl rfl rfl dX3_lays_44 (fun τ10 τ10e => ?_)
            have τ10r : τ10 12 0 = (σ 12 0) + 4 := by rw [τ10e]; exact us_s _ _ _ _
            have τ10f : ∀ (k9 : Nat) (j9 : Int), (k9 ≠ 12 ∨ j9 ≠ 0) → τ10 k9 j9 = τ8 k9 j9 := fun k9 j9 hh => by rw [τ10e]; exact us_n hh
            exact m_vret hΓ dX3_lays_47 ⟨rfl, ⟨by rw [τ10e, τ8e, τ6e, τ4e, τ2e]; funext j; simp only [us, lay4]; simp, τ10r⟩, (fun k j hk => (((((τ10f k j (Or.inl (fun e => hk (by rw [e]; decide)))).trans (τ8f k j (Or.inl (fun e => hk (by rw [e]; decide))))).trans (τ6f k j (Or.inl (fun e => hk (by rw [e]; decide))))).trans (τ4f k j (Or.inl (fun e => hk (by rw [e]; decide))))).trans (τ2f k j (Or.inl (fun e => hk (by rw [e]; decide))))))⟩
          · exact absurd c9 (by decide)
set_option maxHeartbeats 4000000 in
theorem m_feed {l : Launch} {E : gE} {h : Nat} {ad : Nat → Nat} (hok : mOK E h ad) (σ : mS)  (a : Int) (b : Int) (c : Int) (d : Int) (e : Int) (ha : r32 a) (hb : r32 b) (hc : r32 c) (hd : r32 d) (he : r32 e) (ht : 0 ≤ σ 12 0 ∧ σ 12 0 ≤ 1600) : mC l E h ad yX3_feed cX3_feed 6 (some .int) 1 [.ref h, .int (iI a), .int (iI b), .int (iI c), .int (iI d), .int (iI e)] σ (fun rv σ' => rv = some (.int (iI (if σ 12 0 > 1580 then -1 else σ 12 0 + 20))) ∧ ((σ 12 0 > 1580 → σ' 11 = σ 11 ∧ σ' 12 0 = σ 12 0 ∧ σ' 13 = up (σ 13) 0 (σ 13 0 + 1)) ∧ (σ 12 0 ≤ 1580 → σ' 11 = feed5 (σ 11) (σ 12 0) a b c d e ∧ σ' 12 0 = σ 12 0 + 20 ∧ σ' 13 = σ 13)) ∧ ∀ (k : Nat) (j : Int), k ∉ [11, 12, 13] → σ' k j = σ k j) := by
  refine mC.of (by decide) [some (.ref h), some (.int (iI a)), some (.int (iI b)), some (.int (iI c)), some (.int (iI d)), some (.int (iI e))] (Nat.le_of_ble_eq_true rfl) rfl rfl (fun Γ hΓ => ?_)
  refine g_aload_n hΓ rfl dX3_feed_0 ?_
  refine m_geti hok hΓ 12 (by decide) rfl rfl q1369 rfl dX3_feed_1 ?_
  refine g_bipush hΓ (by decide) dX3_feed_4 ?_
  refine g_iadd hΓ dX3_feed_6 ?_
  refine g_sipush hΓ (by decide) dX3_feed_7 ?_
  refine g_icmp_le (tgt := 19) hΓ (by omega) (by omega) dX3_feed_10 (by decide) (fun c1 => ?_) (fun c1 => ?_)
  · refine g_aload_n hΓ rfl dX3_feed_19 ?_
    refine g_iload_n hΓ rfl dX3_feed_20 ?_
    refine m_callV (As := [.int (iI a)]) (rest := []) hok hΓ (m_lays hok σ a (by first | assumption | omega) (by first | assumption | omega)) rfl q1489 q1491 qs57 q131 q1492 ndX3_lays rfl (by decide) (by decide) rfl rfl (Nat.le_of_ble_eq_true rfl) dX3_feed_21 rfl (fun v2 τ2 τ2h => ?_)
    obtain ⟨rfl, τ2h, τ2f⟩ := τ2h
    refine g_aload_n hΓ rfl dX3_feed_24 ?_
    refine g_iload_n hΓ rfl dX3_feed_25 ?_
    refine m_callV (As := [.int (iI b)]) (rest := []) hok hΓ (m_lays hok τ2 b (by first | assumption | omega) (by first | assumption | omega)) rfl q1489 q1491 qs57 q131 q1492 ndX3_lays rfl (by decide) (by decide) rfl rfl (Nat.le_of_ble_eq_true rfl) dX3_feed_26 rfl (fun v3 τ3 τ3h => ?_)
    obtain ⟨rfl, τ3h, τ3f⟩ := τ3h
    refine g_aload_n hΓ rfl dX3_feed_29 ?_
    refine g_iload_n hΓ rfl dX3_feed_30 ?_
    refine m_callV (As := [.int (iI c)]) (rest := []) hok hΓ (m_lays hok τ3 c (by first | assumption | omega) (by first | assumption | omega)) rfl q1489 q1491 qs57 q131 q1492 ndX3_lays rfl (by decide) (by decide) rfl rfl (Nat.le_of_ble_eq_true rfl) dX3_feed_31 rfl (fun v4 τ4 τ4h => ?_)
    obtain ⟨rfl, τ4h, τ4f⟩ := τ4h
    refine g_aload_n hΓ rfl dX3_feed_34 ?_
    refine g_iload hΓ rfl dX3_feed_35 ?_
    refine m_callV (As := [.int (iI d)]) (rest := []) hok hΓ (m_lays hok τ4 d (by first | assumption | omega) (by first | assumption | omega)) rfl q1489 q1491 qs57 q131 q1492 ndX3_lays rfl (by decide) (by decide) rfl rfl (Nat.le_of_ble_eq_true rfl) dX3_feed_37 rfl (fun v5 τ5 τ5h => ?_)
    obtain ⟨rfl, τ5h, τ5f⟩ := τ5h
    refine g_aload_n hΓ rfl dX3_feed_40 ?_
    refine g_iload hΓ rfl dX3_feed_41 ?_
    refine m_callV (As := [.int (iI e)]) (rest := []) hok hΓ (m_lays hok τ5 e (by first | assumption | omega) (by first | assumption | omega)) rfl q1489 q1491 qs57 q131 q1492 ndX3_lays rfl (by decide) (by decide) rfl rfl (Nat.le_of_ble_eq_true rfl) dX3_feed_43 rfl (fun v6 τ6 τ6h => ?_)
    obtain ⟨rfl, τ6h, τ6f⟩ := τ6h
    refine g_aload_n hΓ rfl dX3_feed_46 ?_
    refine m_geti hok hΓ 12 (by decide) rfl rfl q1369 rfl dX3_feed_47 ?_
    exact m_iret hΓ dX3_feed_50 ⟨ri (by omega), ⟨fun hq => absurd hq (by omega), fun _ => ⟨by rw [feed5, τ6h.1, τ5h.1, τ4h.1, τ3h.1, τ2h.1, τ5h.2, τ4h.2, τ3h.2, τ2h.2], by omega, funext fun j => (((((τ6f 13 j (by decide)).trans (τ5f 13 j (by decide))).trans (τ4f 13 j (by decide))).trans (τ3f 13 j (by decide))).trans (τ2f 13 j (by decide)))⟩⟩, (fun k j hk => (((((τ6f k j (fun e => hk ((show ∀ x ∈ [11, 12], x ∈ [11, 12, 13] by decide) k e))).trans (τ5f k j (fun e => hk ((show ∀ x ∈ [11, 12], x ∈ [11, 12, 13] by decide) k e)))).trans (τ4f k j (fun e => hk ((show ∀ x ∈ [11, 12], x ∈ [11, 12, 13] by decide) k e)))).trans (τ3f k j (fun e => hk ((show ∀ x ∈ [11, 12], x ∈ [11, 12, 13] by decide) k e)))).trans (τ2f k j (fun e => hk ((show ∀ x ∈ [11, 12], x ∈ [11, 12, 13] by decide) k e)))))⟩
  · refine g_aload_n hΓ rfl dX3_feed_13 ?_
    refine g_iconst hΓ dX3_feed_14 ?_
    refine m_callV (As := [.int (iI 0)]) (rest := []) hok hΓ (m_refuses hok σ 0 (by first | assumption | omega)) rfl q1485 q1487 qs56 q131 q1488 ndX3_refuses rfl (by decide) (by decide) rfl rfl (Nat.le_of_ble_eq_true rfl) dX3_feed_15 rfl (fun v7 τ7 τ7h => ?_)
    obtain ⟨rfl, τ7h, τ7f⟩ := τ7h
    show gW Γ E (mM E h ad τ7) 0 0 _ _ (.int (iI (-1)) :: _)
    exact m_iret hΓ dX3_feed_18 ⟨ri (by omega), ⟨fun _ => ⟨funext fun j => τ7f 11 j (by decide), τ7f 12 0 (by decide), τ7h⟩, fun hq => absurd hq (by omega)⟩, (fun k j hk => (τ7f k j (fun e => hk ((show ∀ x ∈ [13], x ∈ [11, 12, 13] by decide) k e))))⟩
set_option maxHeartbeats 4000000 in
theorem m_end {l : Launch} {E : gE} {h : Nat} {ad : Nat → Nat} (hok : mOK E h ad) (σ : mS)  (n : Int) (hn : r32 n) (ht : 0 ≤ σ 12 0 ∧ σ 12 0 ≤ 1600) : mC l E h ad yX3_end cX3_end 2 (some .boolean) 1 [.ref h, .int (iI n)] σ (fun rv σ' => rv = some (.int (iI (if n < 0 ∨ σ 12 0 < n then 0 else 1))) ∧ ((n < 0 ∨ σ 12 0 < n → σ' 12 0 = σ 12 0 ∧ σ' 13 = up (σ 13) 0 (σ 13 0 + 1)) ∧ (¬ (n < 0 ∨ σ 12 0 < n) → σ' 12 0 = n ∧ σ' 13 = σ 13)) ∧ ∀ (k : Nat) (j : Int), k ∉ [12, 13] → σ' k j = σ k j) := by
  refine mC.of (by decide) [some (.ref h), some (.int (iI n))] (Nat.le_of_ble_eq_true rfl) rfl rfl (fun Γ hΓ => ?_)
  refine g_iload_n hΓ rfl dX3_end_0 ?_
  refine g_if_lt (tgt := 12) hΓ (by omega) dX3_end_1 (by decide) (fun c1 => ?_) (fun c1 => ?_)
  · refine g_aload_n hΓ rfl dX3_end_12 ?_
    refine g_iconst hΓ dX3_end_13 ?_
    refine m_callV (As := [.int (iI 0)]) (rest := []) hok hΓ (m_isRefused hok σ 0 (by first | assumption | omega)) rfl q1497 q1499 qs58 q131 q1500 ndX3_isRefused rfl (by decide) (by decide) rfl rfl (Nat.le_of_ble_eq_true rfl) dX3_end_14 rfl (fun v2 τ2 τ2h => ?_)
    obtain ⟨rfl, τ2h, τ2f⟩ := τ2h
    show gW Γ E (mM E h ad τ2) 0 0 _ _ (.int (iI 0) :: _)
    exact m_zret hΓ (by omega) dX3_end_17 ⟨ri (by omega), ⟨fun _ => ⟨τ2f 12 0 (by decide), τ2h⟩, fun hq => absurd (by omega) hq⟩, (fun k j hk => (τ2f k j (fun e => hk ((show ∀ x ∈ [13], x ∈ [12, 13] by decide) k e))))⟩
  · refine g_iload_n hΓ rfl dX3_end_4 ?_
    refine g_aload_n hΓ rfl dX3_end_5 ?_
    refine m_geti hok hΓ 12 (by decide) rfl rfl q1369 rfl dX3_end_6 ?_
    refine g_icmp_le (tgt := 18) hΓ (by omega) (by omega) dX3_end_9 (by decide) (fun c3 => ?_) (fun c3 => ?_)
    · refine g_aload_n hΓ rfl dX3_end_18 ?_
      refine g_iload_n hΓ rfl dX3_end_19 ?_
      refine m_puti hok hΓ 12 (by decide) rfl rfl q1369 rfl rfl rfl dX3_end_20 (fun τ4 τ4e => ?_)
      have τ4r : τ4 12 0 = n := by rw [τ4e]; exact us_s _ _ _ _
      have τ4f : ∀ (k9 : Nat) (j9 : Int), (k9 ≠ 12 ∨ j9 ≠ 0) → τ4 k9 j9 = σ k9 j9 := fun k9 j9 hh => by rw [τ4e]; exact us_n hh
      refine g_iconst hΓ dX3_end_23 ?_
      exact m_zret hΓ (by omega) dX3_end_24 ⟨ri (by omega), ⟨fun hq => absurd hq (by omega), fun _ => ⟨τ4r, funext fun j => τ4f 13 j (Or.inl (by decide))⟩⟩, (fun k j hk => (τ4f k j (Or.inl (fun e => hk (by rw [e]; decide)))))⟩
    · refine g_aload_n hΓ rfl dX3_end_12 ?_
      refine g_iconst hΓ dX3_end_13 ?_
      refine m_callV (As := [.int (iI 0)]) (rest := []) hok hΓ (m_isRefused hok σ 0 (by first | assumption | omega)) rfl q1497 q1499 qs58 q131 q1500 ndX3_isRefused rfl (by decide) (by decide) rfl rfl (Nat.le_of_ble_eq_true rfl) dX3_end_14 rfl (fun v5 τ5 τ5h => ?_)
      obtain ⟨rfl, τ5h, τ5f⟩ := τ5h
      show gW Γ E (mM E h ad τ5) 0 0 _ _ (.int (iI 0) :: _)
      exact m_zret hΓ (by omega) dX3_end_17 ⟨ri (by omega), ⟨fun _ => ⟨τ5f 12 0 (by decide), τ5h⟩, fun hq => absurd (by omega) hq⟩, (fun k j hk => (τ5f k j (fun e => hk ((show ∀ x ∈ [13], x ∈ [12, 13] by decide) k e))))⟩
set_option maxHeartbeats 4000000 in
theorem m_taken {l : Launch} {E : gE} {h : Nat} {ad : Nat → Nat} (hok : mOK E h ad) (σ : mS)    : mC l E h ad yX3_taken cX3_taken 2 (some .int) 0 [.ref h] σ (fun rv σ' => rv = some (.int (iI (σ 12 0))) ∧ (σ' 12 0 = 0) ∧ ∀ (k : Nat) (j : Int), k ∉ [12] → σ' k j = σ k j) := by
  refine mC.of (by decide) [some (.ref h), none] (Nat.le_of_ble_eq_true rfl) rfl rfl (fun Γ hΓ => ?_)
  refine g_aload_n hΓ rfl dX3_taken_0 ?_
  refine m_geti hok hΓ 12 (by decide) rfl rfl q1369 rfl dX3_taken_1 ?_
  obtain ⟨x1, ex1⟩ : ∃ z9 : Int, z9 = σ 12 0 := ⟨_, rfl⟩
  refine g_topi ex1.symm ?_
  refine g_istore_n hΓ dX3_taken_4 rfl (Nat.le_of_ble_eq_true rfl) (lv' := [some (.ref h), some (.int (iI x1))]) rfl ?_
  refine g_aload_n hΓ rfl dX3_taken_5 ?_
  refine g_iconst hΓ dX3_taken_6 ?_
  refine m_puti hok hΓ 12 (by decide) rfl rfl q1369 rfl rfl rfl dX3_taken_7 (fun τ2 τ2e => ?_)
  have τ2r : τ2 12 0 = 0 := by rw [τ2e]; exact us_s _ _ _ _
  have τ2f : ∀ (k9 : Nat) (j9 : Int), (k9 ≠ 12 ∨ j9 ≠ 0) → τ2 k9 j9 = σ k9 j9 := fun k9 j9 hh => by rw [τ2e]; exact us_n hh
  refine g_iload_n hΓ rfl dX3_taken_10 ?_
  exact m_iret hΓ dX3_taken_11 ⟨ri (by omega), τ2r, (fun k j hk => (τ2f k j (Or.inl (fun e => hk (by rw [e]; decide)))))⟩
set_option maxHeartbeats 4000000 in
theorem m_byteAt {l : Launch} {E : gE} {h : Nat} {ad : Nat → Nat} (hok : mOK E h ad) (σ : mS)  (k : Int) (hk : r32 k) (hz : 0 ≤ σ 16 0 ∧ σ 16 0 ≤ 1600) : mC l E h ad yX3_byteAt cX3_byteAt 2 (some .int) 0 [.ref h, .int (iI k)] σ (fun rv σ' => rv = some (.int (iI (bya σ k))) ∧ σ' = σ) := by
  refine mC.of (by decide) [some (.ref h), some (.int (iI k))] (Nat.le_of_ble_eq_true rfl) rfl rfl (fun Γ hΓ => ?_)
  refine g_iload_n hΓ rfl dX3_byteAt_0 ?_
  refine g_if_lt (tgt := 21) hΓ (by omega) dX3_byteAt_1 (by decide) (fun c1 => ?_) (fun c1 => ?_)
  · refine g_iconst hΓ dX3_byteAt_21 ?_
    exact m_iret hΓ dX3_byteAt_22 ⟨ri (by rw [bya]; split <;> first | rfl | omega), rfl⟩
  · refine g_iload_n hΓ rfl dX3_byteAt_4 ?_
    refine g_aload_n hΓ rfl dX3_byteAt_5 ?_
    refine m_geti hok hΓ 16 (by decide) rfl rfl q1373 rfl dX3_byteAt_6 ?_
    refine g_icmp_ge (tgt := 21) hΓ (by omega) (by omega) dX3_byteAt_9 (by decide) (fun c2 => ?_) (fun c2 => ?_)
    · refine g_iconst hΓ dX3_byteAt_21 ?_
      exact m_iret hΓ dX3_byteAt_22 ⟨ri (by rw [bya]; split <;> first | rfl | omega), rfl⟩
    · refine g_aload_n hΓ rfl dX3_byteAt_12 ?_
      refine m_geta hok hΓ 11 (by decide) rfl rfl q1368 rfl dX3_byteAt_13 ?_
      refine g_iload_n hΓ rfl dX3_byteAt_16 ?_
      refine m_ald hok hΓ 11 (by decide) rfl (n := 1600) rfl (by omega) (by decide) dX3_byteAt_17 ?_
      refine g_goto (tgt := 22) hΓ dX3_byteAt_18 (by decide) ?_
      exact m_iret hΓ dX3_byteAt_22 ⟨ri (by rw [bya]; split <;> first | rfl | omega), rfl⟩
set_option maxHeartbeats 4000000 in
theorem m_isSmall {l : Launch} {E : gE} {h : Nat} {ad : Nat → Nat} (hok : mOK E h ad) (σ : mS)  (k : Int) (hk : r32 k) (hz : 0 ≤ σ 16 0 ∧ σ 16 0 ≤ 1600) (htp : ∀ j, 0 ≤ j → j < 1600 → 0 ≤ σ 11 j ∧ σ 11 j < 256) : mC l E h ad yX3_isSmall cX3_isSmall 2 (some .boolean) 1 [.ref h, .int (iI k)] σ (fun rv σ' => rv = some (.int (iI (if 97 ≤ bya σ k ∧ bya σ k ≤ 122 then 1 else 0))) ∧ σ' = σ) := by
  refine mC.of (by decide) [some (.ref h), some (.int (iI k))] (Nat.le_of_ble_eq_true rfl) rfl rfl (fun Γ hΓ => ?_)
  have hby := bya_r σ k htp hz
  refine g_aload_n hΓ rfl dX3_isSmall_0 ?_
  refine g_iload_n hΓ rfl dX3_isSmall_1 ?_
  refine m_callV (As := [.int (iI k)]) (rest := []) hok hΓ (m_byteAt hok σ k (by first | assumption | omega) (by first | assumption | omega)) rfl q1521 q1523 qs63 q131 q1524 ndX3_byteAt rfl (by decide) (by decide) rfl rfl (Nat.le_of_ble_eq_true rfl) dX3_isSmall_2 rfl (fun v1 τ1 τ1h => ?_)
  obtain ⟨rfl, τ1h⟩ := τ1h
  rw [τ1h]
  clear τ1h
  show gW Γ E (mM E h ad σ) 0 0 _ _ (.int (iI (bya σ k)) :: _)
  refine g_bipush hΓ (by decide) dX3_isSmall_5 ?_
  refine g_icmp_lt (tgt := 24) hΓ (by omega) (by omega) dX3_isSmall_7 (by decide) (fun c2 => ?_) (fun c2 => ?_)
  · refine g_iconst hΓ dX3_isSmall_24 ?_
    exact m_zret hΓ (by omega) dX3_isSmall_25 ⟨ri (by first | rfl | omega | (simp_all; done) | (simp_all; omega)), rfl⟩
  · refine g_aload_n hΓ rfl dX3_isSmall_10 ?_
    refine g_iload_n hΓ rfl dX3_isSmall_11 ?_
    refine m_callV (As := [.int (iI k)]) (rest := []) hok hΓ (m_byteAt hok σ k (by first | assumption | omega) (by first | assumption | omega)) rfl q1521 q1523 qs63 q131 q1524 ndX3_byteAt rfl (by decide) (by decide) rfl rfl (Nat.le_of_ble_eq_true rfl) dX3_isSmall_12 rfl (fun v3 τ3 τ3h => ?_)
    obtain ⟨rfl, τ3h⟩ := τ3h
    rw [τ3h]
    clear τ3h
    show gW Γ E (mM E h ad σ) 0 0 _ _ (.int (iI (bya σ k)) :: _)
    refine g_bipush hΓ (by decide) dX3_isSmall_15 ?_
    refine g_icmp_gt (tgt := 24) hΓ (by omega) (by omega) dX3_isSmall_17 (by decide) (fun c4 => ?_) (fun c4 => ?_)
    · refine g_iconst hΓ dX3_isSmall_24 ?_
      exact m_zret hΓ (by omega) dX3_isSmall_25 ⟨ri (by first | rfl | omega | (simp_all; done) | (simp_all; omega)), rfl⟩
    · refine g_iconst hΓ dX3_isSmall_20 ?_
      refine g_goto (tgt := 25) hΓ dX3_isSmall_21 (by decide) ?_
      exact m_zret hΓ (by omega) dX3_isSmall_25 ⟨ri (by first | rfl | omega | (simp_all; done) | (simp_all; omega)), rfl⟩
set_option maxHeartbeats 4000000 in
theorem m_isDigit {l : Launch} {E : gE} {h : Nat} {ad : Nat → Nat} (hok : mOK E h ad) (σ : mS)  (k : Int) (hk : r32 k) (hz : 0 ≤ σ 16 0 ∧ σ 16 0 ≤ 1600) (htp : ∀ j, 0 ≤ j → j < 1600 → 0 ≤ σ 11 j ∧ σ 11 j < 256) : mC l E h ad yX3_isDigit cX3_isDigit 2 (some .boolean) 1 [.ref h, .int (iI k)] σ (fun rv σ' => rv = some (.int (iI (if 48 ≤ bya σ k ∧ bya σ k ≤ 57 then 1 else 0))) ∧ σ' = σ) := by
  refine mC.of (by decide) [some (.ref h), some (.int (iI k))] (Nat.le_of_ble_eq_true rfl) rfl rfl (fun Γ hΓ => ?_)
  have hby := bya_r σ k htp hz
  refine g_aload_n hΓ rfl dX3_isDigit_0 ?_
  refine g_iload_n hΓ rfl dX3_isDigit_1 ?_
  refine m_callV (As := [.int (iI k)]) (rest := []) hok hΓ (m_byteAt hok σ k (by first | assumption | omega) (by first | assumption | omega)) rfl q1521 q1523 qs63 q131 q1524 ndX3_byteAt rfl (by decide) (by decide) rfl rfl (Nat.le_of_ble_eq_true rfl) dX3_isDigit_2 rfl (fun v1 τ1 τ1h => ?_)
  obtain ⟨rfl, τ1h⟩ := τ1h
  rw [τ1h]
  clear τ1h
  show gW Γ E (mM E h ad σ) 0 0 _ _ (.int (iI (bya σ k)) :: _)
  refine g_bipush hΓ (by decide) dX3_isDigit_5 ?_
  refine g_icmp_lt (tgt := 24) hΓ (by omega) (by omega) dX3_isDigit_7 (by decide) (fun c2 => ?_) (fun c2 => ?_)
  · refine g_iconst hΓ dX3_isDigit_24 ?_
    exact m_zret hΓ (by omega) dX3_isDigit_25 ⟨ri (by first | rfl | omega | (simp_all; done) | (simp_all; omega)), rfl⟩
  · refine g_aload_n hΓ rfl dX3_isDigit_10 ?_
    refine g_iload_n hΓ rfl dX3_isDigit_11 ?_
    refine m_callV (As := [.int (iI k)]) (rest := []) hok hΓ (m_byteAt hok σ k (by first | assumption | omega) (by first | assumption | omega)) rfl q1521 q1523 qs63 q131 q1524 ndX3_byteAt rfl (by decide) (by decide) rfl rfl (Nat.le_of_ble_eq_true rfl) dX3_isDigit_12 rfl (fun v3 τ3 τ3h => ?_)
    obtain ⟨rfl, τ3h⟩ := τ3h
    rw [τ3h]
    clear τ3h
    show gW Γ E (mM E h ad σ) 0 0 _ _ (.int (iI (bya σ k)) :: _)
    refine g_bipush hΓ (by decide) dX3_isDigit_15 ?_
    refine g_icmp_gt (tgt := 24) hΓ (by omega) (by omega) dX3_isDigit_17 (by decide) (fun c4 => ?_) (fun c4 => ?_)
    · refine g_iconst hΓ dX3_isDigit_24 ?_
      exact m_zret hΓ (by omega) dX3_isDigit_25 ⟨ri (by first | rfl | omega | (simp_all; done) | (simp_all; omega)), rfl⟩
    · refine g_iconst hΓ dX3_isDigit_20 ?_
      refine g_goto (tgt := 25) hΓ dX3_isDigit_21 (by decide) ?_
      exact m_zret hΓ (by omega) dX3_isDigit_25 ⟨ri (by first | rfl | omega | (simp_all; done) | (simp_all; omega)), rfl⟩
set_option maxHeartbeats 4000000 in
theorem m_goesWell {l : Launch} {E : gE} {h : Nat} {ad : Nat → Nat} (hok : mOK E h ad) (σ : mS)   (hw : r32 (σ 19 0)) : mC l E h ad yX3_goesWell cX3_goesWell 1 (some .boolean) 0 [.ref h] σ (fun rv σ' => rv = some (.int (iI (if σ 19 0 = 0 then 1 else 0))) ∧ σ' = σ) := by
  refine mC.of (by decide) [some (.ref h)] (Nat.le_of_ble_eq_true rfl) rfl rfl (fun Γ hΓ => ?_)
  refine g_aload_n hΓ rfl dX3_goesWell_0 ?_
  refine m_geti hok hΓ 19 (by decide) rfl rfl q1376 rfl dX3_goesWell_1 ?_
  refine g_if_ne (tgt := 11) hΓ (by omega) dX3_goesWell_4 (by decide) (fun c1 => ?_) (fun c1 => ?_)
  · refine g_iconst hΓ dX3_goesWell_11 ?_
    exact m_zret hΓ (by omega) dX3_goesWell_12 ⟨ri (by first | rfl | omega | (simp_all; done) | (simp_all; omega)), rfl⟩
  · refine g_iconst hΓ dX3_goesWell_7 ?_
    refine g_goto (tgt := 12) hΓ dX3_goesWell_8 (by decide) ?_
    exact m_zret hΓ (by omega) dX3_goesWell_12 ⟨ri (by first | rfl | omega | (simp_all; done) | (simp_all; omega)), rfl⟩
set_option maxHeartbeats 4000000 in
theorem m_faults {l : Launch} {E : gE} {h : Nat} {ad : Nat → Nat} (hok : mOK E h ad) (σ : mS)  (a : Int) (b : Int) (hw : r32 (σ 19 0)) : mC l E h ad yX3_faults cX3_faults 3 none 0 [.ref h, .int (iI a), .int (iI b)] σ (fun rv σ' => rv = none ∧ (σ' 19 0 = (if σ 19 0 = 0 then a else σ 19 0) ∧ σ' 20 0 = (if σ 19 0 = 0 then b else σ 20 0)) ∧ ∀ (k : Nat) (j : Int), k ∉ [19, 20] → σ' k j = σ k j) := by
  refine mC.of (by decide) [some (.ref h), some (.int (iI a)), some (.int (iI b))] (Nat.le_of_ble_eq_true rfl) rfl rfl (fun Γ hΓ => ?_)
  refine g_aload_n hΓ rfl dX3_faults_0 ?_
  refine m_geti hok hΓ 19 (by decide) rfl rfl q1376 rfl dX3_faults_1 ?_
  refine g_if_eq (tgt := 8) hΓ (by omega) dX3_faults_4 (by decide) (fun c1 => ?_) (fun c1 => ?_)
  · refine g_aload_n hΓ rfl dX3_faults_8 ?_
    refine g_iload_n hΓ rfl dX3_faults_9 ?_
    refine m_puti hok hΓ 19 (by decide) rfl rfl q1376 rfl rfl rfl dX3_faults_10 (fun τ2 τ2e => ?_)
    have τ2r : τ2 19 0 = a := by rw [τ2e]; exact us_s _ _ _ _
    have τ2f : ∀ (k9 : Nat) (j9 : Int), (k9 ≠ 19 ∨ j9 ≠ 0) → τ2 k9 j9 = σ k9 j9 := fun k9 j9 hh => by rw [τ2e]; exact us_n hh
    refine g_aload_n hΓ rfl dX3_faults_13 ?_
    refine g_iload_n hΓ rfl dX3_faults_14 ?_
    refine m_puti hok hΓ 20 (by decide) rfl rfl q1377 rfl rfl rfl dX3_faults_15 (fun τ3 τ3e => ?_)
    have τ3r : τ3 20 0 = b := by rw [τ3e]; exact us_s _ _ _ _
    have τ3f : ∀ (k9 : Nat) (j9 : Int), (k9 ≠ 20 ∨ j9 ≠ 0) → τ3 k9 j9 = τ2 k9 j9 := fun k9 j9 hh => by rw [τ3e]; exact us_n hh
    exact m_vret hΓ dX3_faults_18 ⟨rfl, ⟨by rw [if_pos (by omega), τ3f 19 0 (Or.inl (by decide)), τ2r], by rw [if_pos (by omega), τ3r]⟩, (fun k j hk => ((τ3f k j (Or.inl (fun e => hk (by rw [e]; decide)))).trans (τ2f k j (Or.inl (fun e => hk (by rw [e]; decide))))))⟩
  · exact m_vret hΓ dX3_faults_7 ⟨rfl, ⟨by rw [if_neg (by assumption)], by rw [if_neg (by assumption)]⟩, (fun k j hk => rfl)⟩
