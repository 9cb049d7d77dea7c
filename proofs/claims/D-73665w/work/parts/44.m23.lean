set_option maxRecDepth 100000
set_option maxHeartbeats 4000000 in
theorem m_tell {l : Launch} {E : gE} {h : Nat} {ad : Nat → Nat} (hok : mOK E h ad) (σ : mS)  (m : Int) (hm : r32 m) (hr : rowOK (σ 0)) (ht : tolOK σ) : mC l E h ad yX3_tell cX3_tell 4 (some .int) 2 [.ref h, .int (iI m)] σ (fun rv σ' => rv = some (.int (iI (if telC σ m then σ 6 0 + 1 else -1))) ∧ ((telC σ m → σ' 6 0 = σ 6 0 + 1 ∧ σ' 9 = up (σ 9) (σ 6 0) (σ 0 1009) ∧ σ' 10 = up (σ 10) (σ 6 0) m ∧ σ' 8 = tl8 σ (σ 0 1009) ∧ σ' 7 = tl7 σ (24 * σ 0 1009) ∧ σ' 13 = σ 13) ∧ (¬ telC σ m → refR σ' σ 5 ∧ σ' 6 0 = σ 6 0 ∧ σ' 7 = σ 7 ∧ σ' 8 = σ 8 ∧ σ' 9 = σ 9 ∧ σ' 10 = σ 10)) ∧ ∀ (k : Nat) (j : Int), k ∉ [6, 7, 8, 9, 10, 13] → σ' k j = σ k j) := by
  refine mC.of (by decide) [some (.ref h), some (.int (iI m)), none, none] (Nat.le_of_ble_eq_true rfl) rfl rfl (fun Γ hΓ => ?_)
  obtain ⟨h1000, h1009, h1042, h1043, h1044, h1045, h1046, h1047, hms, hsi, hsm, hnm⟩ := id hr
  have ht6 := ht.1
  refine g_aload_n hΓ rfl dX3_tell_0 ?_
  refine m_geti hok hΓ 6 (by decide) rfl rfl q1363 rfl dX3_tell_1 ?_
  refine g_bipush hΓ (by decide) dX3_tell_4 ?_
  refine g_icmp_eq (tgt := 28) hΓ (by omega) (by omega) dX3_tell_6 (by decide) (fun c1 => ?_) (fun c1 => ?_)
  · refine g_aload_n hΓ rfl dX3_tell_28 ?_
    refine g_iconst hΓ dX3_tell_29 ?_
    refine m_callV (As := [.int (iI 5)]) (rest := []) hok hΓ (m_refuses hok σ 5 (by first | assumption | omega)) rfl q1485 q1487 qs56 q131 q1488 ndX3_refuses rfl (by decide) (by decide) rfl rfl (Nat.le_of_ble_eq_true rfl) dX3_tell_30 rfl (fun v2 τ2 τ2h => ?_)
    obtain ⟨rfl, τ2h, τ2f⟩ := τ2h
    show gW Γ E (mM E h ad τ2) 0 0 _ _ (.int (iI (-1)) :: _)
    exact m_iret hΓ dX3_tell_33 ⟨ri (by rw [if_neg (by omega)]), ⟨fun q => absurd q (by omega), fun _ => ⟨τ2h, τ2f 6 0 (by decide), (funext fun j => τ2f 7 j (by decide)), (funext fun j => τ2f 8 j (by decide)), (funext fun j => τ2f 9 j (by decide)), (funext fun j => τ2f 10 j (by decide))⟩⟩, (fun k j hk => (τ2f k j (fun e => hk ((show ∀ x ∈ [13], x ∈ [6, 7, 8, 9, 10, 13] by decide) k e))))⟩
  · refine g_aload_n hΓ rfl dX3_tell_9 ?_
    refine g_iload_n hΓ rfl dX3_tell_10 ?_
    refine m_callV (As := [.int (iI m)]) (rest := []) hok hΓ (m_isModel hok σ m (by first | assumption | omega) (by first | assumption | omega)) rfl q1594 q1596 qs76 q131 q1597 ndX3_isModel rfl (by decide) (by decide) rfl rfl (Nat.le_of_ble_eq_true rfl) dX3_tell_11 rfl (fun v3 τ3 τ3h => ?_)
    obtain ⟨rfl, τ3h⟩ := τ3h
    rw [τ3h]
    clear τ3h
    show gW Γ E (mM E h ad σ) 0 0 _ _ (.int (iI (if 0 ≤ m ∧ m < σ 0 1000 then 1 else 0)) :: _)
    refine g_ifB_eq (tgt := 28) hΓ  dX3_tell_14 (by decide) (fun c4 => ?_) (fun c4 => ?_)
    · refine g_aload_n hΓ rfl dX3_tell_28 ?_
      refine g_iconst hΓ dX3_tell_29 ?_
      refine m_callV (As := [.int (iI 5)]) (rest := []) hok hΓ (m_refuses hok σ 5 (by first | assumption | omega)) rfl q1485 q1487 qs56 q131 q1488 ndX3_refuses rfl (by decide) (by decide) rfl rfl (Nat.le_of_ble_eq_true rfl) dX3_tell_30 rfl (fun v5 τ5 τ5h => ?_)
      obtain ⟨rfl, τ5h, τ5f⟩ := τ5h
      show gW Γ E (mM E h ad τ5) 0 0 _ _ (.int (iI (-1)) :: _)
      exact m_iret hΓ dX3_tell_33 ⟨ri (by rw [if_neg (by omega)]), ⟨fun q => absurd q (by omega), fun _ => ⟨τ5h, τ5f 6 0 (by decide), (funext fun j => τ5f 7 j (by decide)), (funext fun j => τ5f 8 j (by decide)), (funext fun j => τ5f 9 j (by decide)), (funext fun j => τ5f 10 j (by decide))⟩⟩, (fun k j hk => (τ5f k j (fun e => hk ((show ∀ x ∈ [13], x ∈ [6, 7, 8, 9, 10, 13] by decide) k e))))⟩
    · refine g_aload_n hΓ rfl dX3_tell_17 ?_
      refine m_geta hok hΓ 0 (by decide) rfl rfl q1357 rfl dX3_tell_18 ?_
      refine g_sipush hΓ (by decide) dX3_tell_21 ?_
      refine m_ald hok hΓ 0 (by decide) rfl (n := 1048) rfl (by omega) (by decide) dX3_tell_24 ?_
      refine g_if_ne (tgt := 34) hΓ (by omega) dX3_tell_25 (by decide) (fun c6 => ?_) (fun c6 => ?_)
      · refine g_iconst hΓ dX3_tell_34 ?_
        refine g_istore_n hΓ dX3_tell_35 rfl (Nat.le_of_ble_eq_true rfl) (lv' := [some (.ref h), some (.int (iI m)), some (.int (iI 0)), none]) rfl ?_
        have loop : ∀ (fu : Nat) (s : Int) (t : mS), (σ 0 1009 - s).toNat < fu → (0 ≤ s ∧ s ≤ σ 0 1009) → (t 8 = tl8 σ s) → (t 7 = tl7 σ (24 * s)) → (∀ (k : Nat) (j : Int), k ∉ [7, 8] → t k j = σ k j) → gW Γ E (mM E h ad t) 0 0 36 [some (.ref h), some (.int (iI m)), some (.int (iI s)), none] [] := by
          intro fu
          induction fu with
          | zero => intro s t hn; exact absurd hn (Nat.not_lt_zero _)
          | succ fu ih_loop =>
            intro s t hn hs h8 h7 tf
            refine g_iload_n hΓ rfl dX3_tell_36 ?_
            refine g_aload_n hΓ rfl dX3_tell_37 ?_
            refine m_geta hok hΓ 0 (by decide) rfl rfl q1357 rfl dX3_tell_38 ?_
            refine g_sipush hΓ (by decide) dX3_tell_41 ?_
            refine m_ald hok hΓ 0 (by decide) rfl (n := 1048) rfl (by omega) (by decide) dX3_tell_44 ?_
            refine g_topi ((tf 0 1009 (by decide))) ?_
            refine g_icmp_ge (tgt := 124) hΓ (by omega) (by omega) dX3_tell_45 (by decide) (fun c7 => ?_) (fun c7 => ?_)
            · refine g_aload_n hΓ rfl dX3_tell_124 ?_
              refine m_geta hok hΓ 9 (by decide) rfl rfl q1366 rfl dX3_tell_125 ?_
              refine g_aload_n hΓ rfl dX3_tell_128 ?_
              refine m_geti hok hΓ 6 (by decide) rfl rfl q1363 rfl dX3_tell_129 ?_
              refine g_topi ((tf 6 0 (by decide))) ?_
              refine g_aload_n hΓ rfl dX3_tell_132 ?_
              refine m_geta hok hΓ 0 (by decide) rfl rfl q1357 rfl dX3_tell_133 ?_
              refine g_sipush hΓ (by decide) dX3_tell_136 ?_
              refine m_ald hok hΓ 0 (by decide) rfl (n := 1048) rfl (by omega) (by decide) dX3_tell_139 ?_
              refine g_topi ((tf 0 1009 (by decide))) ?_
              refine m_ast hok hΓ 9 (by decide) rfl (n := 8) rfl (by omega) (by decide) dX3_tell_140 (fun τ8 τ8e => ?_)
              have τ8r : τ8 9 (σ 6 0) = σ 0 1009 := by rw [τ8e]; exact us_s _ _ _ _
              have τ8f : ∀ (k9 : Nat) (j9 : Int), (k9 ≠ 9 ∨ j9 ≠ (σ 6 0)) → τ8 k9 j9 = t k9 j9 := fun k9 j9 hh => by rw [τ8e]; exact us_n hh
              refine g_aload_n hΓ rfl dX3_tell_141 ?_
              refine m_geta hok hΓ 10 (by decide) rfl rfl q1367 rfl dX3_tell_142 ?_
              refine g_aload_n hΓ rfl dX3_tell_145 ?_
              refine m_geti hok hΓ 6 (by decide) rfl rfl q1363 rfl dX3_tell_146 ?_
              refine g_topi (((τ8f 6 0 (Or.inl (by decide))).trans (tf 6 0 (by decide)))) ?_
              refine g_iload_n hΓ rfl dX3_tell_149 ?_
              refine m_ast hok hΓ 10 (by decide) rfl (n := 8) rfl (by omega) (by decide) dX3_tell_150 (fun τ9 τ9e => ?_)
              have τ9r : τ9 10 (σ 6 0) = m := by rw [τ9e]; exact us_s _ _ _ _
              have τ9f : ∀ (k9 : Nat) (j9 : Int), (k9 ≠ 10 ∨ j9 ≠ (σ 6 0)) → τ9 k9 j9 = τ8 k9 j9 := fun k9 j9 hh => by rw [τ9e]; exact us_n hh
              refine g_aload_n hΓ rfl dX3_tell_151 ?_
              refine g_dup hΓ rfl dX3_tell_152 ?_
              refine m_geti hok hΓ 6 (by decide) rfl rfl q1363 rfl dX3_tell_153 ?_
              refine g_topi ((((τ9f 6 0 (Or.inl (by decide))).trans (τ8f 6 0 (Or.inl (by decide)))).trans (tf 6 0 (by decide)))) ?_
              refine g_iconst hΓ dX3_tell_156 ?_
              refine g_iadd hΓ dX3_tell_157 ?_
              refine m_puti hok hΓ 6 (by decide) rfl rfl q1363 rfl rfl rfl dX3_tell_158 (fun τ10 τ10e => ?_)
              have τ10r : τ10 6 0 = (σ 6 0) + 1 := by rw [τ10e]; exact us_s _ _ _ _
              have τ10f : ∀ (k9 : Nat) (j9 : Int), (k9 ≠ 6 ∨ j9 ≠ 0) → τ10 k9 j9 = τ9 k9 j9 := fun k9 j9 hh => by rw [τ10e]; exact us_n hh
              refine g_aload_n hΓ rfl dX3_tell_161 ?_
              refine m_geti hok hΓ 6 (by decide) rfl rfl q1363 rfl dX3_tell_162 ?_
              refine g_topi (τ10r) ?_
              exact m_iret hΓ dX3_tell_165 ⟨ri (by rw [if_pos (by omega)]), ⟨fun _ => ⟨τ10r, (funext fun j => τ10f 9 j (Or.inl (by decide))).trans ((funext fun j => τ9f 9 j (Or.inl (by decide))).trans (by rw [τ8e, us_a, (funext fun j => tf 9 j (by decide))])), (funext fun j => τ10f 10 j (Or.inl (by decide))).trans (by rw [τ9e, us_a, (funext fun j => τ8f 10 j (Or.inl (by decide))), (funext fun j => tf 10 j (by decide))]), (funext fun j => τ10f 8 j (Or.inl (by decide))).trans ((funext fun j => τ9f 8 j (Or.inl (by decide))).trans ((funext fun j => τ8f 8 j (Or.inl (by decide))).trans (h8.trans (by rw [show s = σ 0 1009 by omega])))), (funext fun j => τ10f 7 j (Or.inl (by decide))).trans ((funext fun j => τ9f 7 j (Or.inl (by decide))).trans ((funext fun j => τ8f 7 j (Or.inl (by decide))).trans (h7.trans (by rw [show s = σ 0 1009 by omega])))), (funext fun j => τ10f 13 j (Or.inl (by decide))).trans ((funext fun j => τ9f 13 j (Or.inl (by decide))).trans ((funext fun j => τ8f 13 j (Or.inl (by decide))).trans (funext fun j => tf 13 j (by decide))))⟩, fun q => absurd (by omega) q⟩, (fun k j hk => ((((τ10f k j (Or.inl (fun e => hk (by rw [e]; decide)))).trans (τ9f k j (Or.inl (fun e => hk (by rw [e]; decide))))).trans (τ8f k j (Or.inl (fun e => hk (by rw [e]; decide))))).trans (tf k j (fun e => hk ((show ∀ x ∈ [7, 8], x ∈ [6, 7, 8, 9, 10, 13] by decide) k e)))))⟩
            · refine g_aload_n hΓ rfl dX3_tell_48 ?_
              refine m_geta hok hΓ 8 (by decide) rfl rfl q1365 rfl dX3_tell_49 ?_
              refine g_bipush hΓ (by decide) dX3_tell_52 ?_
              refine g_aload_n hΓ rfl dX3_tell_54 ?_
              refine m_geti hok hΓ 6 (by decide) rfl rfl q1363 rfl dX3_tell_55 ?_
              refine g_topi ((tf 6 0 (by decide))) ?_
              refine g_imul hΓ dX3_tell_58 ?_
              refine g_iload_n hΓ rfl dX3_tell_59 ?_
              refine g_iadd hΓ dX3_tell_60 ?_
              refine g_aload_n hΓ rfl dX3_tell_61 ?_
              refine m_geta hok hΓ 0 (by decide) rfl rfl q1357 rfl dX3_tell_62 ?_
              refine g_sipush hΓ (by decide) dX3_tell_65 ?_
              refine g_iload_n hΓ rfl dX3_tell_68 ?_
              refine g_iadd hΓ dX3_tell_69 ?_
              refine m_ald hok hΓ 0 (by decide) rfl (n := 1048) rfl (by omega) (by decide) dX3_tell_70 ?_
              refine g_topi ((tf 0 (960 + s) (by decide))) ?_
              refine m_ast hok hΓ 8 (by decide) rfl (n := 64) rfl (by omega) (by decide) dX3_tell_71 (fun τ11 τ11e => ?_)
              have τ11r : τ11 8 ((8 * (σ 6 0)) + s) = σ 0 (960 + s) := by rw [τ11e]; exact us_s _ _ _ _
              have τ11f : ∀ (k9 : Nat) (j9 : Int), (k9 ≠ 8 ∨ j9 ≠ ((8 * (σ 6 0)) + s)) → τ11 k9 j9 = t k9 j9 := fun k9 j9 hh => by rw [τ11e]; exact us_n hh
              refine g_iconst hΓ dX3_tell_72 ?_
              refine g_istore_n hΓ dX3_tell_73 rfl (Nat.le_of_ble_eq_true rfl) (lv' := [some (.ref h), some (.int (iI m)), some (.int (iI s)), some (.int (iI 0))]) rfl ?_
              have loop2 : ∀ (fu : Nat) (i : Int) (t : mS), (24 - i).toNat < fu → (0 ≤ i ∧ i ≤ 24) → (t 8 = tl8 σ (s + 1)) → (t 7 = tl7 σ (24 * s + i)) → (∀ (k : Nat) (j : Int), k ∉ [7, 8] → t k j = σ k j) → gW Γ E (mM E h ad t) 0 0 74 [some (.ref h), some (.int (iI m)), some (.int (iI s)), some (.int (iI i))] [] := by
                intro fu
                induction fu with
                | zero => intro i t hn; exact absurd hn (Nat.not_lt_zero _)
                | succ fu ih_loop2 =>
                  intro i t hn hi h8 h7 tf
                  refine g_iload_n hΓ rfl dX3_tell_74 ?_
                  refine g_bipush hΓ (by decide) dX3_tell_75 ?_
                  refine g_icmp_ge (tgt := 118) hΓ (by omega) (by omega) dX3_tell_77 (by decide) (fun c12 => ?_) (fun c12 => ?_)
                  · obtain ⟨x13, ex13⟩ : ∃ z9 : Int, z9 = s + 1 := ⟨_, rfl⟩
                    refine g_iinc hΓ dX3_tell_118 rfl rfl (lv' := [some (.ref h), some (.int (iI m)), some (.int (iI x13)), some (.int (iI i))]) (by rw [ex13]; rfl) ?_
                    refine g_goto (tgt := 36) hΓ dX3_tell_121 (by decide) ?_
                    refine g_lvw (lv' := [some (.ref h), some (.int (iI m)), some (.int (iI x13)), none]) ⟨rfl, ⟨rfl, ⟨rfl, trivial⟩⟩⟩ ?_
                    exact ih_loop x13 t (by omega) (by omega) (h8.trans (by rw [ex13])) (h7.trans (by rw [show 24 * s + i = 24 * x13 by omega])) tf
                  · refine g_aload_n hΓ rfl dX3_tell_80 ?_
                    refine m_geta hok hΓ 7 (by decide) rfl rfl q1364 rfl dX3_tell_81 ?_
                    refine g_bipush hΓ (by decide) dX3_tell_84 ?_
                    refine g_bipush hΓ (by decide) dX3_tell_86 ?_
                    refine g_aload_n hΓ rfl dX3_tell_88 ?_
                    refine m_geti hok hΓ 6 (by decide) rfl rfl q1363 rfl dX3_tell_89 ?_
                    refine g_topi ((tf 6 0 (by decide))) ?_
                    refine g_imul hΓ dX3_tell_92 ?_
                    refine g_iload_n hΓ rfl dX3_tell_93 ?_
                    refine g_iadd hΓ dX3_tell_94 ?_
                    refine g_imul hΓ dX3_tell_95 ?_
                    refine g_iload_n hΓ rfl dX3_tell_96 ?_
                    refine g_iadd hΓ dX3_tell_97 ?_
                    refine g_aload_n hΓ rfl dX3_tell_98 ?_
                    refine m_geta hok hΓ 0 (by decide) rfl rfl q1357 rfl dX3_tell_99 ?_
                    refine g_iconst hΓ dX3_tell_102 ?_
                    refine g_bipush hΓ (by decide) dX3_tell_103 ?_
                    refine g_iload_n hΓ rfl dX3_tell_105 ?_
                    refine g_imul hΓ dX3_tell_106 ?_
                    refine g_iadd hΓ dX3_tell_107 ?_
                    refine g_iload_n hΓ rfl dX3_tell_108 ?_
                    refine g_iadd hΓ dX3_tell_109 ?_
                    refine m_ald hok hΓ 0 (by decide) rfl (n := 1048) rfl (by omega) (by decide) dX3_tell_110 ?_
                    refine g_topi ((tf 0 ((0 + (24 * s)) + i) (by decide))) ?_
                    refine m_ast hok hΓ 7 (by decide) rfl (n := 1536) rfl (by omega) (by decide) dX3_tell_111 (fun τ14 τ14e => ?_)
                    have τ14r : τ14 7 ((24 * ((8 * (σ 6 0)) + s)) + i) = σ 0 ((0 + (24 * s)) + i) := by rw [τ14e]; exact us_s _ _ _ _
                    have τ14f : ∀ (k9 : Nat) (j9 : Int), (k9 ≠ 7 ∨ j9 ≠ ((24 * ((8 * (σ 6 0)) + s)) + i)) → τ14 k9 j9 = t k9 j9 := fun k9 j9 hh => by rw [τ14e]; exact us_n hh
                    obtain ⟨x15, ex15⟩ : ∃ z9 : Int, z9 = i + 1 := ⟨_, rfl⟩
                    refine g_iinc hΓ dX3_tell_112 rfl rfl (lv' := [some (.ref h), some (.int (iI m)), some (.int (iI s)), some (.int (iI x15))]) (by rw [ex15]; rfl) ?_
                    refine g_goto (tgt := 74) hΓ dX3_tell_115 (by decide) ?_
                    exact ih_loop2 x15 τ14 (by omega) (by omega) ((funext fun j => τ14f 8 j (Or.inl (by decide))).trans h8) (funext fun j => by
                        by_cases z : j = 24 * (8 * σ 6 0 + s) + i
                        · rw [z, τ14r, tl7, if_pos (by omega)]
                          congr 1; omega
                        · rw [τ14f 7 j (Or.inr z), h7, tl7, tl7]
                          by_cases y : 192 * σ 6 0 ≤ j ∧ j < 192 * σ 6 0 + (24 * s + i)
                          · rw [if_pos y, if_pos (by omega)]
                          · rw [if_neg y, if_neg (show ¬ (192 * σ 6 0 ≤ j ∧ j < 192 * σ 6 0 + (24 * s + x15)) by omega)]) (fun k j hk => ((τ14f k j (Or.inl (fun e => hk (by rw [e]; decide)))).trans (tf k j (fun e => hk ((show ∀ x ∈ [7, 8], x ∈ [7, 8] by decide) k e)))))
              exact loop2 25 0 τ11 (by omega) (by omega) (funext fun j => by
                  by_cases z : j = 8 * σ 6 0 + s
                  · rw [z, τ11r, tl8, if_pos (by omega)]
                    congr 1; omega
                  · rw [τ11f 8 j (Or.inr z), h8, tl8, tl8]
                    by_cases y : 8 * σ 6 0 ≤ j ∧ j < 8 * σ 6 0 + s
                    · rw [if_pos y, if_pos (by omega)]
                    · rw [if_neg y, if_neg (by omega)]) (((funext fun j => τ11f 7 j (Or.inl (by decide))).trans h7).trans (by rw [Int.add_zero])) (fun k j hk => ((τ11f k j (Or.inl (fun e => hk (by rw [e]; decide)))).trans (tf k j (fun e => hk ((show ∀ x ∈ [7, 8], x ∈ [7, 8] by decide) k e)))))
        exact loop 9 0 σ (by omega) (by omega) (funext fun j => by rw [tl8, if_neg (by omega)]) (funext fun j => by rw [tl7, if_neg (by omega)]) (fun k j _ => rfl)
      · refine g_aload_n hΓ rfl dX3_tell_28 ?_
        refine g_iconst hΓ dX3_tell_29 ?_
        refine m_callV (As := [.int (iI 5)]) (rest := []) hok hΓ (m_refuses hok σ 5 (by first | assumption | omega)) rfl q1485 q1487 qs56 q131 q1488 ndX3_refuses rfl (by decide) (by decide) rfl rfl (Nat.le_of_ble_eq_true rfl) dX3_tell_30 rfl (fun v16 τ16 τ16h => ?_)
        obtain ⟨rfl, τ16h, τ16f⟩ := τ16h
        show gW Γ E (mM E h ad τ16) 0 0 _ _ (.int (iI (-1)) :: _)
        exact m_iret hΓ dX3_tell_33 ⟨ri (by rw [if_neg (by omega)]), ⟨fun q => absurd q (by omega), fun _ => ⟨τ16h, τ16f 6 0 (by decide), (funext fun j => τ16f 7 j (by decide)), (funext fun j => τ16f 8 j (by decide)), (funext fun j => τ16f 9 j (by decide)), (funext fun j => τ16f 10 j (by decide))⟩⟩, (fun k j hk => (τ16f k j (fun e => hk ((show ∀ x ∈ [13], x ∈ [6, 7, 8, 9, 10, 13] by decide) k e))))⟩
set_option maxHeartbeats 4000000 in
theorem m_learn {l : Launch} {E : gE} {h : Nat} {ad : Nat → Nat} (hok : mOK E h ad) (σ : mS)   (hr : rowOK (σ 0)) (hun : 0 ≤ σ 4 0 ∧ σ 4 0 ≤ 20) : mC l E h ad yX3_learn cX3_learn 5 (some .int) 1 [.ref h] σ (fun rv σ' => rv = some (.int (iI (if lrnC σ then σ 0 1000 else -1))) ∧ ((lrnC σ → σ' 0 = leF (σ 0) ∧ remR σ' σ ∧ σ' 13 = σ 13) ∧ (¬ (lrnC σ) → refR σ' σ 3 ∧ σ' 0 = σ 0 ∧ σ' 3 = σ 3 ∧ σ' 4 0 = σ 4 0)) ∧ ∀ (k : Nat) (j : Int), k ∉ [0, 3, 4, 13] → σ' k j = σ k j) := by
  refine mC.of (by decide) [some (.ref h), none, none, none, none] (Nat.le_of_ble_eq_true rfl) rfl rfl (fun Γ hΓ => ?_)
  obtain ⟨h1000, h1009, h1042, h1043, h1044, h1045, h1046, h1047, hms, hsi, hsm, hnm⟩ := id hr
  refine g_aload_n hΓ rfl dX3_learn_0 ?_
  refine m_geta hok hΓ 0 (by decide) rfl rfl q1357 rfl dX3_learn_1 ?_
  refine g_sipush hΓ (by decide) dX3_learn_4 ?_
  refine m_ald hok hΓ 0 (by decide) rfl (n := 1048) rfl (by omega) (by decide) dX3_learn_7 ?_
  refine g_iconst hΓ dX3_learn_8 ?_
  refine g_iconst hΓ dX3_learn_9 ?_
  refine m_callS (As := [.int (iI (σ 0 1009)), .int (iI 1), .int (iI 4)]) (rest := []) hok hΓ (m_isIn hok σ (σ 0 1009) 1 4 (by first | assumption | omega) (by first | assumption | omega) (by first | assumption | omega)) rfl q1549 q1550 q131 q1551 ndX3_isIn rfl (by decide) (by decide) rfl (Nat.le_of_ble_eq_true rfl) dX3_learn_10 rfl (fun v1 τ1 τ1h => ?_)
  obtain ⟨rfl, τ1h⟩ := τ1h
  rw [τ1h]
  clear τ1h
  show gW Γ E (mM E h ad σ) 0 0 _ _ (.int (iI (if 1 ≤ (σ 0 1009) ∧ (σ 0 1009) ≤ 4 then 1 else 0)) :: _)
  refine g_ifB_eq (tgt := 29) hΓ  dX3_learn_13 (by decide) (fun c2 => ?_) (fun c2 => ?_)
  · refine g_aload_n hΓ rfl dX3_learn_29 ?_
    refine g_iconst hΓ dX3_learn_30 ?_
    refine m_callV (As := [.int (iI 3)]) (rest := []) hok hΓ (m_refuses hok σ 3 (by first | assumption | omega)) rfl q1485 q1487 qs56 q131 q1488 ndX3_refuses rfl (by decide) (by decide) rfl rfl (Nat.le_of_ble_eq_true rfl) dX3_learn_31 rfl (fun v3 τ3 τ3h => ?_)
    obtain ⟨rfl, τ3h, τ3f⟩ := τ3h
    show gW Γ E (mM E h ad τ3) 0 0 _ _ (.int (iI (-1)) :: _)
    exact m_iret hΓ dX3_learn_34 ⟨ri (by rw [if_neg (by omega)]), ⟨fun q => absurd q (by omega), fun _ => ⟨τ3h, (funext fun j => τ3f 0 j (by decide)), (funext fun j => τ3f 3 j (by decide)), τ3f 4 0 (by decide)⟩⟩, (fun k j hk => (τ3f k j (fun e => hk ((show ∀ x ∈ [13], x ∈ [0, 3, 4, 13] by decide) k e))))⟩
  · refine g_aload_n hΓ rfl dX3_learn_16 ?_
    refine m_geta hok hΓ 0 (by decide) rfl rfl q1357 rfl dX3_learn_17 ?_
    refine g_sipush hΓ (by decide) dX3_learn_20 ?_
    refine m_ald hok hΓ 0 (by decide) rfl (n := 1048) rfl (by omega) (by decide) dX3_learn_23 ?_
    refine g_bipush hΓ (by decide) dX3_learn_24 ?_
    refine g_icmp_ne (tgt := 35) hΓ (by omega) (by omega) dX3_learn_26 (by decide) (fun c4 => ?_) (fun c4 => ?_)
    · refine g_aload_n hΓ rfl dX3_learn_35 ?_
      refine m_callV (As := []) (rest := []) hok hΓ (m_remembers hok σ  (by first | assumption | omega)) rfl q1927 q1929 qs118 q131 q1930 ndX3_remembers rfl (by decide) (by decide) rfl rfl (Nat.le_of_ble_eq_true rfl) dX3_learn_36 rfl (fun v5 τ5 τ5h => ?_)
      obtain ⟨rfl, τ5h, τ5f⟩ := τ5h
      refine g_aload_n hΓ rfl dX3_learn_39 ?_
      refine m_geta hok hΓ 0 (by decide) rfl rfl q1357 rfl dX3_learn_40 ?_
      refine g_sipush hΓ (by decide) dX3_learn_43 ?_
      refine m_ald hok hΓ 0 (by decide) rfl (n := 1048) rfl (by omega) (by decide) dX3_learn_46 ?_
      refine g_topi ((τ5f 0 1000 (by decide))) ?_
      obtain ⟨x6, ex6⟩ : ∃ z9 : Int, z9 = σ 0 1000 := ⟨_, rfl⟩
      refine g_topi ex6.symm ?_
      refine g_istore_n hΓ dX3_learn_47 rfl (Nat.le_of_ble_eq_true rfl) (lv' := [some (.ref h), some (.int (iI x6)), none, none, none]) rfl ?_
      refine g_iconst hΓ dX3_learn_48 ?_
      refine g_istore_n hΓ dX3_learn_49 rfl (Nat.le_of_ble_eq_true rfl) (lv' := [some (.ref h), some (.int (iI x6)), some (.int (iI 0)), none, none]) rfl ?_
      have τ50 : τ5 0 = σ 0 := (funext fun j => τ5f 0 j (by decide))
      have hm9 : x6 = σ 0 1000 := ex6
      have loop : ∀ (fu : Nat) (s : Int) (t : mS), (σ 0 1009 - s).toNat < fu → (0 ≤ s ∧ s ≤ σ 0 1009) → (t 0 = leP (σ 0) s (24 * s)) → (∀ (k : Nat) (j : Int), k ∉ [0] → t k j = τ5 k j) → gW Γ E (mM E h ad t) 0 0 50 [some (.ref h), some (.int (iI x6)), some (.int (iI s)), none, none] [] := by
        intro fu
        induction fu with
        | zero => intro s t hn; exact absurd hn (Nat.not_lt_zero _)
        | succ fu ih_loop =>
          intro s t hn hs hA tf
          have h9 : t 0 1009 = σ 0 1009 := by rw [hA, leP, if_neg (by omega), if_neg (by omega)]
          have h10 : t 0 1000 = σ 0 1000 := by rw [hA, leP, if_neg (by omega), if_neg (by omega)]
          refine g_iload_n hΓ rfl dX3_learn_50 ?_
          refine g_aload_n hΓ rfl dX3_learn_51 ?_
          refine m_geta hok hΓ 0 (by decide) rfl rfl q1357 rfl dX3_learn_52 ?_
          refine g_sipush hΓ (by decide) dX3_learn_55 ?_
          refine m_ald hok hΓ 0 (by decide) rfl (n := 1048) rfl (by omega) (by decide) dX3_learn_58 ?_
          refine g_icmp_ge (tgt := 141) hΓ (by omega) (by omega) dX3_learn_59 (by decide) (fun c7 => ?_) (fun c7 => ?_)
          · refine g_iconst hΓ dX3_learn_141 ?_
            refine g_istore_n hΓ dX3_learn_142 rfl (Nat.le_of_ble_eq_true rfl) (lv' := [some (.ref h), some (.int (iI x6)), some (.int (iI 0)), none, none]) rfl ?_
            refine g_iload_n hΓ rfl dX3_learn_143 ?_
            refine g_iconst hΓ dX3_learn_144 ?_
            refine g_icmp_ge (tgt := 169) hΓ (by omega) (by omega) dX3_learn_145 (by decide) (fun c8 => ?_) (fun c8 => ?_)
            · exact absurd c8 (by decide)
            · refine g_aload_n hΓ rfl dX3_learn_148 ?_
              refine m_geta hok hΓ 0 (by decide) rfl rfl q1357 rfl dX3_learn_149 ?_
              refine g_sipush hΓ (by decide) dX3_learn_152 ?_
              refine g_iconst hΓ dX3_learn_155 ?_
              refine g_iload_n hΓ rfl dX3_learn_156 ?_
              refine g_imul hΓ dX3_learn_157 ?_
              refine g_iadd hΓ dX3_learn_158 ?_
              refine g_iload_n hΓ rfl dX3_learn_159 ?_
              refine g_iadd hΓ dX3_learn_160 ?_
              refine g_iconst hΓ dX3_learn_161 ?_
              refine m_ast hok hΓ 0 (by decide) rfl (n := 1048) rfl (by omega) (by decide) dX3_learn_162 (fun τ9 τ9e => ?_)
              have τ9r : τ9 0 ((1010 + (4 * x6)) + 0) = 0 := by rw [τ9e]; exact us_s _ _ _ _
              have τ9f : ∀ (k9 : Nat) (j9 : Int), (k9 ≠ 0 ∨ j9 ≠ ((1010 + (4 * x6)) + 0)) → τ9 k9 j9 = t k9 j9 := fun k9 j9 hh => by rw [τ9e]; exact us_n hh
              refine g_iinc hΓ dX3_learn_163 rfl rfl (lv' := [some (.ref h), some (.int (iI x6)), some (.int (iI 1)), none, none]) rfl ?_
              refine g_goto (tgt := 143) hΓ dX3_learn_166 (by decide) ?_
              refine g_iload_n hΓ rfl dX3_learn_143 ?_
              refine g_iconst hΓ dX3_learn_144 ?_
              refine g_icmp_ge (tgt := 169) hΓ (by omega) (by omega) dX3_learn_145 (by decide) (fun c10 => ?_) (fun c10 => ?_)
              · exact absurd c10 (by decide)
              · refine g_aload_n hΓ rfl dX3_learn_148 ?_
                refine m_geta hok hΓ 0 (by decide) rfl rfl q1357 rfl dX3_learn_149 ?_
                refine g_sipush hΓ (by decide) dX3_learn_152 ?_
                refine g_iconst hΓ dX3_learn_155 ?_
                refine g_iload_n hΓ rfl dX3_learn_156 ?_
                refine g_imul hΓ dX3_learn_157 ?_
                refine g_iadd hΓ dX3_learn_158 ?_
                refine g_iload_n hΓ rfl dX3_learn_159 ?_
                refine g_iadd hΓ dX3_learn_160 ?_
                refine g_iconst hΓ dX3_learn_161 ?_
                refine m_ast hok hΓ 0 (by decide) rfl (n := 1048) rfl (by omega) (by decide) dX3_learn_162 (fun τ11 τ11e => ?_)
                have τ11r : τ11 0 ((1010 + (4 * x6)) + 1) = 0 := by rw [τ11e]; exact us_s _ _ _ _
                have τ11f : ∀ (k9 : Nat) (j9 : Int), (k9 ≠ 0 ∨ j9 ≠ ((1010 + (4 * x6)) + 1)) → τ11 k9 j9 = τ9 k9 j9 := fun k9 j9 hh => by rw [τ11e]; exact us_n hh
                refine g_iinc hΓ dX3_learn_163 rfl rfl (lv' := [some (.ref h), some (.int (iI x6)), some (.int (iI 2)), none, none]) rfl ?_
                refine g_goto (tgt := 143) hΓ dX3_learn_166 (by decide) ?_
                refine g_iload_n hΓ rfl dX3_learn_143 ?_
                refine g_iconst hΓ dX3_learn_144 ?_
                refine g_icmp_ge (tgt := 169) hΓ (by omega) (by omega) dX3_learn_145 (by decide) (fun c12 => ?_) (fun c12 => ?_)
                · exact absurd c12 (by decide)
                · refine g_aload_n hΓ rfl dX3_learn_148 ?_
                  refine m_geta hok hΓ 0 (by decide) rfl rfl q1357 rfl dX3_learn_149 ?_
                  refine g_sipush hΓ (by decide) dX3_learn_152 ?_
                  refine g_iconst hΓ dX3_learn_155 ?_
                  refine g_iload_n hΓ rfl dX3_learn_156 ?_
                  refine g_imul hΓ dX3_learn_157 ?_
                  refine g_iadd hΓ dX3_learn_158 ?_
                  refine g_iload_n hΓ rfl dX3_learn_159 ?_
                  refine g_iadd hΓ dX3_learn_160 ?_
                  refine g_iconst hΓ dX3_learn_161 ?_
                  refine m_ast hok hΓ 0 (by decide) rfl (n := 1048) rfl (by omega) (by decide) dX3_learn_162 (fun τ13 τ13e => ?_)
                  have τ13r : τ13 0 ((1010 + (4 * x6)) + 2) = 0 := by rw [τ13e]; exact us_s _ _ _ _
                  have τ13f : ∀ (k9 : Nat) (j9 : Int), (k9 ≠ 0 ∨ j9 ≠ ((1010 + (4 * x6)) + 2)) → τ13 k9 j9 = τ11 k9 j9 := fun k9 j9 hh => by rw [τ13e]; exact us_n hh
                  refine g_iinc hΓ dX3_learn_163 rfl rfl (lv' := [some (.ref h), some (.int (iI x6)), some (.int (iI 3)), none, none]) rfl ?_
                  refine g_goto (tgt := 143) hΓ dX3_learn_166 (by decide) ?_
                  refine g_iload_n hΓ rfl dX3_learn_143 ?_
                  refine g_iconst hΓ dX3_learn_144 ?_
                  refine g_icmp_ge (tgt := 169) hΓ (by omega) (by omega) dX3_learn_145 (by decide) (fun c14 => ?_) (fun c14 => ?_)
                  · exact absurd c14 (by decide)
                  · refine g_aload_n hΓ rfl dX3_learn_148 ?_
                    refine m_geta hok hΓ 0 (by decide) rfl rfl q1357 rfl dX3_learn_149 ?_
                    refine g_sipush hΓ (by decide) dX3_learn_152 ?_
                    refine g_iconst hΓ dX3_learn_155 ?_
                    refine g_iload_n hΓ rfl dX3_learn_156 ?_
                    refine g_imul hΓ dX3_learn_157 ?_
                    refine g_iadd hΓ dX3_learn_158 ?_
                    refine g_iload_n hΓ rfl dX3_learn_159 ?_
                    refine g_iadd hΓ dX3_learn_160 ?_
                    refine g_iconst hΓ dX3_learn_161 ?_
                    refine m_ast hok hΓ 0 (by decide) rfl (n := 1048) rfl (by omega) (by decide) dX3_learn_162 (fun τ15 τ15e => ?_)
                    have τ15r : τ15 0 ((1010 + (4 * x6)) + 3) = 0 := by rw [τ15e]; exact us_s _ _ _ _
                    have τ15f : ∀ (k9 : Nat) (j9 : Int), (k9 ≠ 0 ∨ j9 ≠ ((1010 + (4 * x6)) + 3)) → τ15 k9 j9 = τ13 k9 j9 := fun k9 j9 hh => by rw [τ15e]; exact us_n hh
                    refine g_iinc hΓ dX3_learn_163 rfl rfl (lv' := [some (.ref h), some (.int (iI x6)), some (.int (iI 4)), none, none]) rfl ?_
                    refine g_goto (tgt := 143) hΓ dX3_learn_166 (by decide) ?_
                    refine g_iload_n hΓ rfl dX3_learn_143 ?_
                    refine g_iconst hΓ dX3_learn_144 ?_
                    refine g_icmp_ge (tgt := 169) hΓ (by omega) (by omega) dX3_learn_145 (by decide) (fun c16 => ?_) (fun c16 => ?_)
                    · refine g_aload_n hΓ rfl dX3_learn_169 ?_
                      refine m_geta hok hΓ 0 (by decide) rfl rfl q1357 rfl dX3_learn_170 ?_
                      refine g_sipush hΓ (by decide) dX3_learn_173 ?_
                      refine g_iload_n hΓ rfl dX3_learn_176 ?_
                      refine g_iadd hΓ dX3_learn_177 ?_
                      refine g_aload_n hΓ rfl dX3_learn_178 ?_
                      refine m_geta hok hΓ 0 (by decide) rfl rfl q1357 rfl dX3_learn_179 ?_
                      refine g_sipush hΓ (by decide) dX3_learn_182 ?_
                      refine m_ald hok hΓ 0 (by decide) rfl (n := 1048) rfl (by omega) (by decide) dX3_learn_185 ?_
                      refine m_ast hok hΓ 0 (by decide) rfl (n := 1048) rfl (by omega) (by decide) dX3_learn_186 (fun τ17 τ17e => ?_)
                      have τ17r : τ17 0 (1001 + x6) = τ15 0 1009 := by rw [τ17e]; exact us_s _ _ _ _
                      have τ17f : ∀ (k9 : Nat) (j9 : Int), (k9 ≠ 0 ∨ j9 ≠ (1001 + x6)) → τ17 k9 j9 = τ15 k9 j9 := fun k9 j9 hh => by rw [τ17e]; exact us_n hh
                      refine g_aload_n hΓ rfl dX3_learn_187 ?_
                      refine m_geta hok hΓ 0 (by decide) rfl rfl q1357 rfl dX3_learn_188 ?_
                      refine g_sipush hΓ (by decide) dX3_learn_191 ?_
                      refine g_dup2 hΓ rfl rfl dX3_learn_194 ?_
                      refine m_ald hok hΓ 0 (by decide) rfl (n := 1048) rfl (by omega) (by decide) dX3_learn_195 ?_
                      refine g_iconst hΓ dX3_learn_196 ?_
                      refine g_iadd hΓ dX3_learn_197 ?_
                      refine m_ast hok hΓ 0 (by decide) rfl (n := 1048) rfl (by omega) (by decide) dX3_learn_198 (fun τ18 τ18e => ?_)
                      have τ18r : τ18 0 1000 = (τ17 0 1000) + 1 := by rw [τ18e]; exact us_s _ _ _ _
                      have τ18f : ∀ (k9 : Nat) (j9 : Int), (k9 ≠ 0 ∨ j9 ≠ 1000) → τ18 k9 j9 = τ17 k9 j9 := fun k9 j9 hh => by rw [τ18e]; exact us_n hh
                      refine g_iload_n hΓ rfl dX3_learn_199 ?_
                      exact m_iret hΓ dX3_learn_200 ⟨ri (by rw [if_pos (by omega)]; omega), ⟨fun _ => ⟨funext fun j => by
                          rw [leF, τ18e, τ17e, τ15e, τ13e, τ11e, τ9e]
                          simp only [us, true_and]
                          rw [h9, h10]
                          by_cases y1 : j = 1000
                          · rw [if_pos y1, if_pos y1]; (repeat' split) <;> omega
                          · rw [if_neg y1, if_neg y1]
                            by_cases y2 : j = 1001 + σ 0 1000
                            · rw [if_pos (by omega), if_pos y2]; (repeat' split) <;> omega
                            · rw [if_neg (by omega), if_neg y2]
                              by_cases y3 : 1010 + 4 * σ 0 1000 ≤ j ∧ j < 1010 + 4 * σ 0 1000 + 4
                              · rw [if_pos y3]; (repeat' split) <;> first | rfl | omega
                              · rw [if_neg y3, if_neg (by omega), if_neg (by omega), if_neg (by omega), if_neg (by omega), hA, show s = σ 0 1009 by omega], ⟨((funext fun j => τ18f 3 j (Or.inl (by decide))).trans ((funext fun j => τ17f 3 j (Or.inl (by decide))).trans ((funext fun j => τ15f 3 j (Or.inl (by decide))).trans ((funext fun j => τ13f 3 j (Or.inl (by decide))).trans ((funext fun j => τ11f 3 j (Or.inl (by decide))).trans ((funext fun j => τ9f 3 j (Or.inl (by decide))).trans (funext fun j => tf 3 j (by decide)))))))).trans τ5h.1, ((τ18f 4 0 (Or.inl (by decide))).trans ((τ17f 4 0 (Or.inl (by decide))).trans ((τ15f 4 0 (Or.inl (by decide))).trans ((τ13f 4 0 (Or.inl (by decide))).trans ((τ11f 4 0 (Or.inl (by decide))).trans ((τ9f 4 0 (Or.inl (by decide))).trans (tf 4 0 (by decide)))))))).trans τ5h.2⟩, ((funext fun j => τ18f 13 j (Or.inl (by decide))).trans ((funext fun j => τ17f 13 j (Or.inl (by decide))).trans ((funext fun j => τ15f 13 j (Or.inl (by decide))).trans ((funext fun j => τ13f 13 j (Or.inl (by decide))).trans ((funext fun j => τ11f 13 j (Or.inl (by decide))).trans ((funext fun j => τ9f 13 j (Or.inl (by decide))).trans (funext fun j => tf 13 j (by decide)))))))).trans (funext fun j => τ5f 13 j (by decide))⟩, fun q => absurd (by omega) q⟩, (fun k j hk => ((((((((τ18f k j (Or.inl (fun e => hk (by rw [e]; decide)))).trans (τ17f k j (Or.inl (fun e => hk (by rw [e]; decide))))).trans (τ15f k j (Or.inl (fun e => hk (by rw [e]; decide))))).trans (τ13f k j (Or.inl (fun e => hk (by rw [e]; decide))))).trans (τ11f k j (Or.inl (fun e => hk (by rw [e]; decide))))).trans (τ9f k j (Or.inl (fun e => hk (by rw [e]; decide))))).trans (tf k j (fun e => hk ((show ∀ x ∈ [0], x ∈ [0, 3, 4, 13] by decide) k e)))).trans (τ5f k j (fun e => hk ((show ∀ x ∈ [3, 4], x ∈ [0, 3, 4, 13] by decide) k e)))))⟩
                    · exact absurd c16 (by decide)
          · refine g_bipush hΓ (by decide) dX3_learn_62 ?_
            refine g_iconst hΓ dX3_learn_64 ?_
            refine g_iload_n hΓ rfl dX3_learn_65 ?_
            refine g_imul hΓ dX3_learn_66 ?_
            refine g_iadd hΓ dX3_learn_67 ?_
            refine g_iload_n hΓ rfl dX3_learn_68 ?_
            refine g_iadd hΓ dX3_learn_69 ?_
            obtain ⟨x19, ex19⟩ : ∃ z9 : Int, z9 = (8 + (4 * x6)) + s := ⟨_, rfl⟩
            refine g_topi ex19.symm ?_
            refine g_istore_n hΓ dX3_learn_70 rfl (Nat.le_of_ble_eq_true rfl) (lv' := [some (.ref h), some (.int (iI x6)), some (.int (iI s)), some (.int (iI x19)), none]) rfl ?_
            refine g_aload_n hΓ rfl dX3_learn_71 ?_
            refine m_geta hok hΓ 0 (by decide) rfl rfl q1357 rfl dX3_learn_72 ?_
            refine g_sipush hΓ (by decide) dX3_learn_75 ?_
            refine g_iload_n hΓ rfl dX3_learn_78 ?_
            refine g_iadd hΓ dX3_learn_79 ?_
            refine g_aload_n hΓ rfl dX3_learn_80 ?_
            refine m_geta hok hΓ 0 (by decide) rfl rfl q1357 rfl dX3_learn_81 ?_
            refine g_sipush hΓ (by decide) dX3_learn_84 ?_
            refine g_iload_n hΓ rfl dX3_learn_87 ?_
            refine g_iadd hΓ dX3_learn_88 ?_
            refine m_ald hok hΓ 0 (by decide) rfl (n := 1048) rfl (by omega) (by decide) dX3_learn_89 ?_
            refine m_ast hok hΓ 0 (by decide) rfl (n := 1048) rfl (by omega) (by decide) dX3_learn_90 (fun τ20 τ20e => ?_)
            have τ20r : τ20 0 (960 + x19) = t 0 (960 + s) := by rw [τ20e]; exact us_s _ _ _ _
            have τ20f : ∀ (k9 : Nat) (j9 : Int), (k9 ≠ 0 ∨ j9 ≠ (960 + x19)) → τ20 k9 j9 = t k9 j9 := fun k9 j9 hh => by rw [τ20e]; exact us_n hh
            refine g_iconst hΓ dX3_learn_91 ?_
            refine g_istore hΓ dX3_learn_92 rfl (Nat.le_of_ble_eq_true rfl) (lv' := [some (.ref h), some (.int (iI x6)), some (.int (iI s)), some (.int (iI x19)), some (.int (iI 0))]) rfl ?_
            have loop2 : ∀ (fu : Nat) (i : Int) (t : mS), (24 - i).toNat < fu → (0 ≤ i ∧ i ≤ 24) → (t 0 = leP (σ 0) (s + 1) (24 * s + i)) → (∀ (k : Nat) (j : Int), k ∉ [0] → t k j = τ5 k j) → gW Γ E (mM E h ad t) 0 0 94 [some (.ref h), some (.int (iI x6)), some (.int (iI s)), some (.int (iI x19)), some (.int (iI i))] [] := by
              intro fu
              induction fu with
              | zero => intro i t hn; exact absurd hn (Nat.not_lt_zero _)
              | succ fu ih_loop2 =>
                intro i t hn hi hA tf
                refine g_iload hΓ rfl dX3_learn_94 ?_
                refine g_bipush hΓ (by decide) dX3_learn_96 ?_
                refine g_icmp_ge (tgt := 135) hΓ (by omega) (by omega) dX3_learn_98 (by decide) (fun c21 => ?_) (fun c21 => ?_)
                · obtain ⟨x22, ex22⟩ : ∃ z9 : Int, z9 = s + 1 := ⟨_, rfl⟩
                  refine g_iinc hΓ dX3_learn_135 rfl rfl (lv' := [some (.ref h), some (.int (iI x6)), some (.int (iI x22)), some (.int (iI x19)), some (.int (iI i))]) (by rw [ex22]; rfl) ?_
                  refine g_goto (tgt := 50) hΓ dX3_learn_138 (by decide) ?_
                  refine g_lvw (lv' := [some (.ref h), some (.int (iI x6)), some (.int (iI x22)), none, none]) ⟨rfl, ⟨rfl, ⟨rfl, trivial⟩⟩⟩ ?_
                  exact ih_loop x22 t (by omega) (by omega) (hA.trans (by rw [show 24 * s + i = 24 * x22 by omega, ex22])) tf
                · refine g_aload_n hΓ rfl dX3_learn_101 ?_
                  refine m_geta hok hΓ 0 (by decide) rfl rfl q1357 rfl dX3_learn_102 ?_
                  refine g_iconst hΓ dX3_learn_105 ?_
                  refine g_bipush hΓ (by decide) dX3_learn_106 ?_
                  refine g_iload_n hΓ rfl dX3_learn_108 ?_
                  refine g_imul hΓ dX3_learn_109 ?_
                  refine g_iadd hΓ dX3_learn_110 ?_
                  refine g_iload hΓ rfl dX3_learn_111 ?_
                  refine g_iadd hΓ dX3_learn_113 ?_
                  refine g_aload_n hΓ rfl dX3_learn_114 ?_
                  refine m_geta hok hΓ 0 (by decide) rfl rfl q1357 rfl dX3_learn_115 ?_
                  refine g_iconst hΓ dX3_learn_118 ?_
                  refine g_bipush hΓ (by decide) dX3_learn_119 ?_
                  refine g_iload_n hΓ rfl dX3_learn_121 ?_
                  refine g_imul hΓ dX3_learn_122 ?_
                  refine g_iadd hΓ dX3_learn_123 ?_
                  refine g_iload hΓ rfl dX3_learn_124 ?_
                  refine g_iadd hΓ dX3_learn_126 ?_
                  refine m_ald hok hΓ 0 (by decide) rfl (n := 1048) rfl (by omega) (by decide) dX3_learn_127 ?_
                  refine m_ast hok hΓ 0 (by decide) rfl (n := 1048) rfl (by omega) (by decide) dX3_learn_128 (fun τ23 τ23e => ?_)
                  have τ23r : τ23 0 ((0 + (24 * x19)) + i) = t 0 ((0 + (24 * s)) + i) := by rw [τ23e]; exact us_s _ _ _ _
                  have τ23f : ∀ (k9 : Nat) (j9 : Int), (k9 ≠ 0 ∨ j9 ≠ ((0 + (24 * x19)) + i)) → τ23 k9 j9 = t k9 j9 := fun k9 j9 hh => by rw [τ23e]; exact us_n hh
                  obtain ⟨x24, ex24⟩ : ∃ z9 : Int, z9 = i + 1 := ⟨_, rfl⟩
                  refine g_iinc hΓ dX3_learn_129 rfl rfl (lv' := [some (.ref h), some (.int (iI x6)), some (.int (iI s)), some (.int (iI x19)), some (.int (iI x24))]) (by rw [ex24]; rfl) ?_
                  refine g_goto (tgt := 94) hΓ dX3_learn_132 (by decide) ?_
                  exact ih_loop2 x24 τ23 (by omega) (by omega) (funext fun j => by
                      by_cases z : j = 0 + 24 * x19 + i
                      · rw [z, τ23r, hA, leP, if_neg (by omega), if_neg (by omega), leP, if_pos (by omega)]
                        congr 1; omega
                      · rw [τ23f 0 j (Or.inr z), hA, leP, leP]
                        by_cases y : 24 * (8 + 4 * σ 0 1000) ≤ j ∧ j < 24 * (8 + 4 * σ 0 1000) + (24 * s + i)
                        · rw [if_pos y, if_pos (by omega)]
                        · rw [if_neg y, if_neg (show ¬ (24 * (8 + 4 * σ 0 1000) ≤ j ∧ j < 24 * (8 + 4 * σ 0 1000) + (24 * s + x24)) by omega)]) (fun k9 j9 hk9 => (τ23f k9 j9 (Or.inl (fun e => hk9 (by rw [e]; decide)))).trans (tf k9 j9 hk9))
            exact loop2 25 0 τ20 (by omega) (by omega) (funext fun j => by
                rw [Int.add_zero]
                by_cases z : j = 960 + x19
                · rw [z, τ20r, hA, leP, if_neg (by omega), if_neg (by omega), leP, if_neg (by omega), if_pos (by omega)]
                  congr 1; omega
                · rw [τ20f 0 j (Or.inr z), hA, leP, leP]
                  by_cases y : 24 * (8 + 4 * σ 0 1000) ≤ j ∧ j < 24 * (8 + 4 * σ 0 1000) + 24 * s
                  · rw [if_pos y, if_pos y]
                  · rw [if_neg y, if_neg y]
                    by_cases x : 968 + 4 * σ 0 1000 ≤ j ∧ j < 968 + 4 * σ 0 1000 + s
                    · rw [if_pos x, if_pos (by omega)]
                    · rw [if_neg x, if_neg (by omega)]) (fun k9 j9 hk9 => (τ20f k9 j9 (Or.inl (fun e => hk9 (by rw [e]; decide)))).trans (tf k9 j9 hk9))
      exact loop 9 0 τ5 (by omega) (by omega) (funext fun j => by rw [τ50, leP, if_neg (by omega), if_neg (by omega)]) (fun k j _ => rfl)
    · refine g_aload_n hΓ rfl dX3_learn_29 ?_
      refine g_iconst hΓ dX3_learn_30 ?_
      refine m_callV (As := [.int (iI 3)]) (rest := []) hok hΓ (m_refuses hok σ 3 (by first | assumption | omega)) rfl q1485 q1487 qs56 q131 q1488 ndX3_refuses rfl (by decide) (by decide) rfl rfl (Nat.le_of_ble_eq_true rfl) dX3_learn_31 rfl (fun v25 τ25 τ25h => ?_)
      obtain ⟨rfl, τ25h, τ25f⟩ := τ25h
      show gW Γ E (mM E h ad τ25) 0 0 _ _ (.int (iI (-1)) :: _)
      exact m_iret hΓ dX3_learn_34 ⟨ri (by rw [if_neg (by omega)]), ⟨fun q => absurd q (by omega), fun _ => ⟨τ25h, (funext fun j => τ25f 0 j (by decide)), (funext fun j => τ25f 3 j (by decide)), τ25f 4 0 (by decide)⟩⟩, (fun k j hk => (τ25f k j (fun e => hk ((show ∀ x ∈ [13], x ∈ [0, 3, 4, 13] by decide) k e))))⟩
