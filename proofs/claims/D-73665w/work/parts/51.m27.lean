set_option maxRecDepth 100000
set_option maxHeartbeats 4000000 in
theorem m_takesIn {l : Launch} {E : gE} {h : Nat} {ad : Nat → Nat} (hok : mOK E h ad) (σ : mS)  (e : Int) (he : 1 ≤ e ∧ e < 1600) (h0 : σ 11 0 ≤ 8) (htp : ∀ j, 0 ≤ j → j < 1600 → 0 ≤ σ 11 j ∧ σ 11 j < 256) : mC l E h ad yX3_takesIn cX3_takesIn 5 (some .boolean) 1 [.ref h, .int (iI e)] σ (fun rv σ' => rv = some (.int (iI (if tkP (σ 11) e (σ 11 0).toNat = e then 1 else 0))) ∧ (tkP (σ 11) e (σ 11 0).toNat = e → tkR (σ 11) e (σ' 1) (σ 11 0) ∧ ∀ s', 0 ≤ s' → s' < σ 11 0 → 2 ≤ σ 11 (tkP (σ 11) e s'.toNat) ∧ σ 11 (tkP (σ 11) e s'.toNat) ≤ 12) ∧ ∀ (k : Nat) (j : Int), k ∉ [1] → σ' k j = σ k j) := by
  refine mC.of (by decide) [some (.ref h), some (.int (iI e)), none, none, none] (Nat.le_of_ble_eq_true rfl) rfl rfl (fun Γ hΓ => ?_)
  have ht0 := htp 0 (by omega) (by omega)
  refine g_iconst hΓ dX3_takesIn_0 ?_
  refine g_istore_n hΓ dX3_takesIn_1 rfl (Nat.le_of_ble_eq_true rfl) (lv' := [some (.ref h), some (.int (iI e)), some (.int (iI 1)), none, none]) rfl ?_
  refine g_iconst hΓ dX3_takesIn_2 ?_
  refine g_istore_n hΓ dX3_takesIn_3 rfl (Nat.le_of_ble_eq_true rfl) (lv' := [some (.ref h), some (.int (iI e)), some (.int (iI 1)), some (.int (iI 0)), none]) rfl ?_
  have loop : ∀ (fu : Nat) (i : Int) (s : Int) (t : mS), (σ 11 0 - s).toNat < fu → (0 ≤ s ∧ s ≤ σ 11 0 ∧ 1 ≤ i ∧ i ≤ e) → (i = tkP (σ 11) e s.toNat) → (tkR (σ 11) e (t 1) s) → (∀ s', 0 ≤ s' → s' < s → 2 ≤ σ 11 (tkP (σ 11) e s'.toNat) ∧ σ 11 (tkP (σ 11) e s'.toNat) ≤ 12) → (∀ (k : Nat) (j : Int), k ∉ [1] → t k j = σ k j) → gW Γ E (mM E h ad t) 0 0 4 [some (.ref h), some (.int (iI e)), some (.int (iI i)), some (.int (iI s)), none] [] := by
    intro fu
    induction fu with
    | zero => intro i s t hn; exact absurd hn (Nat.not_lt_zero _)
    | succ fu ih_loop =>
      intro i s t hn hs hi hR hsm tf
      have hdead : s < σ 11 0 → ¬ tkC (σ 11) e i → tkP (σ 11) e (σ 11 0).toNat = e → False := fun h9 hd q => by
        have z : tkP (σ 11) e (s.toNat + 1) = -1 := by rw [tkP, ← hi, if_neg (fun y => hd y.2)]
        have z2 := tkP_dead z ((σ 11 0).toNat - (s.toNat + 1))
        rw [show s.toNat + 1 + ((σ 11 0).toNat - (s.toNat + 1)) = (σ 11 0).toNat by omega] at z2
        omega
      refine g_iload_n hΓ rfl dX3_takesIn_4 ?_
      refine g_aload_n hΓ rfl dX3_takesIn_5 ?_
      refine m_geta hok hΓ 11 (by decide) rfl rfl q1368 rfl dX3_takesIn_6 ?_
      refine g_iconst hΓ dX3_takesIn_9 ?_
      refine m_ald hok hΓ 11 (by decide) rfl (n := 1600) rfl (by omega) (by decide) dX3_takesIn_10 ?_
      refine g_topi ((tf 11 0 (by decide))) ?_
      refine g_icmp_ge (tgt := 152) hΓ (by omega) (by omega) dX3_takesIn_11 (by decide) (fun c1 => ?_) (fun c1 => ?_)
      · refine g_iload_n hΓ rfl dX3_takesIn_152 ?_
        refine g_iload_n hΓ rfl dX3_takesIn_153 ?_
        refine g_icmp_ne (tgt := 161) hΓ (by omega) (by omega) dX3_takesIn_154 (by decide) (fun c2 => ?_) (fun c2 => ?_)
        · refine g_iconst hΓ dX3_takesIn_161 ?_
          exact m_zret hΓ (by omega) dX3_takesIn_162 ⟨ri (by rw [show (σ 11 0).toNat = s.toNat by omega, ← hi]; first | rw [if_pos (by omega)] | rw [if_neg (by omega)]), (fun q => ⟨fun s' h0 h1 => hR s' h0 (by omega), fun s' h0 h1 => hsm s' h0 (by omega)⟩), (fun k j hk => (tf k j (fun e => hk ((show ∀ x ∈ [1], x ∈ [1] by decide) k e))))⟩
        · refine g_iconst hΓ dX3_takesIn_157 ?_
          refine g_goto (tgt := 162) hΓ dX3_takesIn_158 (by decide) ?_
          exact m_zret hΓ (by omega) dX3_takesIn_162 ⟨ri (by rw [show (σ 11 0).toNat = s.toNat by omega, ← hi]; first | rw [if_pos (by omega)] | rw [if_neg (by omega)]), (fun q => ⟨fun s' h0 h1 => hR s' h0 (by omega), fun s' h0 h1 => hsm s' h0 (by omega)⟩), (fun k j hk => (tf k j (fun e => hk ((show ∀ x ∈ [1], x ∈ [1] by decide) k e))))⟩
      · have hdead := hdead (by omega)
        refine g_iload_n hΓ rfl dX3_takesIn_14 ?_
        refine g_iload_n hΓ rfl dX3_takesIn_15 ?_
        refine g_icmp_ge (tgt := 50) hΓ (by omega) (by omega) dX3_takesIn_16 (by decide) (fun c3 => ?_) (fun c3 => ?_)
        · refine g_iconst hΓ dX3_takesIn_50 ?_
          exact m_zret hΓ (by omega) dX3_takesIn_51 ⟨ri (by rw [if_neg (fun q => hdead (fun c => by omega) q)]), (fun q => (hdead (fun c => by omega) q).elim), (fun k j hk => (tf k j (fun e => hk ((show ∀ x ∈ [1], x ∈ [1] by decide) k e))))⟩
        · have hti := htp i (by omega) (by omega)
          refine g_aload_n hΓ rfl dX3_takesIn_19 ?_
          refine m_geta hok hΓ 11 (by decide) rfl rfl q1368 rfl dX3_takesIn_20 ?_
          refine g_iload_n hΓ rfl dX3_takesIn_23 ?_
          refine m_ald hok hΓ 11 (by decide) rfl (n := 1600) rfl (by omega) (by decide) dX3_takesIn_24 ?_
          refine g_topi ((tf 11 i (by decide))) ?_
          refine g_iconst hΓ dX3_takesIn_25 ?_
          refine g_bipush hΓ (by decide) dX3_takesIn_26 ?_
          refine m_callS (As := [.int (iI (σ 11 i)), .int (iI 2), .int (iI 12)]) (rest := []) hok hΓ (m_isIn hok t (σ 11 i) 2 12 (by first | assumption | omega) (by first | assumption | omega) (by first | assumption | omega)) rfl q1549 q1550 q131 q1551 ndX3_isIn rfl (by decide) (by decide) rfl (Nat.le_of_ble_eq_true rfl) dX3_takesIn_28 rfl (fun v4 τ4 τ4h => ?_)
          obtain ⟨rfl, τ4h⟩ := τ4h
          rw [τ4h]
          clear τ4h
          show gW Γ E (mM E h ad t) 0 0 _ _ (.int (iI (if 2 ≤ (σ 11 i) ∧ (σ 11 i) ≤ 12 then 1 else 0)) :: _)
          refine g_ifB_eq (tgt := 50) hΓ  dX3_takesIn_31 (by decide) (fun c5 => ?_) (fun c5 => ?_)
          · refine g_iconst hΓ dX3_takesIn_50 ?_
            exact m_zret hΓ (by omega) dX3_takesIn_51 ⟨ri (by rw [if_neg (fun q => hdead (fun c => by omega) q)]), (fun q => (hdead (fun c => by omega) q).elim), (fun k j hk => (tf k j (fun e => hk ((show ∀ x ∈ [1], x ∈ [1] by decide) k e))))⟩
          · refine g_iload_n hΓ rfl dX3_takesIn_34 ?_
            refine g_iconst hΓ dX3_takesIn_35 ?_
            refine g_iadd hΓ dX3_takesIn_36 ?_
            refine g_iconst hΓ dX3_takesIn_37 ?_
            refine g_aload_n hΓ rfl dX3_takesIn_38 ?_
            refine m_geta hok hΓ 11 (by decide) rfl rfl q1368 rfl dX3_takesIn_39 ?_
            refine g_iload_n hΓ rfl dX3_takesIn_42 ?_
            refine m_ald hok hΓ 11 (by decide) rfl (n := 1600) rfl (by omega) (by decide) dX3_takesIn_43 ?_
            refine g_topi ((tf 11 i (by decide))) ?_
            refine g_imul hΓ dX3_takesIn_44 ?_
            refine g_iadd hΓ dX3_takesIn_45 ?_
            refine g_iload_n hΓ rfl dX3_takesIn_46 ?_
            refine g_icmp_le (tgt := 52) hΓ (by omega) (by omega) dX3_takesIn_47 (by decide) (fun c6 => ?_) (fun c6 => ?_)
            · refine g_aload_n hΓ rfl dX3_takesIn_52 ?_
              refine m_geta hok hΓ 1 (by decide) rfl rfl q1358 rfl dX3_takesIn_53 ?_
              refine g_sipush hΓ (by decide) dX3_takesIn_56 ?_
              refine g_iload_n hΓ rfl dX3_takesIn_59 ?_
              refine g_iadd hΓ dX3_takesIn_60 ?_
              refine g_aload_n hΓ rfl dX3_takesIn_61 ?_
              refine m_geta hok hΓ 11 (by decide) rfl rfl q1368 rfl dX3_takesIn_62 ?_
              refine g_iload_n hΓ rfl dX3_takesIn_65 ?_
              refine m_ald hok hΓ 11 (by decide) rfl (n := 1600) rfl (by omega) (by decide) dX3_takesIn_66 ?_
              refine g_topi ((tf 11 i (by decide))) ?_
              refine m_ast hok hΓ 1 (by decide) rfl (n := 1048) rfl (by omega) (by decide) dX3_takesIn_67 (fun τ7 τ7e => ?_)
              have τ7r : τ7 1 (960 + s) = σ 11 i := by rw [τ7e]; exact us_s _ _ _ _
              have τ7f : ∀ (k9 : Nat) (j9 : Int), (k9 ≠ 1 ∨ j9 ≠ (960 + s)) → τ7 k9 j9 = t k9 j9 := fun k9 j9 hh => by rw [τ7e]; exact us_n hh
              refine g_iconst hΓ dX3_takesIn_68 ?_
              refine g_istore hΓ dX3_takesIn_69 rfl (Nat.le_of_ble_eq_true rfl) (lv' := [some (.ref h), some (.int (iI e)), some (.int (iI i)), some (.int (iI s)), some (.int (iI 0))]) rfl ?_
              have loop2 : ∀ (fu : Nat) (k : Int) (t : mS), (2 * σ 11 i - k).toNat < fu → (0 ≤ k ∧ k ≤ 2 * σ 11 i) → (smlF (fun k => σ 11 (i + 1 + k)) k.toNat = true) → (tkR (σ 11) e (t 1) s) → (t 1 (960 + s) = σ 11 i) → (∀ j, 0 ≤ j → j < k → t 1 (24 * s + j) = σ 11 (i + 1 + j)) → (∀ (k : Nat) (j : Int), k ∉ [1] → t k j = σ k j) → gW Γ E (mM E h ad t) 0 0 71 [some (.ref h), some (.int (iI e)), some (.int (iI i)), some (.int (iI s)), some (.int (iI k))] [] := by
                intro fu
                induction fu with
                | zero => intro k t hn; exact absurd hn (Nat.not_lt_zero _)
                | succ fu ih_loop2 =>
                  intro k t hn hk hS hR hM hP tf
                  refine g_iload hΓ rfl dX3_takesIn_71 ?_
                  refine g_iconst hΓ dX3_takesIn_73 ?_
                  refine g_aload_n hΓ rfl dX3_takesIn_74 ?_
                  refine m_geta hok hΓ 11 (by decide) rfl rfl q1368 rfl dX3_takesIn_75 ?_
                  refine g_iload_n hΓ rfl dX3_takesIn_78 ?_
                  refine m_ald hok hΓ 11 (by decide) rfl (n := 1600) rfl (by omega) (by decide) dX3_takesIn_79 ?_
                  refine g_topi ((tf 11 i (by decide))) ?_
                  refine g_imul hΓ dX3_takesIn_80 ?_
                  refine g_icmp_ge (tgt := 133) hΓ (by omega) (by omega) dX3_takesIn_81 (by decide) (fun c8 => ?_) (fun c8 => ?_)
                  · have hC : tkC (σ 11) e i := ⟨by omega, by omega, by omega, by rw [← hS, show (2 * σ 11 i).toNat = k.toNat by omega]⟩
                    have hnx : tkP (σ 11) e (s.toNat + 1) = i + 1 + 2 * σ 11 i := by rw [tkP, ← hi, if_pos ⟨by omega, hC⟩]
                    refine g_iload_n hΓ rfl dX3_takesIn_133 ?_
                    refine g_iconst hΓ dX3_takesIn_134 ?_
                    refine g_iconst hΓ dX3_takesIn_135 ?_
                    refine g_aload_n hΓ rfl dX3_takesIn_136 ?_
                    refine m_geta hok hΓ 11 (by decide) rfl rfl q1368 rfl dX3_takesIn_137 ?_
                    refine g_iload_n hΓ rfl dX3_takesIn_140 ?_
                    refine m_ald hok hΓ 11 (by decide) rfl (n := 1600) rfl (by omega) (by decide) dX3_takesIn_141 ?_
                    refine g_topi ((tf 11 i (by decide))) ?_
                    refine g_imul hΓ dX3_takesIn_142 ?_
                    refine g_iadd hΓ dX3_takesIn_143 ?_
                    refine g_iadd hΓ dX3_takesIn_144 ?_
                    obtain ⟨x9, ex9⟩ : ∃ z9 : Int, z9 = i + (1 + (2 * (σ 11 i))) := ⟨_, rfl⟩
                    refine g_topi ex9.symm ?_
                    refine g_istore_n hΓ dX3_takesIn_145 rfl (Nat.le_of_ble_eq_true rfl) (lv' := [some (.ref h), some (.int (iI e)), some (.int (iI x9)), some (.int (iI s)), some (.int (iI k))]) rfl ?_
                    obtain ⟨x10, ex10⟩ : ∃ z9 : Int, z9 = s + 1 := ⟨_, rfl⟩
                    refine g_iinc hΓ dX3_takesIn_146 rfl rfl (lv' := [some (.ref h), some (.int (iI e)), some (.int (iI x9)), some (.int (iI x10)), some (.int (iI k))]) (by rw [ex10]; rfl) ?_
                    refine g_goto (tgt := 4) hΓ dX3_takesIn_149 (by decide) ?_
                    refine g_lvw (lv' := [some (.ref h), some (.int (iI e)), some (.int (iI x9)), some (.int (iI x10)), none]) ⟨rfl, ⟨rfl, ⟨rfl, ⟨rfl, trivial⟩⟩⟩⟩ ?_
                    exact ih_loop x9 x10 t (by omega) (by omega) (by rw [show x10.toNat = s.toNat + 1 by omega, hnx]; omega) (fun s' h0 h1 => by
                        by_cases z : s' = s
                        · rw [z, ← hi]; exact ⟨hM, fun j h2 h3 => hP j h2 (by omega)⟩
                        · exact hR s' h0 (by omega)) (fun s' h0 h1 => by
                        by_cases z : s' = s
                        · rw [z, ← hi]; omega
                        · exact hsm s' h0 (by omega)) tf
                  · have htk := htp (i + 1 + k) (by omega) (by omega)
                    refine g_aload_n hΓ rfl dX3_takesIn_84 ?_
                    refine m_geta hok hΓ 11 (by decide) rfl rfl q1368 rfl dX3_takesIn_85 ?_
                    refine g_iload_n hΓ rfl dX3_takesIn_88 ?_
                    refine g_iconst hΓ dX3_takesIn_89 ?_
                    refine g_iadd hΓ dX3_takesIn_90 ?_
                    refine g_iload hΓ rfl dX3_takesIn_91 ?_
                    refine g_iadd hΓ dX3_takesIn_93 ?_
                    refine m_ald hok hΓ 11 (by decide) rfl (n := 1600) rfl (by omega) (by decide) dX3_takesIn_94 ?_
                    refine g_topi ((tf 11 ((i + 1) + k) (by decide))) ?_
                    refine g_bipush hΓ (by decide) dX3_takesIn_95 ?_
                    refine g_icmp_le (tgt := 102) hΓ (by omega) (by omega) dX3_takesIn_97 (by decide) (fun c11 => ?_) (fun c11 => ?_)
                    · refine g_aload_n hΓ rfl dX3_takesIn_102 ?_
                      refine m_geta hok hΓ 1 (by decide) rfl rfl q1358 rfl dX3_takesIn_103 ?_
                      refine g_iconst hΓ dX3_takesIn_106 ?_
                      refine g_bipush hΓ (by decide) dX3_takesIn_107 ?_
                      refine g_iload_n hΓ rfl dX3_takesIn_109 ?_
                      refine g_imul hΓ dX3_takesIn_110 ?_
                      refine g_iadd hΓ dX3_takesIn_111 ?_
                      refine g_iload hΓ rfl dX3_takesIn_112 ?_
                      refine g_iadd hΓ dX3_takesIn_114 ?_
                      refine g_aload_n hΓ rfl dX3_takesIn_115 ?_
                      refine m_geta hok hΓ 11 (by decide) rfl rfl q1368 rfl dX3_takesIn_116 ?_
                      refine g_iload_n hΓ rfl dX3_takesIn_119 ?_
                      refine g_iconst hΓ dX3_takesIn_120 ?_
                      refine g_iadd hΓ dX3_takesIn_121 ?_
                      refine g_iload hΓ rfl dX3_takesIn_122 ?_
                      refine g_iadd hΓ dX3_takesIn_124 ?_
                      refine m_ald hok hΓ 11 (by decide) rfl (n := 1600) rfl (by omega) (by decide) dX3_takesIn_125 ?_
                      refine g_topi ((tf 11 ((i + 1) + k) (by decide))) ?_
                      refine m_ast hok hΓ 1 (by decide) rfl (n := 1048) rfl (by omega) (by decide) dX3_takesIn_126 (fun τ12 τ12e => ?_)
                      have τ12r : τ12 1 ((0 + (24 * s)) + k) = σ 11 ((i + 1) + k) := by rw [τ12e]; exact us_s _ _ _ _
                      have τ12f : ∀ (k9 : Nat) (j9 : Int), (k9 ≠ 1 ∨ j9 ≠ ((0 + (24 * s)) + k)) → τ12 k9 j9 = t k9 j9 := fun k9 j9 hh => by rw [τ12e]; exact us_n hh
                      obtain ⟨x13, ex13⟩ : ∃ z9 : Int, z9 = k + 1 := ⟨_, rfl⟩
                      refine g_iinc hΓ dX3_takesIn_127 rfl rfl (lv' := [some (.ref h), some (.int (iI e)), some (.int (iI i)), some (.int (iI s)), some (.int (iI x13))]) (by rw [ex13]; rfl) ?_
                      refine g_goto (tgt := 71) hΓ dX3_takesIn_130 (by decide) ?_
                      exact ih_loop2 x13 τ12 (by omega) (by omega) (by rw [show x13.toNat = k.toNat + 1 by omega, smlF, hS, Bool.true_and, show ((k.toNat : Nat) : Int) = k by omega]; exact decide_eq_true (by omega)) (fun s' h0 h1 => by
                          obtain ⟨z1, z2⟩ := hR s' h0 h1
                          refine ⟨(τ12f 1 _ (Or.inr (by omega))).trans z1, fun j h2 h3 => (τ12f 1 _ (Or.inr (by have := hsm s' h0 h1; omega))).trans (z2 j h2 h3)⟩) ((τ12f 1 _ (Or.inr (by omega))).trans hM) (fun j h0 h1 => by
                          by_cases z : j = k
                          · rw [z, show 24 * s + k = 0 + 24 * s + k by omega, τ12r]
                          · exact (τ12f 1 _ (Or.inr (by omega))).trans (hP j h0 (by omega))) (fun k j hk => ((τ12f k j (Or.inl (fun e => hk (by rw [e]; decide)))).trans (tf k j (fun e => hk ((show ∀ x ∈ [1], x ∈ [1] by decide) k e)))))
                    · refine g_iconst hΓ dX3_takesIn_100 ?_
                      exact m_zret hΓ (by omega) dX3_takesIn_101 ⟨ri (by rw [if_neg (fun q => by
                          have hd : ¬ tkC (σ 11) e i := fun c => by
                            have z := smlF_at c.2.2.2 (k := k) (by omega) (by omega)
                            (try simp only at z)
                            omega
                          exact hdead hd q)]), (fun q => by
                          have hd : ¬ tkC (σ 11) e i := fun c => by
                            have z := smlF_at c.2.2.2 (k := k) (by omega) (by omega)
                            (try simp only at z)
                            omega
                          exact (hdead hd q).elim), (fun k j hk => (tf k j (fun e => hk ((show ∀ x ∈ [1], x ∈ [1] by decide) k e))))⟩
              exact loop2 25 0 τ7 (by omega) (by omega) rfl (fun s' h0 h1 => by
                  obtain ⟨z1, z2⟩ := hR s' h0 h1
                  exact ⟨(τ7f 1 _ (Or.inr (by omega))).trans z1, fun j h2 h3 => (τ7f 1 _ (Or.inr (by have := hsm s' h0 h1; omega))).trans (z2 j h2 h3)⟩) τ7r (fun j h0 h1 => absurd h1 (by omega)) (fun k j hk => ((τ7f k j (Or.inl (fun e => hk (by rw [e]; decide)))).trans (tf k j (fun e => hk ((show ∀ x ∈ [1], x ∈ [1] by decide) k e)))))
            · refine g_iconst hΓ dX3_takesIn_50 ?_
              exact m_zret hΓ (by omega) dX3_takesIn_51 ⟨ri (by rw [if_neg (fun q => hdead (fun c => by omega) q)]), (fun q => (hdead (fun c => by omega) q).elim), (fun k j hk => (tf k j (fun e => hk ((show ∀ x ∈ [1], x ∈ [1] by decide) k e))))⟩
  exact loop 257 1 0 σ (by omega) (by omega) rfl (fun s' h0 h1 => absurd h1 (by omega)) (fun s' h0 h1 => absurd h1 (by omega)) (fun k j _ => rfl)
