set_option maxRecDepth 100000
set_option maxHeartbeats 4000000 in
theorem m_elasticOf {l : Launch} {E : gE} {h : Nat} {ad : Nat → Nat} (hok : mOK E h ad) (σ : mS)  (a : Int) (b : Int) (k : Int) (w : Int) (ha : 0 ≤ a ∧ a < 104) (hb : 0 ≤ b ∧ b < 104) (hk : k = 0 ∨ k = 1) (hw : 0 ≤ w ∧ w ≤ 16) (he : 4 ≤ σ 0 1042 ∧ σ 0 1042 ≤ 16) (hla : ∀ j, 0 ≤ j → j < σ 0 1042 → σ 22 (16 * a + j) = cds σ a j) (hlb : ∀ j, 0 ≤ j → j < σ 0 1042 → σ 22 (16 * b + j) = cds σ b j) : mC l E h ad yX3_elasticOf cX3_elasticOf 9 (some .int) 2 [.ref h, .int (iI a), .int (iI b), .int (iI k), .int (iI w)] σ (fun rv σ' => rv = some (.int (iI (els σ a b k w))) ∧ (∀ i j, 0 ≤ i → i < σ 0 1042 → 0 ≤ j → j < σ 0 1042 → σ' 23 (16 * i + j) = elT (csd σ a b k) (σ 0 1042) w i j) ∧ ∀ (k : Nat) (j : Int), k ∉ [23] → σ' k j = σ k j) := by
  refine mC.of (by decide) [some (.ref h), some (.int (iI a)), some (.int (iI b)), some (.int (iI k)), some (.int (iI w)), none, none, none, none] (Nat.le_of_ble_eq_true rfl) rfl rfl (fun Γ hΓ => ?_)
  refine g_aload_n hΓ rfl dX3_elasticOf_0 ?_
  refine m_geta hok hΓ 0 (by decide) rfl rfl q1357 rfl dX3_elasticOf_1 ?_
  refine g_sipush hΓ (by decide) dX3_elasticOf_4 ?_
  refine m_ald hok hΓ 0 (by decide) rfl (n := 1048) rfl (by omega) (by decide) dX3_elasticOf_7 ?_
  refine g_iconst hΓ dX3_elasticOf_8 ?_
  refine g_isub hΓ dX3_elasticOf_9 ?_
  obtain ⟨x1, ex1⟩ : ∃ z9 : Int, z9 = (σ 0 1042) - 1 := ⟨_, rfl⟩
  refine g_topi ex1.symm ?_
  refine g_istore hΓ dX3_elasticOf_10 rfl (Nat.le_of_ble_eq_true rfl) (lv' := [some (.ref h), some (.int (iI a)), some (.int (iI b)), some (.int (iI k)), some (.int (iI w)), some (.int (iI x1)), none, none, none]) rfl ?_
  refine g_iload hΓ rfl dX3_elasticOf_12 ?_
  refine g_istore hΓ dX3_elasticOf_14 rfl (Nat.le_of_ble_eq_true rfl) (lv' := [some (.ref h), some (.int (iI a)), some (.int (iI b)), some (.int (iI k)), some (.int (iI w)), some (.int (iI x1)), some (.int (iI x1)), none, none]) rfl ?_
  have loop : ∀ (fu : Nat) (i : Int) (t : mS), (i + 1).toNat < fu → (-1 ≤ i ∧ i < σ 0 1042) → (∀ i' j', i < i' → i' < σ 0 1042 → 0 ≤ j' → j' < σ 0 1042 → t 23 (16 * i' + j') = elT (csd σ a b k) (σ 0 1042) w i' j') → (∀ (k : Nat) (j : Int), k ∉ [23] → t k j = σ k j) → gW Γ E (mM E h ad t) 0 0 16 [some (.ref h), some (.int (iI a)), some (.int (iI b)), some (.int (iI k)), some (.int (iI w)), some (.int (iI x1)), some (.int (iI i)), none, none] [] := by
    intro fu
    induction fu with
    | zero => intro i t hn; exact absurd hn (Nat.not_lt_zero _)
    | succ fu ih_loop =>
      intro i t hn hi hT tf
      refine g_iload hΓ rfl dX3_elasticOf_16 ?_
      refine g_if_lt (tgt := 162) hΓ (by omega) dX3_elasticOf_18 (by decide) (fun c2 => ?_) (fun c2 => ?_)
      · refine g_aload_n hΓ rfl dX3_elasticOf_162 ?_
        refine m_geta hok hΓ 23 (by decide) rfl rfl q1380 rfl dX3_elasticOf_163 ?_
        refine g_iconst hΓ dX3_elasticOf_166 ?_
        refine m_ald hok hΓ 23 (by decide) rfl (n := 256) rfl (by omega) (by decide) dX3_elasticOf_167 ?_
        exact m_iret hΓ dX3_elasticOf_168 ⟨ri (by rw [els, ← hT 0 0 (by omega) (by omega) (by omega) (by omega)]; rfl), fun i' j' h1 h2 h3 h4 => hT i' j' (by omega) h2 h3 h4, tf⟩
      · refine g_iload hΓ rfl dX3_elasticOf_21 ?_
        refine g_istore hΓ dX3_elasticOf_23 rfl (Nat.le_of_ble_eq_true rfl) (lv' := [some (.ref h), some (.int (iI a)), some (.int (iI b)), some (.int (iI k)), some (.int (iI w)), some (.int (iI x1)), some (.int (iI i)), some (.int (iI x1)), none]) rfl ?_
        have loop2 : ∀ (fu : Nat) (j : Int) (t : mS), (j + 1).toNat < fu → (-1 ≤ j ∧ j < σ 0 1042) → (∀ i' j', i < i' → i' < σ 0 1042 → 0 ≤ j' → j' < σ 0 1042 → t 23 (16 * i' + j') = elT (csd σ a b k) (σ 0 1042) w i' j') → (∀ j', j < j' → j' < σ 0 1042 → t 23 (16 * i + j') = elT (csd σ a b k) (σ 0 1042) w i j') → (∀ (k : Nat) (j : Int), k ∉ [23] → t k j = σ k j) → gW Γ E (mM E h ad t) 0 0 25 [some (.ref h), some (.int (iI a)), some (.int (iI b)), some (.int (iI k)), some (.int (iI w)), some (.int (iI x1)), some (.int (iI i)), some (.int (iI j)), none] [] := by
          intro fu
          induction fu with
          | zero => intro j t hn; exact absurd hn (Nat.not_lt_zero _)
          | succ fu ih_loop2 =>
            intro j t hn hj hT hR tf
            have t0 : t 0 = σ 0 := funext fun j => tf 0 j (by decide)
            have t7 : t 7 = σ 7 := funext fun j => tf 7 j (by decide)
            have t8 : t 8 = σ 8 := funext fun j => tf 8 j (by decide)
            have tn := np_same t0 t8
            have tu := nu_same t0 t7
            have tc := cds_same t0 t7 t8
            have tb := cdb_same t0 t7 t8
            have te := els_same t0 t7 t8
            have hcr := csd_r σ a b k
            refine g_iload hΓ rfl dX3_elasticOf_25 ?_
            refine g_if_lt (tgt := 156) hΓ (by omega) dX3_elasticOf_27 (by decide) (fun c3 => ?_) (fun c3 => ?_)
            · obtain ⟨x4, ex4⟩ : ∃ z9 : Int, z9 = i + (-1) := ⟨_, rfl⟩
              refine g_iinc hΓ dX3_elasticOf_156 rfl rfl (lv' := [some (.ref h), some (.int (iI a)), some (.int (iI b)), some (.int (iI k)), some (.int (iI w)), some (.int (iI x1)), some (.int (iI x4)), some (.int (iI j)), none]) (by rw [ex4]; rfl) ?_
              refine g_goto (tgt := 16) hΓ dX3_elasticOf_159 (by decide) ?_
              refine g_lvw (lv' := [some (.ref h), some (.int (iI a)), some (.int (iI b)), some (.int (iI k)), some (.int (iI w)), some (.int (iI x1)), some (.int (iI x4)), none, none]) ⟨rfl, ⟨rfl, ⟨rfl, ⟨rfl, ⟨rfl, ⟨rfl, ⟨rfl, trivial⟩⟩⟩⟩⟩⟩⟩ ?_
              exact ih_loop x4 t (by omega) (by omega) (fun i' j' h1 h2 h3 h4 => by
                  by_cases q : i' = i
                  · subst q
                    exact hR j' (by omega) h4
                  · exact hT i' j' (by omega) h2 h3 h4) tf
            · have hE := elT_eq (csd σ a b k) (σ 0 1042) w (i := i) (j := j) (by omega) (by omega)
              have g1 := rsE_r (e := σ 0 1042) (w := w) (i := i + 1) (j := j + 1) hcr
              have g2 := rsE_r (e := σ 0 1042) (w := w) (i := i + 1) (j := j) hcr
              have g3 := rsE_r (e := σ 0 1042) (w := w) (i := i) (j := j + 1) hcr
              have k1 : rat t (i + 1) (j + 1) = rsE (csd σ a b k) (σ 0 1042) w (i + 1) (j + 1) := by
                rw [rat, rsE, t0]
                split
                · exact hT _ _ (by omega) (by omega) (by omega) (by omega)
                · rfl
              have k2 : rat t (i + 1) j = rsE (csd σ a b k) (σ 0 1042) w (i + 1) j := by
                rw [rat, rsE, t0]
                split
                · exact hT _ _ (by omega) (by omega) (by omega) (by omega)
                · rfl
              have k3 : rat t i (j + 1) = rsE (csd σ a b k) (σ 0 1042) w i (j + 1) := by
                rw [rat, rsE, t0]
                split
                · exact hR _ (by omega) (by omega)
                · rfl
              have j86 : ∀ (o : Int), (o = (if i = σ 0 1042 - 1 ∧ j = σ 0 1042 - 1 then 0 else min (rsE (csd σ a b k) (σ 0 1042) w (i + 1) (j + 1)) (min (rsE (csd σ a b k) (σ 0 1042) w (i + 1) j) (rsE (csd σ a b k) (σ 0 1042) w i (j + 1))))) → (0 ≤ o ∧ o ≤ 100000003) → gW Γ E (mM E h ad t) 0 0 86 [some (.ref h), some (.int (iI a)), some (.int (iI b)), some (.int (iI k)), some (.int (iI w)), some (.int (iI x1)), some (.int (iI i)), some (.int (iI j)), none] [.int (iI o)] := by
                intro o ho hor
                refine g_istore hΓ dX3_elasticOf_86 rfl (Nat.le_of_ble_eq_true rfl) (lv' := [some (.ref h), some (.int (iI a)), some (.int (iI b)), some (.int (iI k)), some (.int (iI w)), some (.int (iI x1)), some (.int (iI i)), some (.int (iI j)), some (.int (iI o))]) rfl ?_
                refine g_aload_n hΓ rfl dX3_elasticOf_88 ?_
                refine m_geta hok hΓ 23 (by decide) rfl rfl q1380 rfl dX3_elasticOf_89 ?_
                refine g_bipush hΓ (by decide) dX3_elasticOf_92 ?_
                refine g_iload hΓ rfl dX3_elasticOf_94 ?_
                refine g_imul hΓ dX3_elasticOf_96 ?_
                refine g_iload hΓ rfl dX3_elasticOf_97 ?_
                refine g_iadd hΓ dX3_elasticOf_99 ?_
                refine g_iload hΓ rfl dX3_elasticOf_100 ?_
                refine g_iload hΓ rfl dX3_elasticOf_102 ?_
                refine g_isub hΓ dX3_elasticOf_104 ?_
                refine m_callS (As := [.int (iI (i - j))]) (rest := [.int (iI ((16 * i) + j)), .ref (ad 23)]) hok hΓ (m_plain hok t (i - j) (by first | assumption | omega)) rfl q1664 q1665 q131 q1666 ndX3_plain rfl (by decide) (by decide) rfl (Nat.le_of_ble_eq_true rfl) dX3_elasticOf_105 rfl (fun v5 τ5 τ5h => ?_)
                obtain ⟨rfl, τ5h⟩ := τ5h
                rw [τ5h]
                clear τ5h
                show gW Γ E (mM E h ad t) 0 0 _ _ (.int (iI (if (i - j) < 0 then -(i - j) else (i - j))) :: _)
                refine g_iload hΓ rfl dX3_elasticOf_108 ?_
                refine g_icmp_gt (tgt := 121) hΓ (by first | omega | (have q1 := cdb_r σ a i 0; have q2 := cdb_r σ b j k; omega) | (refine ⟨?_, ?_⟩ <;> split <;> omega)) (by first | omega | (have q1 := cdb_r σ a i 0; have q2 := cdb_r σ b j k; omega) | (refine ⟨?_, ?_⟩ <;> split <;> omega)) dX3_elasticOf_110 (by decide) (fun c6 => ?_) (fun c6 => ?_)
                · refine g_ldcw (n := 100000000) hΓ rfl q1716 (by decide) dX3_elasticOf_121 ?_
                  refine g_goto (tgt := 149) hΓ dX3_elasticOf_124 (by decide) ?_
                  refine m_ast hok hΓ 23 (by decide) rfl (n := 256) rfl (by omega) (by decide) dX3_elasticOf_149 (fun τ7 τ7e => ?_)
                  have τ7r : τ7 23 ((16 * i) + j) = 100000000 := by rw [τ7e]; exact us_s _ _ _ _
                  have τ7f : ∀ (k9 : Nat) (j9 : Int), (k9 ≠ 23 ∨ j9 ≠ ((16 * i) + j)) → τ7 k9 j9 = t k9 j9 := fun k9 j9 hh => by rw [τ7e]; exact us_n hh
                  obtain ⟨x8, ex8⟩ : ∃ z9 : Int, z9 = j + (-1) := ⟨_, rfl⟩
                  refine g_iinc hΓ dX3_elasticOf_150 rfl rfl (lv' := [some (.ref h), some (.int (iI a)), some (.int (iI b)), some (.int (iI k)), some (.int (iI w)), some (.int (iI x1)), some (.int (iI i)), some (.int (iI x8)), some (.int (iI o))]) (by rw [ex8]; rfl) ?_
                  refine g_goto (tgt := 25) hΓ dX3_elasticOf_153 (by decide) ?_
                  refine g_lvw (lv' := [some (.ref h), some (.int (iI a)), some (.int (iI b)), some (.int (iI k)), some (.int (iI w)), some (.int (iI x1)), some (.int (iI i)), some (.int (iI x8)), none]) ⟨rfl, ⟨rfl, ⟨rfl, ⟨rfl, ⟨rfl, ⟨rfl, ⟨rfl, ⟨rfl, trivial⟩⟩⟩⟩⟩⟩⟩⟩ ?_
                  exact ih_loop2 x8 τ7 (by omega) (by omega) (fun i' j' h1 h2 h3 h4 => (τ7f 23 _ (Or.inr (by omega))).trans (hT i' j' h1 h2 h3 h4)) (fun j' h1 h2 => by
                      by_cases q : j' = j
                      · subst q
                        rw [τ7r, hE, ← ho, elV]
                        first | rw [if_pos (by omega)] | (rw [if_neg (by omega)]; rfl)
                      · exact (τ7f 23 _ (Or.inr (by omega))).trans (hR j' (by omega) h2)) (fun k' j' hk' => (τ7f k' j' (Or.inl (fun e => hk' (by rw [e]; decide)))).trans (tf k' j' hk'))
                · refine g_iload hΓ rfl dX3_elasticOf_113 ?_
                  refine g_ldcw (n := 100000000) hΓ rfl q1716 (by decide) dX3_elasticOf_115 ?_
                  refine g_icmp_lt (tgt := 127) hΓ (by first | omega | (have q1 := cdb_r σ a i 0; have q2 := cdb_r σ b j k; omega) | (refine ⟨?_, ?_⟩ <;> split <;> omega)) (by first | omega | (have q1 := cdb_r σ a i 0; have q2 := cdb_r σ b j k; omega) | (refine ⟨?_, ?_⟩ <;> split <;> omega)) dX3_elasticOf_118 (by decide) (fun c9 => ?_) (fun c9 => ?_)
                  · have q1 := cdb_r σ a i 0
                    have q2 := cdb_r σ b j k
                    refine g_iload hΓ rfl dX3_elasticOf_127 ?_
                    refine g_aload_n hΓ rfl dX3_elasticOf_129 ?_
                    refine g_iload_n hΓ rfl dX3_elasticOf_130 ?_
                    refine g_iload hΓ rfl dX3_elasticOf_131 ?_
                    refine g_iconst hΓ dX3_elasticOf_133 ?_
                    refine m_callV (As := [.int (iI a), .int (iI i), .int (iI 0)]) (rest := [.int (iI o), .int (iI ((16 * i) + j)), .ref (ad 23)]) hok hΓ (m_codeAt hok t a i 0 (by first | assumption | omega | (simp only [tn, tu, t0, tc, tb, te]; first | assumption | omega) | (intro j h1 h2; simp only [t0, tc] at h1 h2 ⊢; rw [tf 22 _ (by decide)]; first | exact hla j h1 h2 | exact hlb j h1 h2)) (by first | assumption | omega | (simp only [tn, tu, t0, tc, tb, te]; first | assumption | omega) | (intro j h1 h2; simp only [t0, tc] at h1 h2 ⊢; rw [tf 22 _ (by decide)]; first | exact hla j h1 h2 | exact hlb j h1 h2)) (by first | assumption | omega | (simp only [tn, tu, t0, tc, tb, te]; first | assumption | omega) | (intro j h1 h2; simp only [t0, tc] at h1 h2 ⊢; rw [tf 22 _ (by decide)]; first | exact hla j h1 h2 | exact hlb j h1 h2)) (by first | assumption | omega | (simp only [tn, tu, t0, tc, tb, te]; first | assumption | omega) | (intro j h1 h2; simp only [t0, tc] at h1 h2 ⊢; rw [tf 22 _ (by decide)]; first | exact hla j h1 h2 | exact hlb j h1 h2)) (by first | assumption | omega | (simp only [tn, tu, t0, tc, tb, te]; first | assumption | omega) | (intro j h1 h2; simp only [t0, tc] at h1 h2 ⊢; rw [tf 22 _ (by decide)]; first | exact hla j h1 h2 | exact hlb j h1 h2))) rfl q1717 q1719 qs93 q131 q1720 ndX3_codeAt rfl (by decide) (by decide) rfl rfl (Nat.le_of_ble_eq_true rfl) dX3_elasticOf_134 rfl (fun v10 τ10 τ10h => ?_)
                    obtain ⟨rfl, τ10h⟩ := τ10h
                    rw [τ10h]
                    clear τ10h
                    show gW Γ E (mM E h ad t) 0 0 _ _ (.int (iI (cdb t a i 0)) :: _)
                    refine g_topi (show (cdb t a i 0 : Int) = (cdb σ a i 0) by simp only [tn, tu, t0, tc, tb, te]) ?_
                    refine g_aload_n hΓ rfl dX3_elasticOf_137 ?_
                    refine g_iload_n hΓ rfl dX3_elasticOf_138 ?_
                    refine g_iload hΓ rfl dX3_elasticOf_139 ?_
                    refine g_iload_n hΓ rfl dX3_elasticOf_141 ?_
                    refine m_callV (As := [.int (iI b), .int (iI j), .int (iI k)]) (rest := [.int (iI (cdb σ a i 0)), .int (iI o), .int (iI ((16 * i) + j)), .ref (ad 23)]) hok hΓ (m_codeAt hok t b j k (by first | assumption | omega | (simp only [tn, tu, t0, tc, tb, te]; first | assumption | omega) | (intro j h1 h2; simp only [t0, tc] at h1 h2 ⊢; rw [tf 22 _ (by decide)]; first | exact hla j h1 h2 | exact hlb j h1 h2)) (by first | assumption | omega | (simp only [tn, tu, t0, tc, tb, te]; first | assumption | omega) | (intro j h1 h2; simp only [t0, tc] at h1 h2 ⊢; rw [tf 22 _ (by decide)]; first | exact hla j h1 h2 | exact hlb j h1 h2)) (by first | assumption | omega | (simp only [tn, tu, t0, tc, tb, te]; first | assumption | omega) | (intro j h1 h2; simp only [t0, tc] at h1 h2 ⊢; rw [tf 22 _ (by decide)]; first | exact hla j h1 h2 | exact hlb j h1 h2)) (by first | assumption | omega | (simp only [tn, tu, t0, tc, tb, te]; first | assumption | omega) | (intro j h1 h2; simp only [t0, tc] at h1 h2 ⊢; rw [tf 22 _ (by decide)]; first | exact hla j h1 h2 | exact hlb j h1 h2)) (by first | assumption | omega | (simp only [tn, tu, t0, tc, tb, te]; first | assumption | omega) | (intro j h1 h2; simp only [t0, tc] at h1 h2 ⊢; rw [tf 22 _ (by decide)]; first | exact hla j h1 h2 | exact hlb j h1 h2))) rfl q1717 q1719 qs93 q131 q1720 ndX3_codeAt rfl (by decide) (by decide) rfl rfl (Nat.le_of_ble_eq_true rfl) dX3_elasticOf_142 rfl (fun v11 τ11 τ11h => ?_)
                    obtain ⟨rfl, τ11h⟩ := τ11h
                    rw [τ11h]
                    clear τ11h
                    show gW Γ E (mM E h ad t) 0 0 _ _ (.int (iI (cdb t b j k)) :: _)
                    refine g_topi (show (cdb t b j k : Int) = (cdb σ b j k) by simp only [tn, tu, t0, tc, tb, te]) ?_
                    refine m_callS (As := [.int (iI (cdb σ a i 0)), .int (iI (cdb σ b j k))]) (rest := [.int (iI o), .int (iI ((16 * i) + j)), .ref (ad 23)]) hok hΓ (m_apart hok t (cdb σ a i 0) (cdb σ b j k) (by first | assumption | omega) (by first | assumption | omega)) rfl q1671 q1672 q131 q1673 ndX3_apart rfl (by decide) (by decide) rfl (Nat.le_of_ble_eq_true rfl) dX3_elasticOf_145 rfl (fun v12 τ12 τ12h => ?_)
                    obtain ⟨rfl, τ12h⟩ := τ12h
                    rw [τ12h]
                    clear τ12h
                    show gW Γ E (mM E h ad t) 0 0 _ _ (.int (iI (apt (cdb σ a i 0) (cdb σ b j k))) :: _)
                    refine g_iadd hΓ dX3_elasticOf_148 ?_
                    refine m_ast hok hΓ 23 (by decide) rfl (n := 256) rfl (by omega) (by decide) dX3_elasticOf_149 (fun τ13 τ13e => ?_)
                    have τ13r : τ13 23 ((16 * i) + j) = o + (apt (cdb σ a i 0) (cdb σ b j k)) := by rw [τ13e]; exact us_s _ _ _ _
                    have τ13f : ∀ (k9 : Nat) (j9 : Int), (k9 ≠ 23 ∨ j9 ≠ ((16 * i) + j)) → τ13 k9 j9 = t k9 j9 := fun k9 j9 hh => by rw [τ13e]; exact us_n hh
                    obtain ⟨x14, ex14⟩ : ∃ z9 : Int, z9 = j + (-1) := ⟨_, rfl⟩
                    refine g_iinc hΓ dX3_elasticOf_150 rfl rfl (lv' := [some (.ref h), some (.int (iI a)), some (.int (iI b)), some (.int (iI k)), some (.int (iI w)), some (.int (iI x1)), some (.int (iI i)), some (.int (iI x14)), some (.int (iI o))]) (by rw [ex14]; rfl) ?_
                    refine g_goto (tgt := 25) hΓ dX3_elasticOf_153 (by decide) ?_
                    refine g_lvw (lv' := [some (.ref h), some (.int (iI a)), some (.int (iI b)), some (.int (iI k)), some (.int (iI w)), some (.int (iI x1)), some (.int (iI i)), some (.int (iI x14)), none]) ⟨rfl, ⟨rfl, ⟨rfl, ⟨rfl, ⟨rfl, ⟨rfl, ⟨rfl, ⟨rfl, trivial⟩⟩⟩⟩⟩⟩⟩⟩ ?_
                    exact ih_loop2 x14 τ13 (by omega) (by omega) (fun i' j' h1 h2 h3 h4 => (τ13f 23 _ (Or.inr (by omega))).trans (hT i' j' h1 h2 h3 h4)) (fun j' h1 h2 => by
                        by_cases q : j' = j
                        · subst q
                          rw [τ13r, hE, ← ho, elV]
                          first | rw [if_pos (by omega)] | (rw [if_neg (by omega)]; rfl)
                        · exact (τ13f 23 _ (Or.inr (by omega))).trans (hR j' (by omega) h2)) (fun k' j' hk' => (τ13f k' j' (Or.inl (fun e => hk' (by rw [e]; decide)))).trans (tf k' j' hk'))
                  · refine g_ldcw (n := 100000000) hΓ rfl q1716 (by decide) dX3_elasticOf_121 ?_
                    refine g_goto (tgt := 149) hΓ dX3_elasticOf_124 (by decide) ?_
                    refine m_ast hok hΓ 23 (by decide) rfl (n := 256) rfl (by omega) (by decide) dX3_elasticOf_149 (fun τ15 τ15e => ?_)
                    have τ15r : τ15 23 ((16 * i) + j) = 100000000 := by rw [τ15e]; exact us_s _ _ _ _
                    have τ15f : ∀ (k9 : Nat) (j9 : Int), (k9 ≠ 23 ∨ j9 ≠ ((16 * i) + j)) → τ15 k9 j9 = t k9 j9 := fun k9 j9 hh => by rw [τ15e]; exact us_n hh
                    obtain ⟨x16, ex16⟩ : ∃ z9 : Int, z9 = j + (-1) := ⟨_, rfl⟩
                    refine g_iinc hΓ dX3_elasticOf_150 rfl rfl (lv' := [some (.ref h), some (.int (iI a)), some (.int (iI b)), some (.int (iI k)), some (.int (iI w)), some (.int (iI x1)), some (.int (iI i)), some (.int (iI x16)), some (.int (iI o))]) (by rw [ex16]; rfl) ?_
                    refine g_goto (tgt := 25) hΓ dX3_elasticOf_153 (by decide) ?_
                    refine g_lvw (lv' := [some (.ref h), some (.int (iI a)), some (.int (iI b)), some (.int (iI k)), some (.int (iI w)), some (.int (iI x1)), some (.int (iI i)), some (.int (iI x16)), none]) ⟨rfl, ⟨rfl, ⟨rfl, ⟨rfl, ⟨rfl, ⟨rfl, ⟨rfl, ⟨rfl, trivial⟩⟩⟩⟩⟩⟩⟩⟩ ?_
                    exact ih_loop2 x16 τ15 (by omega) (by omega) (fun i' j' h1 h2 h3 h4 => (τ15f 23 _ (Or.inr (by omega))).trans (hT i' j' h1 h2 h3 h4)) (fun j' h1 h2 => by
                        by_cases q : j' = j
                        · subst q
                          rw [τ15r, hE, ← ho, elV]
                          first | rw [if_pos (by omega)] | (rw [if_neg (by omega)]; rfl)
                        · exact (τ15f 23 _ (Or.inr (by omega))).trans (hR j' (by omega) h2)) (fun k' j' hk' => (τ15f k' j' (Or.inl (fun e => hk' (by rw [e]; decide)))).trans (tf k' j' hk'))
              refine g_iload hΓ rfl dX3_elasticOf_30 ?_
              refine g_iload hΓ rfl dX3_elasticOf_32 ?_
              refine g_icmp_ne (tgt := 48) hΓ (by omega) (by omega) dX3_elasticOf_34 (by decide) (fun c17 => ?_) (fun c17 => ?_)
              · refine g_aload_n hΓ rfl dX3_elasticOf_48 ?_
                refine g_iload hΓ rfl dX3_elasticOf_49 ?_
                refine g_iconst hΓ dX3_elasticOf_51 ?_
                refine g_iadd hΓ dX3_elasticOf_52 ?_
                refine g_iload hΓ rfl dX3_elasticOf_53 ?_
                refine g_iconst hΓ dX3_elasticOf_55 ?_
                refine g_iadd hΓ dX3_elasticOf_56 ?_
                refine m_callV (As := [.int (iI (i + 1)), .int (iI (j + 1))]) (rest := []) hok hΓ (m_restAt hok t (i + 1) (j + 1) (by first | assumption | omega | (simp only [tn, tu, t0, tc, tb, te]; first | assumption | omega) | (intro j h1 h2; simp only [t0, tc] at h1 h2 ⊢; rw [tf 22 _ (by decide)]; first | exact hla j h1 h2 | exact hlb j h1 h2)) (by first | assumption | omega | (simp only [tn, tu, t0, tc, tb, te]; first | assumption | omega) | (intro j h1 h2; simp only [t0, tc] at h1 h2 ⊢; rw [tf 22 _ (by decide)]; first | exact hla j h1 h2 | exact hlb j h1 h2)) (by first | assumption | omega | (simp only [tn, tu, t0, tc, tb, te]; first | assumption | omega) | (intro j h1 h2; simp only [t0, tc] at h1 h2 ⊢; rw [tf 22 _ (by decide)]; first | exact hla j h1 h2 | exact hlb j h1 h2))) rfl q1712 q1714 qs92 q131 q1715 ndX3_restAt rfl (by decide) (by decide) rfl rfl (Nat.le_of_ble_eq_true rfl) dX3_elasticOf_57 rfl (fun v18 τ18 τ18h => ?_)
                obtain ⟨rfl, τ18h⟩ := τ18h
                rw [τ18h]
                clear τ18h
                show gW Γ E (mM E h ad t) 0 0 _ _ (.int (iI (rat t (i + 1) (j + 1))) :: _)
                refine g_aload_n hΓ rfl dX3_elasticOf_60 ?_
                refine g_iload hΓ rfl dX3_elasticOf_61 ?_
                refine g_iconst hΓ dX3_elasticOf_63 ?_
                refine g_iadd hΓ dX3_elasticOf_64 ?_
                refine g_iload hΓ rfl dX3_elasticOf_65 ?_
                refine m_callV (As := [.int (iI (i + 1)), .int (iI j)]) (rest := [.int (iI (rat t (i + 1) (j + 1)))]) hok hΓ (m_restAt hok t (i + 1) j (by first | assumption | omega | (simp only [tn, tu, t0, tc, tb, te]; first | assumption | omega) | (intro j h1 h2; simp only [t0, tc] at h1 h2 ⊢; rw [tf 22 _ (by decide)]; first | exact hla j h1 h2 | exact hlb j h1 h2)) (by first | assumption | omega | (simp only [tn, tu, t0, tc, tb, te]; first | assumption | omega) | (intro j h1 h2; simp only [t0, tc] at h1 h2 ⊢; rw [tf 22 _ (by decide)]; first | exact hla j h1 h2 | exact hlb j h1 h2)) (by first | assumption | omega | (simp only [tn, tu, t0, tc, tb, te]; first | assumption | omega) | (intro j h1 h2; simp only [t0, tc] at h1 h2 ⊢; rw [tf 22 _ (by decide)]; first | exact hla j h1 h2 | exact hlb j h1 h2))) rfl q1712 q1714 qs92 q131 q1715 ndX3_restAt rfl (by decide) (by decide) rfl rfl (Nat.le_of_ble_eq_true rfl) dX3_elasticOf_67 rfl (fun v19 τ19 τ19h => ?_)
                obtain ⟨rfl, τ19h⟩ := τ19h
                rw [τ19h]
                clear τ19h
                show gW Γ E (mM E h ad t) 0 0 _ _ (.int (iI (rat t (i + 1) j)) :: _)
                refine g_aload_n hΓ rfl dX3_elasticOf_70 ?_
                refine g_iload hΓ rfl dX3_elasticOf_71 ?_
                refine g_iload hΓ rfl dX3_elasticOf_73 ?_
                refine g_iconst hΓ dX3_elasticOf_75 ?_
                refine g_iadd hΓ dX3_elasticOf_76 ?_
                refine m_callV (As := [.int (iI i), .int (iI (j + 1))]) (rest := [.int (iI (rat t (i + 1) j)), .int (iI (rat t (i + 1) (j + 1)))]) hok hΓ (m_restAt hok t i (j + 1) (by first | assumption | omega | (simp only [tn, tu, t0, tc, tb, te]; first | assumption | omega) | (intro j h1 h2; simp only [t0, tc] at h1 h2 ⊢; rw [tf 22 _ (by decide)]; first | exact hla j h1 h2 | exact hlb j h1 h2)) (by first | assumption | omega | (simp only [tn, tu, t0, tc, tb, te]; first | assumption | omega) | (intro j h1 h2; simp only [t0, tc] at h1 h2 ⊢; rw [tf 22 _ (by decide)]; first | exact hla j h1 h2 | exact hlb j h1 h2)) (by first | assumption | omega | (simp only [tn, tu, t0, tc, tb, te]; first | assumption | omega) | (intro j h1 h2; simp only [t0, tc] at h1 h2 ⊢; rw [tf 22 _ (by decide)]; first | exact hla j h1 h2 | exact hlb j h1 h2))) rfl q1712 q1714 qs92 q131 q1715 ndX3_restAt rfl (by decide) (by decide) rfl rfl (Nat.le_of_ble_eq_true rfl) dX3_elasticOf_77 rfl (fun v20 τ20 τ20h => ?_)
                obtain ⟨rfl, τ20h⟩ := τ20h
                rw [τ20h]
                clear τ20h
                show gW Γ E (mM E h ad t) 0 0 _ _ (.int (iI (rat t i (j + 1))) :: _)
                refine m_callS (As := [.int (iI (rat t (i + 1) j)), .int (iI (rat t i (j + 1)))]) (rest := [.int (iI (rat t (i + 1) (j + 1)))]) hok hΓ (m_lesser hok t (rat t (i + 1) j) (rat t i (j + 1)) (by omega) (by omega)) rfl q1674 q1675 q131 q1676 ndX3_lesser rfl (by decide) (by decide) rfl (Nat.le_of_ble_eq_true rfl) dX3_elasticOf_80 rfl (fun v21 τ21 τ21h => ?_)
                obtain ⟨rfl, τ21h⟩ := τ21h
                rw [τ21h]
                clear τ21h
                show gW Γ E (mM E h ad t) 0 0 _ _ (.int (iI (min (rat t (i + 1) j) (rat t i (j + 1)))) :: _)
                refine m_callS (As := [.int (iI (rat t (i + 1) (j + 1))), .int (iI (min (rat t (i + 1) j) (rat t i (j + 1))))]) (rest := []) hok hΓ (m_lesser hok t (rat t (i + 1) (j + 1)) (min (rat t (i + 1) j) (rat t i (j + 1))) (by omega) (by omega)) rfl q1674 q1675 q131 q1676 ndX3_lesser rfl (by decide) (by decide) rfl (Nat.le_of_ble_eq_true rfl) dX3_elasticOf_83 rfl (fun v22 τ22 τ22h => ?_)
                obtain ⟨rfl, τ22h⟩ := τ22h
                rw [τ22h]
                clear τ22h
                show gW Γ E (mM E h ad t) 0 0 _ _ (.int (iI (min (rat t (i + 1) (j + 1)) (min (rat t (i + 1) j) (rat t i (j + 1))))) :: _)
                exact j86 _ (by first | (rw [if_pos (by omega)]; done) | (rw [if_neg (by omega), ← k1, ← k2, ← k3])) (by omega)
              · refine g_iload hΓ rfl dX3_elasticOf_37 ?_
                refine g_iload hΓ rfl dX3_elasticOf_39 ?_
                refine g_icmp_ne (tgt := 48) hΓ (by omega) (by omega) dX3_elasticOf_41 (by decide) (fun c23 => ?_) (fun c23 => ?_)
                · refine g_aload_n hΓ rfl dX3_elasticOf_48 ?_
                  refine g_iload hΓ rfl dX3_elasticOf_49 ?_
                  refine g_iconst hΓ dX3_elasticOf_51 ?_
                  refine g_iadd hΓ dX3_elasticOf_52 ?_
                  refine g_iload hΓ rfl dX3_elasticOf_53 ?_
                  refine g_iconst hΓ dX3_elasticOf_55 ?_
                  refine g_iadd hΓ dX3_elasticOf_56 ?_
                  refine m_callV (As := [.int (iI (i + 1)), .int (iI (j + 1))]) (rest := []) hok hΓ (m_restAt hok t (i + 1) (j + 1) (by first | assumption | omega | (simp only [tn, tu, t0, tc, tb, te]; first | assumption | omega) | (intro j h1 h2; simp only [t0, tc] at h1 h2 ⊢; rw [tf 22 _ (by decide)]; first | exact hla j h1 h2 | exact hlb j h1 h2)) (by first | assumption | omega | (simp only [tn, tu, t0, tc, tb, te]; first | assumption | omega) | (intro j h1 h2; simp only [t0, tc] at h1 h2 ⊢; rw [tf 22 _ (by decide)]; first | exact hla j h1 h2 | exact hlb j h1 h2)) (by first | assumption | omega | (simp only [tn, tu, t0, tc, tb, te]; first | assumption | omega) | (intro j h1 h2; simp only [t0, tc] at h1 h2 ⊢; rw [tf 22 _ (by decide)]; first | exact hla j h1 h2 | exact hlb j h1 h2))) rfl q1712 q1714 qs92 q131 q1715 ndX3_restAt rfl (by decide) (by decide) rfl rfl (Nat.le_of_ble_eq_true rfl) dX3_elasticOf_57 rfl (fun v24 τ24 τ24h => ?_)
                  obtain ⟨rfl, τ24h⟩ := τ24h
                  rw [τ24h]
                  clear τ24h
                  show gW Γ E (mM E h ad t) 0 0 _ _ (.int (iI (rat t (i + 1) (j + 1))) :: _)
                  refine g_aload_n hΓ rfl dX3_elasticOf_60 ?_
                  refine g_iload hΓ rfl dX3_elasticOf_61 ?_
                  refine g_iconst hΓ dX3_elasticOf_63 ?_
                  refine g_iadd hΓ dX3_elasticOf_64 ?_
                  refine g_iload hΓ rfl dX3_elasticOf_65 ?_
                  refine m_callV (As := [.int (iI (i + 1)), .int (iI j)]) (rest := [.int (iI (rat t (i + 1) (j + 1)))]) hok hΓ (m_restAt hok t (i + 1) j (by first | assumption | omega | (simp only [tn, tu, t0, tc, tb, te]; first | assumption | omega) | (intro j h1 h2; simp only [t0, tc] at h1 h2 ⊢; rw [tf 22 _ (by decide)]; first | exact hla j h1 h2 | exact hlb j h1 h2)) (by first | assumption | omega | (simp only [tn, tu, t0, tc, tb, te]; first | assumption | omega) | (intro j h1 h2; simp only [t0, tc] at h1 h2 ⊢; rw [tf 22 _ (by decide)]; first | exact hla j h1 h2 | exact hlb j h1 h2)) (by first | assumption | omega | (simp only [tn, tu, t0, tc, tb, te]; first | assumption | omega) | (intro j h1 h2; simp only [t0, tc] at h1 h2 ⊢; rw [tf 22 _ (by decide)]; first | exact hla j h1 h2 | exact hlb j h1 h2))) rfl q1712 q1714 qs92 q131 q1715 ndX3_restAt rfl (by decide) (by decide) rfl rfl (Nat.le_of_ble_eq_true rfl) dX3_elasticOf_67 rfl (fun v25 τ25 τ25h => ?_)
                  obtain ⟨rfl, τ25h⟩ := τ25h
                  rw [τ25h]
                  clear τ25h
                  show gW Γ E (mM E h ad t) 0 0 _ _ (.int (iI (rat t (i + 1) j)) :: _)
                  refine g_aload_n hΓ rfl dX3_elasticOf_70 ?_
                  refine g_iload hΓ rfl dX3_elasticOf_71 ?_
                  refine g_iload hΓ rfl dX3_elasticOf_73 ?_
                  refine g_iconst hΓ dX3_elasticOf_75 ?_
                  refine g_iadd hΓ dX3_elasticOf_76 ?_
                  refine m_callV (As := [.int (iI i), .int (iI (j + 1))]) (rest := [.int (iI (rat t (i + 1) j)), .int (iI (rat t (i + 1) (j + 1)))]) hok hΓ (m_restAt hok t i (j + 1) (by first | assumption | omega | (simp only [tn, tu, t0, tc, tb, te]; first | assumption | omega) | (intro j h1 h2; simp only [t0, tc] at h1 h2 ⊢; rw [tf 22 _ (by decide)]; first | exact hla j h1 h2 | exact hlb j h1 h2)) (by first | assumption | omega | (simp only [tn, tu, t0, tc, tb, te]; first | assumption | omega) | (intro j h1 h2; simp only [t0, tc] at h1 h2 ⊢; rw [tf 22 _ (by decide)]; first | exact hla j h1 h2 | exact hlb j h1 h2)) (by first | assumption | omega | (simp only [tn, tu, t0, tc, tb, te]; first | assumption | omega) | (intro j h1 h2; simp only [t0, tc] at h1 h2 ⊢; rw [tf 22 _ (by decide)]; first | exact hla j h1 h2 | exact hlb j h1 h2))) rfl q1712 q1714 qs92 q131 q1715 ndX3_restAt rfl (by decide) (by decide) rfl rfl (Nat.le_of_ble_eq_true rfl) dX3_elasticOf_77 rfl (fun v26 τ26 τ26h => ?_)
                  obtain ⟨rfl, τ26h⟩ := τ26h
                  rw [τ26h]
                  clear τ26h
                  show gW Γ E (mM E h ad t) 0 0 _ _ (.int (iI (rat t i (j + 1))) :: _)
                  refine m_callS (As := [.int (iI (rat t (i + 1) j)), .int (iI (rat t i (j + 1)))]) (rest := [.int (iI (rat t (i + 1) (j + 1)))]) hok hΓ (m_lesser hok t (rat t (i + 1) j) (rat t i (j + 1)) (by omega) (by omega)) rfl q1674 q1675 q131 q1676 ndX3_lesser rfl (by decide) (by decide) rfl (Nat.le_of_ble_eq_true rfl) dX3_elasticOf_80 rfl (fun v27 τ27 τ27h => ?_)
                  obtain ⟨rfl, τ27h⟩ := τ27h
                  rw [τ27h]
                  clear τ27h
                  show gW Γ E (mM E h ad t) 0 0 _ _ (.int (iI (min (rat t (i + 1) j) (rat t i (j + 1)))) :: _)
                  refine m_callS (As := [.int (iI (rat t (i + 1) (j + 1))), .int (iI (min (rat t (i + 1) j) (rat t i (j + 1))))]) (rest := []) hok hΓ (m_lesser hok t (rat t (i + 1) (j + 1)) (min (rat t (i + 1) j) (rat t i (j + 1))) (by omega) (by omega)) rfl q1674 q1675 q131 q1676 ndX3_lesser rfl (by decide) (by decide) rfl (Nat.le_of_ble_eq_true rfl) dX3_elasticOf_83 rfl (fun v28 τ28 τ28h => ?_)
                  obtain ⟨rfl, τ28h⟩ := τ28h
                  rw [τ28h]
                  clear τ28h
                  show gW Γ E (mM E h ad t) 0 0 _ _ (.int (iI (min (rat t (i + 1) (j + 1)) (min (rat t (i + 1) j) (rat t i (j + 1))))) :: _)
                  exact j86 _ (by first | (rw [if_pos (by omega)]; done) | (rw [if_neg (by omega), ← k1, ← k2, ← k3])) (by omega)
                · refine g_iconst hΓ dX3_elasticOf_44 ?_
                  refine g_goto (tgt := 86) hΓ dX3_elasticOf_45 (by decide) ?_
                  exact j86 _ (by first | (rw [if_pos (by omega)]; done) | (rw [if_neg (by omega), ← k1, ← k2, ← k3])) (by omega)
        exact loop2 17 x1 t (by omega) (by omega) hT (fun j' h1 h2 => absurd h2 (by omega)) tf
  exact loop 17 x1 σ (by omega) (by omega) (fun i' j' h1 h2 => absurd h2 (by omega)) (fun k j _ => rfl)
set_option maxHeartbeats 4000000 in
theorem m_toldStroke {l : Launch} {E : gE} {h : Nat} {ad : Nat → Nat} (hok : mOK E h ad) (σ : mS)  (n : Int) (hn : r32 n) (hr : rowOK (σ 0)) : mC l E h ad yX3_toldStroke cX3_toldStroke 3 (some .int) 2 [.ref h, .int (iI n)] σ (fun rv σ' => rv = some (.int (iI (tol σ n))) ∧ σ' = σ) := by
  refine mC.of (by decide) [some (.ref h), some (.int (iI n)), none] (Nat.le_of_ble_eq_true rfl) rfl rfl (fun Γ hΓ => ?_)
  obtain ⟨h1000, h1009, h1042, h1043, h1044, h1045, h1046, h1047, hms, hsi, hsm, hnm⟩ := id hr
  refine g_iload_n hΓ rfl dX3_toldStroke_0 ?_
  refine g_iconst hΓ dX3_toldStroke_1 ?_
  refine g_bipush hΓ (by decide) dX3_toldStroke_2 ?_
  refine m_callS (As := [.int (iI n), .int (iI 0), .int (iI 7)]) (rest := []) hok hΓ (m_isIn hok σ n 0 7 (by first | assumption | omega) (by first | assumption | omega) (by first | assumption | omega)) rfl q1549 q1550 q131 q1551 ndX3_isIn rfl (by decide) (by decide) rfl (Nat.le_of_ble_eq_true rfl) dX3_toldStroke_4 rfl (fun v1 τ1 τ1h => ?_)
  obtain ⟨rfl, τ1h⟩ := τ1h
  rw [τ1h]
  clear τ1h
  show gW Γ E (mM E h ad σ) 0 0 _ _ (.int (iI (if 0 ≤ n ∧ n ≤ 7 then 1 else 0)) :: _)
  refine g_ifB_eq (tgt := 28) hΓ  dX3_toldStroke_7 (by decide) (fun c2 => ?_) (fun c2 => ?_)
  · refine g_iload_n hΓ rfl dX3_toldStroke_28 ?_
    refine g_iconst hΓ dX3_toldStroke_29 ?_
    refine g_idiv hΓ (by omega) (by omega) (by omega) dX3_toldStroke_30 ?_
    refine g_iconst hΓ dX3_toldStroke_31 ?_
    refine g_isub hΓ dX3_toldStroke_32 ?_
    obtain ⟨x3, ex3⟩ : ∃ z9 : Int, z9 = (n.tdiv 4) - 2 := ⟨_, rfl⟩
    refine g_topi ex3.symm ?_
    refine g_istore_n hΓ dX3_toldStroke_33 rfl (Nat.le_of_ble_eq_true rfl) (lv' := [some (.ref h), some (.int (iI n)), some (.int (iI x3))]) rfl ?_
    refine g_iload_n hΓ rfl dX3_toldStroke_34 ?_
    refine g_bipush hΓ (by decide) dX3_toldStroke_35 ?_
    refine g_icmp_lt (tgt := 68) hΓ (by omega) (by omega) dX3_toldStroke_37 (by decide) (fun c4 => ?_) (fun c4 => ?_)
    · refine g_iconst hΓ dX3_toldStroke_68 ?_
      exact m_iret hΓ dX3_toldStroke_69 ⟨ri (by first | (rw [tol]; (repeat' split) <;> omega) | (rw [tol, hx3]; (repeat' split) <;> omega)), rfl⟩
    · have htd : n.tdiv 4 = n / 4 := Int.tdiv_eq_ediv_of_nonneg (by omega)
      have hx3 : n / 4 - 2 = x3 := by omega
      refine g_aload_n hΓ rfl dX3_toldStroke_40 ?_
      refine g_iload_n hΓ rfl dX3_toldStroke_41 ?_
      refine m_callV (As := [.int (iI x3)]) (rest := []) hok hΓ (m_isModel hok σ x3 (by first | assumption | omega) (by first | assumption | omega)) rfl q1594 q1596 qs76 q131 q1597 ndX3_isModel rfl (by decide) (by decide) rfl rfl (Nat.le_of_ble_eq_true rfl) dX3_toldStroke_42 rfl (fun v5 τ5 τ5h => ?_)
      obtain ⟨rfl, τ5h⟩ := τ5h
      rw [τ5h]
      clear τ5h
      show gW Γ E (mM E h ad σ) 0 0 _ _ (.int (iI (if 0 ≤ x3 ∧ x3 < σ 0 1000 then 1 else 0)) :: _)
      refine g_ifB_eq (tgt := 68) hΓ  dX3_toldStroke_45 (by decide) (fun c6 => ?_) (fun c6 => ?_)
      · refine g_iconst hΓ dX3_toldStroke_68 ?_
        exact m_iret hΓ dX3_toldStroke_69 ⟨ri (by first | (rw [tol]; (repeat' split) <;> omega) | (rw [tol, hx3]; (repeat' split) <;> omega)), rfl⟩
      · have hmx := hms x3 (by omega) (by omega)
        refine g_iload_n hΓ rfl dX3_toldStroke_48 ?_
        refine g_iconst hΓ dX3_toldStroke_49 ?_
        refine g_iremN hΓ (by omega) (by omega) (by omega) dX3_toldStroke_50 ?_
        refine g_aload_n hΓ rfl dX3_toldStroke_51 ?_
        refine m_geta hok hΓ 0 (by decide) rfl rfl q1357 rfl dX3_toldStroke_52 ?_
        refine g_sipush hΓ (by decide) dX3_toldStroke_55 ?_
        refine g_iload_n hΓ rfl dX3_toldStroke_58 ?_
        refine g_iadd hΓ dX3_toldStroke_59 ?_
        refine m_ald hok hΓ 0 (by decide) rfl (n := 1048) rfl (by omega) (by decide) dX3_toldStroke_60 ?_
        refine g_icmp_ge (tgt := 68) hΓ (by omega) (by omega) dX3_toldStroke_61 (by decide) (fun c7 => ?_) (fun c7 => ?_)
        · refine g_iconst hΓ dX3_toldStroke_68 ?_
          exact m_iret hΓ dX3_toldStroke_69 ⟨ri (by first | (rw [tol]; (repeat' split) <;> omega) | (rw [tol, hx3]; (repeat' split) <;> omega)), rfl⟩
        · refine g_iload_n hΓ rfl dX3_toldStroke_64 ?_
          refine g_goto (tgt := 69) hΓ dX3_toldStroke_65 (by decide) ?_
          exact m_iret hΓ dX3_toldStroke_69 ⟨ri (by first | (rw [tol]; (repeat' split) <;> omega) | (rw [tol, hx3]; (repeat' split) <;> omega)), rfl⟩
  · refine g_iload_n hΓ rfl dX3_toldStroke_10 ?_
    refine g_aload_n hΓ rfl dX3_toldStroke_11 ?_
    refine m_geta hok hΓ 0 (by decide) rfl rfl q1357 rfl dX3_toldStroke_12 ?_
    refine g_sipush hΓ (by decide) dX3_toldStroke_15 ?_
    refine m_ald hok hΓ 0 (by decide) rfl (n := 1048) rfl (by omega) (by decide) dX3_toldStroke_18 ?_
    refine g_icmp_ge (tgt := 26) hΓ (by omega) (by omega) dX3_toldStroke_19 (by decide) (fun c8 => ?_) (fun c8 => ?_)
    · refine g_iconst hΓ dX3_toldStroke_26 ?_
      exact m_iret hΓ dX3_toldStroke_27 ⟨ri (by first | (rw [tol]; (repeat' split) <;> omega) | (rw [tol, hx3]; (repeat' split) <;> omega)), rfl⟩
    · refine g_iload_n hΓ rfl dX3_toldStroke_22 ?_
      refine g_goto (tgt := 27) hΓ dX3_toldStroke_23 (by decide) ?_
      exact m_iret hΓ dX3_toldStroke_27 ⟨ri (by first | (rw [tol]; (repeat' split) <;> omega) | (rw [tol, hx3]; (repeat' split) <;> omega)), rfl⟩
set_option maxHeartbeats 4000000 in
theorem m_areStrokes {l : Launch} {E : gE} {h : Nat} {ad : Nat → Nat} (hok : mOK E h ad) (σ : mS)  (a : Int) (b : Int) (ha : r32 a) (hb : r32 b) (hr : rowOK (σ 0)) : mC l E h ad yX3_areStrokes cX3_areStrokes 3 (some .boolean) 5 [.ref h, .int (iI a), .int (iI b)] σ (fun rv σ' => rv = some (.int (iI (if tol σ a ≠ -1 ∧ tol σ b ≠ -1 then 1 else 0))) ∧ ((tol σ a ≠ -1 ∧ tol σ b ≠ -1) → (∀ j, 0 ≤ j → j < σ 0 1042 → σ' 22 (16 * a + j) = cds σ a j) ∧ (∀ j, 0 ≤ j → j < σ 0 1042 → σ' 22 (16 * b + j) = cds σ b j)) ∧ ∀ (k : Nat) (j : Int), k ∉ [22] → σ' k j = σ k j) := by
  refine mC.of (by decide) [some (.ref h), some (.int (iI a)), some (.int (iI b))] (Nat.le_of_ble_eq_true rfl) rfl rfl (fun Γ hΓ => ?_)
  obtain ⟨h1000, h1009, h1042, h1043, h1044, h1045, h1046, h1047, hms, hsi, hsm, hnm⟩ := id hr
  have ta := tol_ok hr a
  have tb := tol_ok hr b
  refine g_aload_n hΓ rfl dX3_areStrokes_0 ?_
  refine g_iload_n hΓ rfl dX3_areStrokes_1 ?_
  refine m_callV (As := [.int (iI a)]) (rest := []) hok hΓ (m_toldStroke hok σ a (by first | assumption | omega) (by first | assumption | omega)) rfl q1704 q1706 qs90 q131 q1707 ndX3_toldStroke rfl (by decide) (by decide) rfl rfl (Nat.le_of_ble_eq_true rfl) dX3_areStrokes_2 rfl (fun v1 τ1 τ1h => ?_)
  obtain ⟨rfl, τ1h⟩ := τ1h
  rw [τ1h]
  clear τ1h
  show gW Γ E (mM E h ad σ) 0 0 _ _ (.int (iI (tol σ a)) :: _)
  refine g_iconst hΓ dX3_areStrokes_5 ?_
  refine g_icmp_eq (tgt := 18) hΓ (by omega) (by omega) dX3_areStrokes_6 (by decide) (fun c2 => ?_) (fun c2 => ?_)
  · refine g_iconst hΓ dX3_areStrokes_18 ?_
    exact m_zret hΓ (by omega) dX3_areStrokes_19 ⟨ri (by first | rw [if_pos (by omega)] | rw [if_neg (by omega)]), fun hq => absurd hq (by omega), (fun k j hk => rfl)⟩
  · refine g_aload_n hΓ rfl dX3_areStrokes_9 ?_
    refine g_iload_n hΓ rfl dX3_areStrokes_10 ?_
    refine m_callV (As := [.int (iI b)]) (rest := []) hok hΓ (m_toldStroke hok σ b (by first | assumption | omega) (by first | assumption | omega)) rfl q1704 q1706 qs90 q131 q1707 ndX3_toldStroke rfl (by decide) (by decide) rfl rfl (Nat.le_of_ble_eq_true rfl) dX3_areStrokes_11 rfl (fun v3 τ3 τ3h => ?_)
    obtain ⟨rfl, τ3h⟩ := τ3h
    rw [τ3h]
    clear τ3h
    show gW Γ E (mM E h ad σ) 0 0 _ _ (.int (iI (tol σ b)) :: _)
    refine g_iconst hΓ dX3_areStrokes_14 ?_
    refine g_icmp_ne (tgt := 20) hΓ (by omega) (by omega) dX3_areStrokes_15 (by decide) (fun c4 => ?_) (fun c4 => ?_)
    · rcases ta with ta | ⟨ta, ta0, ta1, tas⟩
      · exact absurd ta (by omega)
      rcases tb with tb | ⟨tb, tb0, tb1, tbs⟩
      · exact absurd tb (by omega)
      refine g_aload_n hΓ rfl dX3_areStrokes_20 ?_
      refine g_iload_n hΓ rfl dX3_areStrokes_21 ?_
      refine m_callV (As := [.int (iI a)]) (rest := []) hok hΓ (m_laysCodes hok σ a (by first | assumption | omega) (by first | assumption | omega) (by first | assumption | omega)) rfl q1657 q1659 qs86 q131 q1660 ndX3_laysCodes rfl (by decide) (by decide) rfl rfl (Nat.le_of_ble_eq_true rfl) dX3_areStrokes_22 rfl (fun v5 τ5 τ5h => ?_)
      obtain ⟨rfl, τ5h, τ5f⟩ := τ5h
      have τ50 : τ5 0 = σ 0 := funext fun j => τ5f 0 j (by decide)
      have τ57 : τ5 7 = σ 7 := funext fun j => τ5f 7 j (by decide)
      have τ58 : τ5 8 = σ 8 := funext fun j => τ5f 8 j (by decide)
      have τ5n := np_same τ50 τ58
      have τ5u := nu_same τ50 τ57
      have τ5c := cds_same τ50 τ57 τ58
      have tbs' : skOK (np τ5 b) (nu τ5 b) := by rw [τ5n, τ5u]; exact tbs
      have he' : 4 ≤ τ5 0 1042 ∧ τ5 0 1042 ≤ 16 := by rw [τ50]; exact h1042
      refine g_aload_n hΓ rfl dX3_areStrokes_25 ?_
      refine g_iload_n hΓ rfl dX3_areStrokes_26 ?_
      refine m_callV (As := [.int (iI b)]) (rest := []) hok hΓ (m_laysCodes hok τ5 b (by first | assumption | omega) (by first | assumption | omega) (by first | assumption | omega)) rfl q1657 q1659 qs86 q131 q1660 ndX3_laysCodes rfl (by decide) (by decide) rfl rfl (Nat.le_of_ble_eq_true rfl) dX3_areStrokes_27 rfl (fun v6 τ6 τ6h => ?_)
      obtain ⟨rfl, τ6h, τ6f⟩ := τ6h
      refine g_iconst hΓ dX3_areStrokes_30 ?_
      exact m_zret hΓ (by omega) dX3_areStrokes_31 ⟨ri (by first | rw [if_pos (by omega)] | rw [if_neg (by omega)]), fun _ => ⟨fun j h1 h2 => by
          by_cases q : a = b
          · subst q
            rw [τ6h.1 j h1 (by rw [τ50]; omega), τ5c]
          · rw [τ6h.2 _ (by rw [τ50]; omega)]; exact τ5h.1 j h1 h2, fun j h1 h2 => by rw [τ6h.1 j h1 (by rw [τ50]; omega), τ5c]⟩, (fun k j hk => ((τ6f k j (fun e => hk ((show ∀ x ∈ [22], x ∈ [22] by decide) k e))).trans (τ5f k j (fun e => hk ((show ∀ x ∈ [22], x ∈ [22] by decide) k e)))))⟩
    · refine g_iconst hΓ dX3_areStrokes_18 ?_
      exact m_zret hΓ (by omega) dX3_areStrokes_19 ⟨ri (by first | rw [if_pos (by omega)] | rw [if_neg (by omega)]), fun hq => absurd hq (by omega), (fun k j hk => rfl)⟩
set_option maxHeartbeats 4000000 in
theorem m_elastic {l : Launch} {E : gE} {h : Nat} {ad : Nat → Nat} (hok : mOK E h ad) (σ : mS)  (a : Int) (b : Int) (k : Int) (ha : r32 a) (hb : r32 b) (hk : k = 0 ∨ k = 1) (hr : rowOK (σ 0)) : mC l E h ad yX3_elastic cX3_elastic 4 (some .int) 6 [.ref h, .int (iI a), .int (iI b), .int (iI k)] σ (fun rv σ' => rv = some (.int (iI (sp_elastic σ a b k))) ∧ (True) ∧ ∀ (k : Nat) (j : Int), k ∉ [22, 23] → σ' k j = σ k j) := by
  refine mC.of (by decide) [some (.ref h), some (.int (iI a)), some (.int (iI b)), some (.int (iI k))] (Nat.le_of_ble_eq_true rfl) rfl rfl (fun Γ hΓ => ?_)
  obtain ⟨h1000, h1009, h1042, h1043, h1044, h1045, h1046, h1047, hms, hsi, hsm, hnm⟩ := id hr
  refine g_aload_n hΓ rfl dX3_elastic_0 ?_
  refine g_iload_n hΓ rfl dX3_elastic_1 ?_
  refine g_iload_n hΓ rfl dX3_elastic_2 ?_
  refine m_callV (As := [.int (iI a), .int (iI b)]) (rest := []) hok hΓ (m_areStrokes hok σ a b (by first | assumption | omega) (by first | assumption | omega) (by first | assumption | omega)) rfl q1700 q1702 qs89 q131 q1703 ndX3_areStrokes rfl (by decide) (by decide) rfl rfl (Nat.le_of_ble_eq_true rfl) dX3_elastic_3 rfl (fun v1 τ1 τ1h => ?_)
  obtain ⟨rfl, τ1h, τ1f⟩ := τ1h
  show gW Γ E (mM E h ad τ1) 0 0 _ _ (.int (iI (if tol σ a ≠ -1 ∧ tol σ b ≠ -1 then 1 else 0)) :: _)
  have τ10 : τ1 0 = σ 0 := funext fun j => τ1f 0 j (by decide)
  have τ17 : τ1 7 = σ 7 := funext fun j => τ1f 7 j (by decide)
  have τ18 : τ1 8 = σ 8 := funext fun j => τ1f 8 j (by decide)
  have τ1c := cds_same τ10 τ17 τ18
  have τ1E := els_same τ10 τ17 τ18
  have ta := tol_ok hr a
  have tb := tol_ok hr b
  refine g_ifB_eq (tgt := 27) hΓ  dX3_elastic_6 (by decide) (fun c2 => ?_) (fun c2 => ?_)
  · refine g_iconst hΓ dX3_elastic_27 ?_
    exact m_iret hΓ dX3_elastic_28 ⟨ri (by rw [sp_elastic]; first | (rw [if_neg (by omega)]; done) | (rw [if_pos (by omega), τ1E])), trivial, (fun k j hk => (τ1f k j (fun e => hk ((show ∀ x ∈ [22], x ∈ [22, 23] by decide) k e))))⟩
  · rcases ta with ta | ⟨ta, ta0, ta1, tas⟩
    · exact absurd ta (by omega)
    rcases tb with tb | ⟨tb, tb0, tb1, tbs⟩
    · exact absurd tb (by omega)
    obtain ⟨hla0, hlb0⟩ := τ1h ⟨by omega, by omega⟩
    have hla : ∀ j, 0 ≤ j → j < τ1 0 1042 → τ1 22 (16 * a + j) = cds τ1 a j := by rw [τ10, τ1c]; exact hla0
    have hlb : ∀ j, 0 ≤ j → j < τ1 0 1042 → τ1 22 (16 * b + j) = cds τ1 b j := by rw [τ10, τ1c]; exact hlb0
    have he' : 4 ≤ τ1 0 1042 ∧ τ1 0 1042 ≤ 16 := by rw [τ10]; exact h1042
    refine g_aload_n hΓ rfl dX3_elastic_9 ?_
    refine g_iload_n hΓ rfl dX3_elastic_10 ?_
    refine g_iload_n hΓ rfl dX3_elastic_11 ?_
    refine g_iload_n hΓ rfl dX3_elastic_12 ?_
    refine g_aload_n hΓ rfl dX3_elastic_13 ?_
    refine m_geta hok hΓ 0 (by decide) rfl rfl q1357 rfl dX3_elastic_14 ?_
    refine g_sipush hΓ (by decide) dX3_elastic_17 ?_
    refine m_ald hok hΓ 0 (by decide) rfl (n := 1048) rfl (by omega) (by decide) dX3_elastic_20 ?_
    refine g_topi ((τ1f 0 1043 (by decide))) ?_
    refine m_callV (As := [.int (iI a), .int (iI b), .int (iI k), .int (iI (σ 0 1043))]) (rest := []) hok hΓ (m_elasticOf hok τ1 a b k (σ 0 1043) (by first | assumption | omega) (by first | assumption | omega) (by first | assumption | omega) (by first | assumption | omega) (by first | assumption | omega) (by first | assumption | omega) (by first | assumption | omega)) rfl q1708 q1710 qs91 q131 q1711 ndX3_elasticOf rfl (by decide) (by decide) rfl rfl (Nat.le_of_ble_eq_true rfl) dX3_elastic_21 rfl (fun v3 τ3 τ3h => ?_)
    obtain ⟨rfl, τ3h, τ3f⟩ := τ3h
    show gW Γ E (mM E h ad τ3) 0 0 _ _ (.int (iI (els τ1 a b k (σ 0 1043))) :: _)
    refine g_goto (tgt := 28) hΓ dX3_elastic_24 (by decide) ?_
    exact m_iret hΓ dX3_elastic_28 ⟨ri (by rw [sp_elastic]; first | (rw [if_neg (by omega)]; done) | (rw [if_pos (by omega), τ1E])), trivial, (fun k j hk => ((τ3f k j (fun e => hk ((show ∀ x ∈ [23], x ∈ [22, 23] by decide) k e))).trans (τ1f k j (fun e => hk ((show ∀ x ∈ [22], x ∈ [22, 23] by decide) k e)))))⟩
