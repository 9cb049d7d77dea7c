set_option maxRecDepth 100000
set_option maxHeartbeats 4000000 in
theorem m_isReadable {l : Launch} {E : gE} {h : Nat} {ad : Nat → Nat} (hok : mOK E h ad) (σ : mS)   (hr : rowOK (σ 0)) : mC l E h ad yX3_isReadable cX3_isReadable 1 (some .boolean) 0 [.ref h] σ (fun rv σ' => rv = some (.int (iI (if 0 < σ 0 1000 ∧ 0 < σ 0 1009 then 1 else 0))) ∧ σ' = σ) := by
  refine mC.of (by decide) [some (.ref h)] (Nat.le_of_ble_eq_true rfl) rfl rfl (fun Γ hΓ => ?_)
  obtain ⟨h1000, h1009, h1042, h1043, h1044, h1045, h1046, h1047, hms, hsi, hsm, hnm⟩ := id hr
  refine g_aload_n hΓ rfl dX3_isReadable_0 ?_
  refine m_geta hok hΓ 0 (by decide) rfl rfl q1357 rfl dX3_isReadable_1 ?_
  refine g_sipush hΓ (by decide) dX3_isReadable_4 ?_
  refine m_ald hok hΓ 0 (by decide) rfl (n := 1048) rfl (by omega) (by decide) dX3_isReadable_7 ?_
  refine g_if_le (tgt := 26) hΓ (by omega) dX3_isReadable_8 (by decide) (fun c1 => ?_) (fun c1 => ?_)
  · refine g_iconst hΓ dX3_isReadable_26 ?_
    exact m_zret hΓ (by omega) dX3_isReadable_27 ⟨ri (by first | rfl | omega | (simp_all; done) | (simp_all; omega)), rfl⟩
  · refine g_aload_n hΓ rfl dX3_isReadable_11 ?_
    refine m_geta hok hΓ 0 (by decide) rfl rfl q1357 rfl dX3_isReadable_12 ?_
    refine g_sipush hΓ (by decide) dX3_isReadable_15 ?_
    refine m_ald hok hΓ 0 (by decide) rfl (n := 1048) rfl (by omega) (by decide) dX3_isReadable_18 ?_
    refine g_if_le (tgt := 26) hΓ (by omega) dX3_isReadable_19 (by decide) (fun c2 => ?_) (fun c2 => ?_)
    · refine g_iconst hΓ dX3_isReadable_26 ?_
      exact m_zret hΓ (by omega) dX3_isReadable_27 ⟨ri (by first | rfl | omega | (simp_all; done) | (simp_all; omega)), rfl⟩
    · refine g_iconst hΓ dX3_isReadable_22 ?_
      refine g_goto (tgt := 27) hΓ dX3_isReadable_23 (by decide) ?_
      exact m_zret hΓ (by omega) dX3_isReadable_27 ⟨ri (by first | rfl | omega | (simp_all; done) | (simp_all; omega)), rfl⟩
set_option maxHeartbeats 4000000 in
theorem m_laysReading {l : Launch} {E : gE} {h : Nat} {ad : Nat → Nat} (hok : mOK E h ad) (σ : mS)   (hr : rowOK (σ 0)) (hrd : isRd σ) : mC l E h ad yX3_laysReading cX3_laysReading 4 none 9 [.ref h] σ (fun rv σ' => rv = none ∧ (∀ s', 0 ≤ s' → s' < σ 0 1009 → σ' 32 s' = (rdE σ s').1.1 ∧ σ' 33 s' = (rdE σ s').1.2 ∧ σ' 34 s' = (rdE σ s').2.1 ∧ σ' 35 s' = (rdE σ s').2.2) ∧ ∀ (k : Nat) (j : Int), k ∉ [22, 23, 24, 25, 26, 27, 28, 29, 30, 32, 33, 34, 35] → σ' k j = σ k j) := by
  refine mC.of (by decide) [some (.ref h), none, none, none] (Nat.le_of_ble_eq_true rfl) rfl rfl (fun Γ hΓ => ?_)
  obtain ⟨h1000, h1009, h1042, h1043, h1044, h1045, h1046, h1047, hms, hsi, hsm, hnm⟩ := id hr
  refine g_aload_n hΓ rfl dX3_laysReading_0 ?_
  refine m_geta hok hΓ 32 (by decide) rfl rfl q1389 rfl dX3_laysReading_1 ?_
  refine g_aload_n hΓ rfl dX3_laysReading_4 ?_
  refine m_geta hok hΓ 0 (by decide) rfl rfl q1357 rfl dX3_laysReading_5 ?_
  refine g_sipush hΓ (by decide) dX3_laysReading_8 ?_
  refine m_ald hok hΓ 0 (by decide) rfl (n := 1048) rfl (by omega) (by decide) dX3_laysReading_11 ?_
  refine g_iconst hΓ dX3_laysReading_12 ?_
  refine m_ast hok hΓ 32 (by decide) rfl (n := 9) rfl (by omega) (by decide) dX3_laysReading_13 (fun τ1 τ1e => ?_)
  have τ1r : τ1 32 (σ 0 1009) = 0 := by rw [τ1e]; exact us_s _ _ _ _
  have τ1f : ∀ (k9 : Nat) (j9 : Int), (k9 ≠ 32 ∨ j9 ≠ (σ 0 1009)) → τ1 k9 j9 = σ k9 j9 := fun k9 j9 hh => by rw [τ1e]; exact us_n hh
  refine g_aload_n hΓ rfl dX3_laysReading_14 ?_
  refine m_geta hok hΓ 0 (by decide) rfl rfl q1357 rfl dX3_laysReading_15 ?_
  refine g_sipush hΓ (by decide) dX3_laysReading_18 ?_
  refine m_ald hok hΓ 0 (by decide) rfl (n := 1048) rfl (by omega) (by decide) dX3_laysReading_21 ?_
  refine g_topi ((τ1f 0 1009 (Or.inl (by decide)))) ?_
  refine g_iconst hΓ dX3_laysReading_22 ?_
  refine g_isub hΓ dX3_laysReading_23 ?_
  obtain ⟨x2, ex2⟩ : ∃ z9 : Int, z9 = (σ 0 1009) - 1 := ⟨_, rfl⟩
  refine g_topi ex2.symm ?_
  refine g_istore_n hΓ dX3_laysReading_24 rfl (Nat.le_of_ble_eq_true rfl) (lv' := [some (.ref h), some (.int (iI x2)), none, none]) rfl ?_
  have loop : ∀ (fu : Nat) (s : Int) (t : mS), (s + 1).toNat < fu → (-1 ≤ s ∧ s < σ 0 1009) → (∀ s', s < s' → s' < σ 0 1009 → t 32 s' = (rdE σ s').1.1 ∧ t 33 s' = (rdE σ s').1.2 ∧ t 34 s' = (rdE σ s').2.1 ∧ t 35 s' = (rdE σ s').2.2) → (∀ j, s < j → j ≤ σ 0 1009 → t 32 j = rdR σ (σ 0 1009 - 1 - s).toNat j) → (∀ (k : Nat) (j : Int), k ∉ [22, 23, 24, 25, 26, 27, 28, 29, 30, 32, 33, 34, 35] → t k j = σ k j) → gW Γ E (mM E h ad t) 0 0 25 [some (.ref h), some (.int (iI s)), none, none] [] := by
    intro fu
    induction fu with
    | zero => intro s t hn; exact absurd hn (Nat.not_lt_zero _)
    | succ fu ih_loop =>
      intro s t hn hs hDD hRR tf
      refine g_iload_n hΓ rfl dX3_laysReading_25 ?_
      refine g_if_lt (tgt := 157) hΓ (by omega) dX3_laysReading_26 (by decide) (fun c3 => ?_) (fun c3 => ?_)
      · exact m_vret hΓ dX3_laysReading_157 ⟨rfl, (fun s' h0 h1 => hDD s' (by omega) h1), tf⟩
      · refine g_aload_n hΓ rfl dX3_laysReading_29 ?_
        refine m_geta hok hΓ 32 (by decide) rfl rfl q1389 rfl dX3_laysReading_30 ?_
        refine g_iload_n hΓ rfl dX3_laysReading_33 ?_
        refine g_ldcw (n := 100000000) hΓ rfl q1716 (by decide) dX3_laysReading_34 ?_
        refine m_ast hok hΓ 32 (by decide) rfl (n := 9) rfl (by omega) (by decide) dX3_laysReading_37 (fun τ4 τ4e => ?_)
        have τ4r : τ4 32 s = 100000000 := by rw [τ4e]; exact us_s _ _ _ _
        have τ4f : ∀ (k9 : Nat) (j9 : Int), (k9 ≠ 32 ∨ j9 ≠ s) → τ4 k9 j9 = t k9 j9 := fun k9 j9 hh => by rw [τ4e]; exact us_n hh
        refine g_iconst hΓ dX3_laysReading_38 ?_
        refine g_istore_n hΓ dX3_laysReading_39 rfl (Nat.le_of_ble_eq_true rfl) (lv' := [some (.ref h), some (.int (iI s)), some (.int (iI 1)), none]) rfl ?_
        let rdQ : Int → Int → Nat := fun s n => (min 4 (σ 0 1009 - s) + 1 - n).toNat
        have loop2 : ∀ (fu : Nat) (n : Int) (a : (Int × Int) × (Int × Int)) (t : mS), (5 - n).toNat < fu → (1 ≤ n ∧ n ≤ 5 ∧ s + n ≤ σ 0 1009 + 1) → (t 32 s = a.1.1 ∧ (n = 1 ∧ a.1.1 = 100000000 ∨ t 33 s = a.1.2 ∧ t 34 s = a.2.1 ∧ t 35 s = a.2.2)) → (0 ≤ a.1.1 ∧ a.1.1 ≤ 100000000) → (rdS σ (rdR σ (σ 0 1009 - 1 - s).toNat) s (rdQ s n) n a = rdE σ s) → (∀ s', s < s' → s' < σ 0 1009 → t 32 s' = (rdE σ s').1.1 ∧ t 33 s' = (rdE σ s').1.2 ∧ t 34 s' = (rdE σ s').2.1 ∧ t 35 s' = (rdE σ s').2.2) → (∀ j, s < j → j ≤ σ 0 1009 → t 32 j = rdR σ (σ 0 1009 - 1 - s).toNat j) → (∀ (k : Nat) (j : Int), k ∉ [22, 23, 24, 25, 26, 27, 28, 29, 30, 32, 33, 34, 35] → t k j = σ k j) → gW Γ E (mM E h ad t) 0 0 40 [some (.ref h), some (.int (iI s)), some (.int (iI n)), none] [] := by
          intro fu
          induction fu with
          | zero => intro n a t hn; exact absurd hn (Nat.not_lt_zero _)
          | succ fu ih_loop2 =>
            intro n a t hn hn2 hI hab hv2 hDD hRR tf
            refine g_iload_n hΓ rfl dX3_laysReading_40 ?_
            refine g_iconst hΓ dX3_laysReading_41 ?_
            refine g_icmp_gt (tgt := 151) hΓ (by omega) (by omega) dX3_laysReading_42 (by decide) (fun c5 => ?_) (fun c5 => ?_)
            · have hfin : a = rdE σ s := by rw [← hv2, show rdQ s n = 0 by simp only [rdQ]; omega]; rfl
              have hfin4 : t 32 s = (rdE σ s).1.1 ∧ t 33 s = (rdE σ s).1.2 ∧ t 34 s = (rdE σ s).2.1 ∧ t 35 s = (rdE σ s).2.2 := by
                rw [← hfin]
                rcases hI.2 with z | z
                · exfalso; omega
                · exact ⟨hI.1, z.1, z.2.1, z.2.2⟩
              obtain ⟨x6, ex6⟩ : ∃ z9 : Int, z9 = s + (-1) := ⟨_, rfl⟩
              refine g_iinc hΓ dX3_laysReading_151 rfl rfl (lv' := [some (.ref h), some (.int (iI x6)), some (.int (iI n)), none]) (by rw [ex6]; rfl) ?_
              refine g_goto (tgt := 25) hΓ dX3_laysReading_154 (by decide) ?_
              refine g_lvw (lv' := [some (.ref h), some (.int (iI x6)), none, none]) ⟨rfl, ⟨rfl, trivial⟩⟩ ?_
              exact ih_loop x6 t (by omega) (by omega) (fun s' h0 h1 => by
                  by_cases q : s' = s
                  · subst q
                    exact hfin4
                  · exact hDD s' (by omega) h1) (fun j h0 h1 => by
                  rw [show (σ 0 1009 - 1 - x6).toNat = (σ 0 1009 - 1 - s).toNat + 1 by omega, rdR]
                  simp only
                  by_cases q : j = s
                  · subst q
                    rw [if_pos (by omega), hfin4.1, rdE, show σ 0 1009 - (((σ 0 1009 - 1 - j).toNat + 1 : Nat) : Int) = j by omega]
                  · rw [if_neg (by omega)]
                    exact hRR j (by omega) h1) tf
            · refine g_iload_n hΓ rfl dX3_laysReading_45 ?_
              refine g_iload_n hΓ rfl dX3_laysReading_46 ?_
              refine g_iadd hΓ dX3_laysReading_47 ?_
              refine g_aload_n hΓ rfl dX3_laysReading_48 ?_
              refine m_geta hok hΓ 0 (by decide) rfl rfl q1357 rfl dX3_laysReading_49 ?_
              refine g_sipush hΓ (by decide) dX3_laysReading_52 ?_
              refine m_ald hok hΓ 0 (by decide) rfl (n := 1048) rfl (by omega) (by decide) dX3_laysReading_55 ?_
              refine g_topi ((tf 0 1009 (by decide))) ?_
              refine g_icmp_gt (tgt := 151) hΓ (by omega) (by omega) dX3_laysReading_56 (by decide) (fun c7 => ?_) (fun c7 => ?_)
              · have hfin : a = rdE σ s := by rw [← hv2, show rdQ s n = 0 by simp only [rdQ]; omega]; rfl
                have hfin4 : t 32 s = (rdE σ s).1.1 ∧ t 33 s = (rdE σ s).1.2 ∧ t 34 s = (rdE σ s).2.1 ∧ t 35 s = (rdE σ s).2.2 := by
                  rw [← hfin]
                  rcases hI.2 with z | z
                  · exfalso; omega
                  · exact ⟨hI.1, z.1, z.2.1, z.2.2⟩
                obtain ⟨x8, ex8⟩ : ∃ z9 : Int, z9 = s + (-1) := ⟨_, rfl⟩
                refine g_iinc hΓ dX3_laysReading_151 rfl rfl (lv' := [some (.ref h), some (.int (iI x8)), some (.int (iI n)), none]) (by rw [ex8]; rfl) ?_
                refine g_goto (tgt := 25) hΓ dX3_laysReading_154 (by decide) ?_
                refine g_lvw (lv' := [some (.ref h), some (.int (iI x8)), none, none]) ⟨rfl, ⟨rfl, trivial⟩⟩ ?_
                exact ih_loop x8 t (by omega) (by omega) (fun s' h0 h1 => by
                    by_cases q : s' = s
                    · subst q
                      exact hfin4
                    · exact hDD s' (by omega) h1) (fun j h0 h1 => by
                    rw [show (σ 0 1009 - 1 - x8).toNat = (σ 0 1009 - 1 - s).toNat + 1 by omega, rdR]
                    simp only
                    by_cases q : j = s
                    · subst q
                      rw [if_pos (by omega), hfin4.1, rdE, show σ 0 1009 - (((σ 0 1009 - 1 - j).toNat + 1 : Nat) : Int) = j by omega]
                    · rw [if_neg (by omega)]
                      exact hRR j (by omega) h1) tf
              · have t0 : t 0 = σ 0 := funext fun j => tf 0 j (by decide)
                have t7 : t 7 = σ 7 := funext fun j => tf 7 j (by decide)
                have t8 : t 8 = σ 8 := funext fun j => tf 8 j (by decide)
                have tq := scM_same t0 t7 t8
                have tL := letS_same t0 t7 t8
                have hl1 : letS t s n := by rw [tL]; exact subS (inkS hr) (by omega) (by omega) (by omega)
                have hr1 : rowOK (t 0) := by rw [t0]; exact hr
                have hv := rdV_r hr (by omega) (s := s) (n := n) (by omega) (by omega) (by omega)
                have hrr := rdR_r hr (by omega) (σ 0 1009 - 1 - s).toNat (by omega) (s + n)
                have hrx := hRR (s + n) (by omega) (by omega)
                refine g_aload_n hΓ rfl dX3_laysReading_59 ?_
                refine g_iload_n hΓ rfl dX3_laysReading_60 ?_
                refine g_iload_n hΓ rfl dX3_laysReading_61 ?_
                refine m_callV (As := [.int (iI s), .int (iI n)]) (rest := []) hok hΓ (m_laysScores hok t s n (by first | assumption | omega) (by first | assumption | omega)) rfl q1786 q1788 qs101 q131 q1789 ndX3_laysScores rfl (by decide) (by decide) rfl rfl (Nat.le_of_ble_eq_true rfl) dX3_laysReading_62 rfl (fun v9 τ9 τ9h => ?_)
                obtain ⟨rfl, τ9h, τ9f⟩ := τ9h
                have τ90 : τ9 0 = σ 0 := funext fun j => ((τ9f 0 j (by decide)).trans (tf 0 j (by decide)))
                have τ9N : nMod τ9 = nMod σ := by rw [nMod, nMod, τ90]
                have hnm : ((nMod σ : Nat) : Int) = σ 0 1000 := by rw [nMod]; omega
                have hk9 : ∀ o : Int, 0 ≤ o → o < nMod σ → τ9 30 o = scM σ s n o := fun o q0 q1 => by rw [τ9h o q0 (by rw [t0]; omega), tq]
                have hn1 : 0 ≤ τ9 0 1000 ∧ τ9 0 1000 ≤ 8 := by rw [τ90]; exact h1000
                have hs1 : ∀ o, 0 ≤ o → o < τ9 0 1000 → 0 ≤ τ9 30 o ∧ τ9 30 o ≤ 1584 := fun o q0 q1 => by
                  rw [τ90] at q1
                  rw [hk9 o q0 (by omega)]
                  exact scM_r hr (subS (inkS hr) (by omega) (by omega) (by omega)) q0 q1
                refine g_aload_n hΓ rfl dX3_laysReading_65 ?_
                refine g_iconst hΓ dX3_laysReading_66 ?_
                refine m_callV (As := [.int (iI 0)]) (rest := []) hok hΓ (m_modelAt hok τ9 0 (by first | assumption | omega) (by first | assumption | omega) (by first | assumption | omega)) rfl q1790 q1792 qs102 q131 q1793 ndX3_modelAt rfl (by decide) (by decide) rfl rfl (Nat.le_of_ble_eq_true rfl) dX3_laysReading_67 rfl (fun v10 τ10 τ10h => ?_)
                obtain ⟨rfl, τ10h⟩ := τ10h
                rw [τ10h]
                clear τ10h
                show gW Γ E (mM E h ad τ9) 0 0 _ _ (.int (iI (moA (τ9 30) (nMod τ9) 0)) :: _)
                obtain ⟨x11, ex11⟩ : ∃ z9 : Int, z9 = moA (τ9 30) (nMod τ9) 0 := ⟨_, rfl⟩
                refine g_topi ex11.symm ?_
                refine g_istore_n hΓ dX3_laysReading_70 rfl (Nat.le_of_ble_eq_true rfl) (lv' := [some (.ref h), some (.int (iI s)), some (.int (iI n)), some (.int (iI x11))]) rfl ?_
                have hm9 : x11 = rdM σ s n := by rw [ex11, rdM, τ9N]; exact moA_congr hk9 0
                have hs9 : τ9 30 x11 = rdV σ s n := by rw [hk9 x11 (by omega) (by omega), rdV, hm9]
                have h32 : ∀ j, τ9 32 j = t 32 j := fun j => τ9f 32 j (by decide)
                have h32a := h32 (s + n)
                have h32b := h32 s
                refine g_aload_n hΓ rfl dX3_laysReading_71 ?_
                refine m_geta hok hΓ 30 (by decide) rfl rfl q1387 rfl dX3_laysReading_72 ?_
                refine g_iload_n hΓ rfl dX3_laysReading_75 ?_
                refine m_ald hok hΓ 30 (by decide) rfl (n := 8) rfl (by omega) (by decide) dX3_laysReading_76 ?_
                refine g_aload_n hΓ rfl dX3_laysReading_77 ?_
                refine m_geta hok hΓ 32 (by decide) rfl rfl q1389 rfl dX3_laysReading_78 ?_
                refine g_iload_n hΓ rfl dX3_laysReading_81 ?_
                refine g_iload_n hΓ rfl dX3_laysReading_82 ?_
                refine g_iadd hΓ dX3_laysReading_83 ?_
                refine m_ald hok hΓ 32 (by decide) rfl (n := 9) rfl (by omega) (by decide) dX3_laysReading_84 ?_
                refine g_topi ((τ9f 32 (s + n) (by decide))) ?_
                refine g_iadd hΓ dX3_laysReading_85 ?_
                refine g_aload_n hΓ rfl dX3_laysReading_86 ?_
                refine m_geta hok hΓ 32 (by decide) rfl rfl q1389 rfl dX3_laysReading_87 ?_
                refine g_iload_n hΓ rfl dX3_laysReading_90 ?_
                refine m_ald hok hΓ 32 (by decide) rfl (n := 9) rfl (by omega) (by decide) dX3_laysReading_91 ?_
                refine g_topi ((τ9f 32 s (by decide))) ?_
                refine g_icmp_lt (tgt := 98) hΓ (by omega) (by omega) dX3_laysReading_92 (by decide) (fun c12 => ?_) (fun c12 => ?_)
                · refine g_aload_n hΓ rfl dX3_laysReading_98 ?_
                  refine m_geta hok hΓ 32 (by decide) rfl rfl q1389 rfl dX3_laysReading_99 ?_
                  refine g_iload_n hΓ rfl dX3_laysReading_102 ?_
                  refine g_aload_n hΓ rfl dX3_laysReading_103 ?_
                  refine m_geta hok hΓ 30 (by decide) rfl rfl q1387 rfl dX3_laysReading_104 ?_
                  refine g_iload_n hΓ rfl dX3_laysReading_107 ?_
                  refine m_ald hok hΓ 30 (by decide) rfl (n := 8) rfl (by omega) (by decide) dX3_laysReading_108 ?_
                  refine g_aload_n hΓ rfl dX3_laysReading_109 ?_
                  refine m_geta hok hΓ 32 (by decide) rfl rfl q1389 rfl dX3_laysReading_110 ?_
                  refine g_iload_n hΓ rfl dX3_laysReading_113 ?_
                  refine g_iload_n hΓ rfl dX3_laysReading_114 ?_
                  refine g_iadd hΓ dX3_laysReading_115 ?_
                  refine m_ald hok hΓ 32 (by decide) rfl (n := 9) rfl (by omega) (by decide) dX3_laysReading_116 ?_
                  refine g_topi ((τ9f 32 (s + n) (by decide))) ?_
                  refine g_iadd hΓ dX3_laysReading_117 ?_
                  refine m_ast hok hΓ 32 (by decide) rfl (n := 9) rfl (by omega) (by decide) dX3_laysReading_118 (fun τ13 τ13e => ?_)
                  have τ13r : τ13 32 s = (τ9 30 x11) + (t 32 (s + n)) := by rw [τ13e]; exact us_s _ _ _ _
                  have τ13f : ∀ (k9 : Nat) (j9 : Int), (k9 ≠ 32 ∨ j9 ≠ s) → τ13 k9 j9 = τ9 k9 j9 := fun k9 j9 hh => by rw [τ13e]; exact us_n hh
                  refine g_aload_n hΓ rfl dX3_laysReading_119 ?_
                  refine m_geta hok hΓ 33 (by decide) rfl rfl q1390 rfl dX3_laysReading_120 ?_
                  refine g_iload_n hΓ rfl dX3_laysReading_123 ?_
                  refine g_iload_n hΓ rfl dX3_laysReading_124 ?_
                  refine m_ast hok hΓ 33 (by decide) rfl (n := 9) rfl (by omega) (by decide) dX3_laysReading_125 (fun τ14 τ14e => ?_)
                  have τ14r : τ14 33 s = n := by rw [τ14e]; exact us_s _ _ _ _
                  have τ14f : ∀ (k9 : Nat) (j9 : Int), (k9 ≠ 33 ∨ j9 ≠ s) → τ14 k9 j9 = τ13 k9 j9 := fun k9 j9 hh => by rw [τ14e]; exact us_n hh
                  refine g_aload_n hΓ rfl dX3_laysReading_126 ?_
                  refine m_geta hok hΓ 34 (by decide) rfl rfl q1391 rfl dX3_laysReading_127 ?_
                  refine g_iload_n hΓ rfl dX3_laysReading_130 ?_
                  refine g_iload_n hΓ rfl dX3_laysReading_131 ?_
                  refine m_ast hok hΓ 34 (by decide) rfl (n := 9) rfl (by omega) (by decide) dX3_laysReading_132 (fun τ15 τ15e => ?_)
                  have τ15r : τ15 34 s = x11 := by rw [τ15e]; exact us_s _ _ _ _
                  have τ15f : ∀ (k9 : Nat) (j9 : Int), (k9 ≠ 34 ∨ j9 ≠ s) → τ15 k9 j9 = τ14 k9 j9 := fun k9 j9 hh => by rw [τ15e]; exact us_n hh
                  refine g_aload_n hΓ rfl dX3_laysReading_133 ?_
                  refine m_geta hok hΓ 35 (by decide) rfl rfl q1392 rfl dX3_laysReading_134 ?_
                  refine g_iload_n hΓ rfl dX3_laysReading_137 ?_
                  refine g_aload_n hΓ rfl dX3_laysReading_138 ?_
                  refine m_geta hok hΓ 30 (by decide) rfl rfl q1387 rfl dX3_laysReading_139 ?_
                  refine g_iload_n hΓ rfl dX3_laysReading_142 ?_
                  refine m_ald hok hΓ 30 (by decide) rfl (n := 8) rfl (by omega) (by decide) dX3_laysReading_143 ?_
                  refine g_topi ((((τ15f 30 x11 (Or.inl (by decide))).trans (τ14f 30 x11 (Or.inl (by decide)))).trans (τ13f 30 x11 (Or.inl (by decide))))) ?_
                  refine m_ast hok hΓ 35 (by decide) rfl (n := 9) rfl (by omega) (by decide) dX3_laysReading_144 (fun τ16 τ16e => ?_)
                  have τ16r : τ16 35 s = τ9 30 x11 := by rw [τ16e]; exact us_s _ _ _ _
                  have τ16f : ∀ (k9 : Nat) (j9 : Int), (k9 ≠ 35 ∨ j9 ≠ s) → τ16 k9 j9 = τ15 k9 j9 := fun k9 j9 hh => by rw [τ16e]; exact us_n hh
                  obtain ⟨x17, ex17⟩ : ∃ z9 : Int, z9 = n + 1 := ⟨_, rfl⟩
                  refine g_iinc hΓ dX3_laysReading_145 rfl rfl (lv' := [some (.ref h), some (.int (iI s)), some (.int (iI x17)), some (.int (iI x11))]) (by rw [ex17]; rfl) ?_
                  refine g_goto (tgt := 40) hΓ dX3_laysReading_148 (by decide) ?_
                  refine g_lvw (lv' := [some (.ref h), some (.int (iI s)), some (.int (iI x17)), none]) ⟨rfl, ⟨rfl, ⟨rfl, trivial⟩⟩⟩ ?_
                  exact ih_loop2 x17 ((rdV σ s n + rdR σ (σ 0 1009 - 1 - s).toNat (s + n), n), (rdM σ s n, rdV σ s n)) τ16 (by omega) (by omega) ⟨((τ16f 32 _ (Or.inl (by decide))).trans ((τ15f 32 _ (Or.inl (by decide))).trans (τ14f 32 _ (Or.inl (by decide))))).trans (by rw [τ13r]; simp only; omega), Or.inr ⟨((τ16f 33 _ (Or.inl (by decide))).trans (τ15f 33 _ (Or.inl (by decide)))).trans τ14r, (τ16f 34 _ (Or.inl (by decide))).trans (by rw [τ15r]; exact hm9), by rw [τ16r]; exact hs9⟩⟩ (by simp only; omega) (by rw [← hv2, show rdQ s n = rdQ s x17 + 1 by simp only [rdQ]; omega, rdS, if_pos (by omega), ex17]) (fun s' h0 h1 => by rw [((τ16f 32 _ (Or.inl (by decide))).trans ((τ15f 32 _ (Or.inl (by decide))).trans ((τ14f 32 _ (Or.inl (by decide))).trans ((τ13f 32 _ (Or.inr (by omega))).trans (τ9f 32 _ (by decide)))))), ((τ16f 33 _ (Or.inl (by decide))).trans ((τ15f 33 _ (Or.inl (by decide))).trans ((τ14f 33 _ (Or.inr (by omega))).trans ((τ13f 33 _ (Or.inl (by decide))).trans (τ9f 33 _ (by decide)))))), ((τ16f 34 _ (Or.inl (by decide))).trans ((τ15f 34 _ (Or.inr (by omega))).trans ((τ14f 34 _ (Or.inl (by decide))).trans ((τ13f 34 _ (Or.inl (by decide))).trans (τ9f 34 _ (by decide)))))), ((τ16f 35 _ (Or.inr (by omega))).trans ((τ15f 35 _ (Or.inl (by decide))).trans ((τ14f 35 _ (Or.inl (by decide))).trans ((τ13f 35 _ (Or.inl (by decide))).trans (τ9f 35 _ (by decide))))))]; exact hDD s' h0 h1) (fun j h0 h1 => ((τ16f 32 _ (Or.inl (by decide))).trans ((τ15f 32 _ (Or.inl (by decide))).trans ((τ14f 32 _ (Or.inl (by decide))).trans ((τ13f 32 _ (Or.inr (by omega))).trans (τ9f 32 _ (by decide)))))).trans (hRR j h0 h1)) (fun k j hk => ((((((τ16f k j (Or.inl (fun e => hk (by rw [e]; decide)))).trans (τ15f k j (Or.inl (fun e => hk (by rw [e]; decide))))).trans (τ14f k j (Or.inl (fun e => hk (by rw [e]; decide))))).trans (τ13f k j (Or.inl (fun e => hk (by rw [e]; decide))))).trans (τ9f k j (fun e => hk ((show ∀ x ∈ [22, 23, 24, 25, 26, 27, 28, 29, 30], x ∈ [22, 23, 24, 25, 26, 27, 28, 29, 30, 32, 33, 34, 35] by decide) k e)))).trans (tf k j (fun e => hk ((show ∀ x ∈ [22, 23, 24, 25, 26, 27, 28, 29, 30, 32, 33, 34, 35], x ∈ [22, 23, 24, 25, 26, 27, 28, 29, 30, 32, 33, 34, 35] by decide) k e)))))
                · refine g_goto (tgt := 145) hΓ dX3_laysReading_95 (by decide) ?_
                  obtain ⟨x18, ex18⟩ : ∃ z9 : Int, z9 = n + 1 := ⟨_, rfl⟩
                  refine g_iinc hΓ dX3_laysReading_145 rfl rfl (lv' := [some (.ref h), some (.int (iI s)), some (.int (iI x18)), some (.int (iI x11))]) (by rw [ex18]; rfl) ?_
                  refine g_goto (tgt := 40) hΓ dX3_laysReading_148 (by decide) ?_
                  refine g_lvw (lv' := [some (.ref h), some (.int (iI s)), some (.int (iI x18)), none]) ⟨rfl, ⟨rfl, ⟨rfl, trivial⟩⟩⟩ ?_
                  exact ih_loop2 x18 a τ9 (by omega) (by omega) ⟨(τ9f 32 _ (by decide)).trans hI.1, by
                      rcases hI.2 with z | z
                      · exfalso; omega
                      · exact Or.inr ⟨(τ9f 33 _ (by decide)).trans z.1, (τ9f 34 _ (by decide)).trans z.2.1, (τ9f 35 _ (by decide)).trans z.2.2⟩⟩ hab (by rw [← hv2, show rdQ s n = rdQ s x18 + 1 by simp only [rdQ]; omega, rdS, if_neg (by omega), ex18]) (fun s' h0 h1 => by rw [(τ9f 32 _ (by decide)), (τ9f 33 _ (by decide)), (τ9f 34 _ (by decide)), (τ9f 35 _ (by decide))]; exact hDD s' h0 h1) (fun j h0 h1 => (τ9f 32 _ (by decide)).trans (hRR j h0 h1)) (fun k j hk => ((τ9f k j (fun e => hk ((show ∀ x ∈ [22, 23, 24, 25, 26, 27, 28, 29, 30], x ∈ [22, 23, 24, 25, 26, 27, 28, 29, 30, 32, 33, 34, 35] by decide) k e))).trans (tf k j (fun e => hk ((show ∀ x ∈ [22, 23, 24, 25, 26, 27, 28, 29, 30, 32, 33, 34, 35], x ∈ [22, 23, 24, 25, 26, 27, 28, 29, 30, 32, 33, 34, 35] by decide) k e)))))
        exact loop2 6 1 ((100000000, 0), (0, 0)) τ4 (by omega) (by omega) ⟨τ4r, Or.inl ⟨rfl, rfl⟩⟩ (by simp only; omega) (by rw [rdE, rdA, rdC]; simp only [rdQ]; congr 1; omega) (fun s' h0 h1 => by rw [τ4f 32 _ (Or.inr (by omega)), τ4f 33 _ (Or.inl (by decide)), τ4f 34 _ (Or.inl (by decide)), τ4f 35 _ (Or.inl (by decide))]; exact hDD s' h0 h1) (fun j h0 h1 => (τ4f 32 _ (Or.inr (by omega))).trans (hRR j h0 h1)) (fun k j hk => ((τ4f k j (Or.inl (fun e => hk (by rw [e]; decide)))).trans (tf k j (fun e => hk ((show ∀ x ∈ [22, 23, 24, 25, 26, 27, 28, 29, 30, 32, 33, 34, 35], x ∈ [22, 23, 24, 25, 26, 27, 28, 29, 30, 32, 33, 34, 35] by decide) k e)))))
  exact loop 9 x2 τ1 (by omega) (by omega) (fun s' h0 h1 => absurd h1 (by omega)) (fun j h0 h1 => by
      rw [show j = σ 0 1009 by omega, τ1r, show (σ 0 1009 - 1 - x2).toNat = 0 by omega]; rfl) (fun k j hk => (τ1f k j (Or.inl (fun e => hk (by rw [e]; decide)))))
set_option maxHeartbeats 4000000 in
theorem m_reads {l : Launch} {E : gE} {h : Nat} {ad : Nat → Nat} (hok : mOK E h ad) (σ : mS)   (hr : rowOK (σ 0)) : mC l E h ad yX3_reads cX3_reads 1 (some .int) 10 [.ref h] σ (fun rv σ' => rv = some (.int (iI (sp_reads σ))) ∧ (True) ∧ ∀ (k : Nat) (j : Int), k ∉ [22, 23, 24, 25, 26, 27, 28, 29, 30, 32, 33, 34, 35] → σ' k j = σ k j) := by
  refine mC.of (by decide) [some (.ref h)] (Nat.le_of_ble_eq_true rfl) rfl rfl (fun Γ hΓ => ?_)
  obtain ⟨h1000, h1009, h1042, h1043, h1044, h1045, h1046, h1047, hms, hsi, hsm, hnm⟩ := id hr
  refine g_aload_n hΓ rfl dX3_reads_0 ?_
  refine m_callV (As := []) (rest := []) hok hΓ (m_isReadable hok σ  (by first | assumption | omega)) rfl q1872 q1874 qs112 q131 q1875 ndX3_isReadable rfl (by decide) (by decide) rfl rfl (Nat.le_of_ble_eq_true rfl) dX3_reads_1 rfl (fun v1 τ1 τ1h => ?_)
  obtain ⟨rfl, τ1h⟩ := τ1h
  rw [τ1h]
  clear τ1h
  show gW Γ E (mM E h ad σ) 0 0 _ _ (.int (iI (if 0 < σ 0 1000 ∧ 0 < σ 0 1009 then 1 else 0)) :: _)
  refine g_ifB_ne (tgt := 9) hΓ  dX3_reads_4 (by decide) (fun c2 => ?_) (fun c2 => ?_)
  · refine g_aload_n hΓ rfl dX3_reads_9 ?_
    refine m_callV (As := []) (rest := []) hok hΓ (m_laysReading hok σ  (by first | assumption | omega) (by first | assumption | omega)) rfl q1876 q1878 qs113 q131 q1879 ndX3_laysReading rfl (by decide) (by decide) rfl rfl (Nat.le_of_ble_eq_true rfl) dX3_reads_10 rfl (fun v3 τ3 τ3h => ?_)
    obtain ⟨rfl, τ3h, τ3f⟩ := τ3h
    refine g_aload_n hΓ rfl dX3_reads_13 ?_
    refine m_geta hok hΓ 32 (by decide) rfl rfl q1389 rfl dX3_reads_14 ?_
    refine g_iconst hΓ dX3_reads_17 ?_
    refine m_ald hok hΓ 32 (by decide) rfl (n := 9) rfl (by omega) (by decide) dX3_reads_18 ?_
    exact m_iret hΓ dX3_reads_19 ⟨ri (by rw [sp_reads]; first | (rw [if_neg (by omega)]; done) | (rw [if_pos (by omega)]; exact (τ3h 0 (by omega) (by omega)).1)), trivial, (fun k j hk => (τ3f k j (fun e => hk ((show ∀ x ∈ [22, 23, 24, 25, 26, 27, 28, 29, 30, 32, 33, 34, 35], x ∈ [22, 23, 24, 25, 26, 27, 28, 29, 30, 32, 33, 34, 35] by decide) k e))))⟩
  · refine g_iconst hΓ dX3_reads_7 ?_
    exact m_iret hΓ dX3_reads_8 ⟨ri (by rw [sp_reads]; first | (rw [if_neg (by omega)]; done) | (rw [if_pos (by omega)]; exact (σh 0 (by omega) (by omega)).1)), trivial, (fun k j hk => rfl)⟩
set_option maxHeartbeats 4000000 in
theorem m_read {l : Launch} {E : gE} {h : Nat} {ad : Nat → Nat} (hok : mOK E h ad) (σ : mS)  (k : Int) (w : Int) (hk : r32 k) (hw : r32 w) (hr : rowOK (σ 0)) : mC l E h ad yX3_read cX3_read 5 (some .int) 10 [.ref h, .int (iI k), .int (iI w)] σ (fun rv σ' => rv = some (.int (iI (sp_read σ k w))) ∧ (True) ∧ ∀ (k : Nat) (j : Int), k ∉ [22, 23, 24, 25, 26, 27, 28, 29, 30, 32, 33, 34, 35] → σ' k j = σ k j) := by
  refine mC.of (by decide) [some (.ref h), some (.int (iI k)), some (.int (iI w)), none, none] (Nat.le_of_ble_eq_true rfl) rfl rfl (fun Γ hΓ => ?_)
  obtain ⟨h1000, h1009, h1042, h1043, h1044, h1045, h1046, h1047, hms, hsi, hsm, hnm⟩ := id hr
  refine g_aload_n hΓ rfl dX3_read_0 ?_
  refine m_callV (As := []) (rest := []) hok hΓ (m_isReadable hok σ  (by first | assumption | omega)) rfl q1872 q1874 qs112 q131 q1875 ndX3_isReadable rfl (by decide) (by decide) rfl rfl (Nat.le_of_ble_eq_true rfl) dX3_read_1 rfl (fun v1 τ1 τ1h => ?_)
  obtain ⟨rfl, τ1h⟩ := τ1h
  rw [τ1h]
  clear τ1h
  show gW Γ E (mM E h ad σ) 0 0 _ _ (.int (iI (if 0 < σ 0 1000 ∧ 0 < σ 0 1009 then 1 else 0)) :: _)
  refine g_ifB_ne (tgt := 9) hΓ  dX3_read_4 (by decide) (fun c2 => ?_) (fun c2 => ?_)
  · refine g_aload_n hΓ rfl dX3_read_9 ?_
    refine m_callV (As := []) (rest := []) hok hΓ (m_laysReading hok σ  (by first | assumption | omega) (by first | assumption | omega)) rfl q1876 q1878 qs113 q131 q1879 ndX3_laysReading rfl (by decide) (by decide) rfl rfl (Nat.le_of_ble_eq_true rfl) dX3_read_10 rfl (fun v3 τ3 τ3h => ?_)
    obtain ⟨rfl, τ3h, τ3f⟩ := τ3h
    refine g_iconst hΓ dX3_read_13 ?_
    refine g_istore_n hΓ dX3_read_14 rfl (Nat.le_of_ble_eq_true rfl) (lv' := [some (.ref h), some (.int (iI k)), some (.int (iI w)), some (.int (iI 0)), none]) rfl ?_
    refine g_iconst hΓ dX3_read_15 ?_
    refine g_istore hΓ dX3_read_16 rfl (Nat.le_of_ble_eq_true rfl) (lv' := [some (.ref h), some (.int (iI k)), some (.int (iI w)), some (.int (iI 0)), some (.int (iI 0))]) rfl ?_
    have loop : ∀ (fu : Nat) (n : Int) (s : Int), (σ 0 1009 - s).toNat < fu → (0 ≤ s ∧ s ≤ σ 0 1009 ∧ 0 ≤ n ∧ n ≤ s) → (rwF (fun s => (rdE σ s).1.2) (σ 0 1009) k (9 - n).toNat s n = rwE σ k) → gW Γ E (mM E h ad τ3) 0 0 18 [some (.ref h), some (.int (iI k)), some (.int (iI w)), some (.int (iI n)), some (.int (iI s))] [] := by
      intro fu
      induction fu with
      | zero => intro n s hn; exact absurd hn (Nat.not_lt_zero _)
      | succ fu ih_loop =>
        intro n s hn hs hv
        refine g_iload hΓ rfl dX3_read_18 ?_
        refine g_aload_n hΓ rfl dX3_read_20 ?_
        refine m_geta hok hΓ 0 (by decide) rfl rfl q1357 rfl dX3_read_21 ?_
        refine g_sipush hΓ (by decide) dX3_read_24 ?_
        refine m_ald hok hΓ 0 (by decide) rfl (n := 1048) rfl (by omega) (by decide) dX3_read_27 ?_
        refine g_topi ((τ3f 0 1009 (by decide))) ?_
        refine g_icmp_ge (tgt := 54) hΓ (by omega) (by omega) dX3_read_28 (by decide) (fun c4 => ?_) (fun c4 => ?_)
        · have hst : rwE σ k = (s, n) := by rw [← hv]; exact rwF_stop (by omega) _
          refine g_iload_n hΓ rfl dX3_read_54 ?_
          refine g_iconst hΓ dX3_read_55 ?_
          refine g_icmp_ne (tgt := 61) hΓ (by omega) (by omega) dX3_read_56 (by decide) (fun c5 => ?_) (fun c5 => ?_)
          · refine g_iload_n hΓ rfl dX3_read_61 ?_
            refine g_if_lt (tgt := 87) hΓ (by omega) dX3_read_62 (by decide) (fun c6 => ?_) (fun c6 => ?_)
            · refine g_iconst hΓ dX3_read_87 ?_
              exact m_iret hΓ dX3_read_88 ⟨ri (by rw [sp_read, if_pos (by omega), hst]; simp only; rw [if_neg (by omega), if_pos (by omega)]), trivial, (fun k j hk => (τ3f k j (fun e => hk ((show ∀ x ∈ [22, 23, 24, 25, 26, 27, 28, 29, 30, 32, 33, 34, 35], x ∈ [22, 23, 24, 25, 26, 27, 28, 29, 30, 32, 33, 34, 35] by decide) k e))))⟩
            · refine g_iload hΓ rfl dX3_read_65 ?_
              refine g_aload_n hΓ rfl dX3_read_67 ?_
              refine m_geta hok hΓ 0 (by decide) rfl rfl q1357 rfl dX3_read_68 ?_
              refine g_sipush hΓ (by decide) dX3_read_71 ?_
              refine m_ald hok hΓ 0 (by decide) rfl (n := 1048) rfl (by omega) (by decide) dX3_read_74 ?_
              refine g_topi ((τ3f 0 1009 (by decide))) ?_
              refine g_icmp_eq (tgt := 87) hΓ (by omega) (by omega) dX3_read_75 (by decide) (fun c7 => ?_) (fun c7 => ?_)
              · refine g_iconst hΓ dX3_read_87 ?_
                exact m_iret hΓ dX3_read_88 ⟨ri (by rw [sp_read, if_pos (by omega), hst]; simp only; rw [if_neg (by omega), if_pos (by omega)]), trivial, (fun k j hk => (τ3f k j (fun e => hk ((show ∀ x ∈ [22, 23, 24, 25, 26, 27, 28, 29, 30, 32, 33, 34, 35], x ∈ [22, 23, 24, 25, 26, 27, 28, 29, 30, 32, 33, 34, 35] by decide) k e))))⟩
              · refine g_iload_n hΓ rfl dX3_read_78 ?_
                refine g_iconst hΓ dX3_read_79 ?_
                refine g_iconst hΓ dX3_read_80 ?_
                refine m_callS (As := [.int (iI w), .int (iI 0), .int (iI 2)]) (rest := []) hok hΓ (m_isIn hok τ3 w 0 2 (by first | assumption | omega) (by first | assumption | omega) (by first | assumption | omega)) rfl q1549 q1550 q131 q1551 ndX3_isIn rfl (by decide) (by decide) rfl (Nat.le_of_ble_eq_true rfl) dX3_read_81 rfl (fun v8 τ8 τ8h => ?_)
                obtain ⟨rfl, τ8h⟩ := τ8h
                rw [τ8h]
                clear τ8h
                show gW Γ E (mM E h ad τ3) 0 0 _ _ (.int (iI (if 0 ≤ w ∧ w ≤ 2 then 1 else 0)) :: _)
                refine g_ifB_ne (tgt := 89) hΓ  dX3_read_84 (by decide) (fun c9 => ?_) (fun c9 => ?_)
                · have h4 := τ3h s (by omega) (by omega)
                  have hE := rdE_r hr (by omega) (s := s) (by omega) (by omega)
                  refine g_iload_n hΓ rfl dX3_read_89 ?_
                  refine g_if_ne (tgt := 103) hΓ (by omega) dX3_read_90 (by decide) (fun c10 => ?_) (fun c10 => ?_)
                  · refine g_iload_n hΓ rfl dX3_read_103 ?_
                    refine g_iconst hΓ dX3_read_104 ?_
                    refine g_icmp_ne (tgt := 118) hΓ (by omega) (by omega) dX3_read_105 (by decide) (fun c11 => ?_) (fun c11 => ?_)
                    · refine g_aload_n hΓ rfl dX3_read_118 ?_
                      refine m_geta hok hΓ 35 (by decide) rfl rfl q1392 rfl dX3_read_119 ?_
                      refine g_iload hΓ rfl dX3_read_122 ?_
                      refine m_ald hok hΓ 35 (by decide) rfl (n := 9) rfl (by omega) (by decide) dX3_read_124 ?_
                      exact m_iret hΓ dX3_read_125 ⟨ri (by rw [sp_read, if_pos (by omega), hst]; simp only; rw [if_neg (by omega), if_neg (by omega)]; (repeat' split) <;> first | (exfalso; omega) | omega), trivial, (fun k j hk => (τ3f k j (fun e => hk ((show ∀ x ∈ [22, 23, 24, 25, 26, 27, 28, 29, 30, 32, 33, 34, 35], x ∈ [22, 23, 24, 25, 26, 27, 28, 29, 30, 32, 33, 34, 35] by decide) k e))))⟩
                    · refine g_aload_n hΓ rfl dX3_read_108 ?_
                      refine m_geta hok hΓ 34 (by decide) rfl rfl q1391 rfl dX3_read_109 ?_
                      refine g_iload hΓ rfl dX3_read_112 ?_
                      refine m_ald hok hΓ 34 (by decide) rfl (n := 9) rfl (by omega) (by decide) dX3_read_114 ?_
                      refine g_goto (tgt := 125) hΓ dX3_read_115 (by decide) ?_
                      exact m_iret hΓ dX3_read_125 ⟨ri (by rw [sp_read, if_pos (by omega), hst]; simp only; rw [if_neg (by omega), if_neg (by omega)]; (repeat' split) <;> first | (exfalso; omega) | omega), trivial, (fun k j hk => (τ3f k j (fun e => hk ((show ∀ x ∈ [22, 23, 24, 25, 26, 27, 28, 29, 30, 32, 33, 34, 35], x ∈ [22, 23, 24, 25, 26, 27, 28, 29, 30, 32, 33, 34, 35] by decide) k e))))⟩
                  · refine g_aload_n hΓ rfl dX3_read_93 ?_
                    refine m_geta hok hΓ 33 (by decide) rfl rfl q1390 rfl dX3_read_94 ?_
                    refine g_iload hΓ rfl dX3_read_97 ?_
                    refine m_ald hok hΓ 33 (by decide) rfl (n := 9) rfl (by omega) (by decide) dX3_read_99 ?_
                    refine g_goto (tgt := 125) hΓ dX3_read_100 (by decide) ?_
                    exact m_iret hΓ dX3_read_125 ⟨ri (by rw [sp_read, if_pos (by omega), hst]; simp only; rw [if_neg (by omega), if_neg (by omega)]; (repeat' split) <;> first | (exfalso; omega) | omega), trivial, (fun k j hk => (τ3f k j (fun e => hk ((show ∀ x ∈ [22, 23, 24, 25, 26, 27, 28, 29, 30, 32, 33, 34, 35], x ∈ [22, 23, 24, 25, 26, 27, 28, 29, 30, 32, 33, 34, 35] by decide) k e))))⟩
                · refine g_iconst hΓ dX3_read_87 ?_
                  exact m_iret hΓ dX3_read_88 ⟨ri (by rw [sp_read, if_pos (by omega), hst]; simp only; rw [if_neg (by omega), if_pos (by omega)]), trivial, (fun k j hk => (τ3f k j (fun e => hk ((show ∀ x ∈ [22, 23, 24, 25, 26, 27, 28, 29, 30, 32, 33, 34, 35], x ∈ [22, 23, 24, 25, 26, 27, 28, 29, 30, 32, 33, 34, 35] by decide) k e))))⟩
          · refine g_iload_n hΓ rfl dX3_read_59 ?_
            exact m_iret hΓ dX3_read_60 ⟨ri (by rw [sp_read, if_pos (by omega), hst]; simp only; rw [if_pos (by omega)]), trivial, (fun k j hk => (τ3f k j (fun e => hk ((show ∀ x ∈ [22, 23, 24, 25, 26, 27, 28, 29, 30, 32, 33, 34, 35], x ∈ [22, 23, 24, 25, 26, 27, 28, 29, 30, 32, 33, 34, 35] by decide) k e))))⟩
        · refine g_iload_n hΓ rfl dX3_read_31 ?_
          refine g_iload_n hΓ rfl dX3_read_32 ?_
          refine g_icmp_eq (tgt := 54) hΓ (by omega) (by omega) dX3_read_33 (by decide) (fun c12 => ?_) (fun c12 => ?_)
          · have hst : rwE σ k = (s, n) := by rw [← hv]; exact rwF_stop (by omega) _
            refine g_iload_n hΓ rfl dX3_read_54 ?_
            refine g_iconst hΓ dX3_read_55 ?_
            refine g_icmp_ne (tgt := 61) hΓ (by omega) (by omega) dX3_read_56 (by decide) (fun c13 => ?_) (fun c13 => ?_)
            · refine g_iload_n hΓ rfl dX3_read_61 ?_
              refine g_if_lt (tgt := 87) hΓ (by omega) dX3_read_62 (by decide) (fun c14 => ?_) (fun c14 => ?_)
              · refine g_iconst hΓ dX3_read_87 ?_
                exact m_iret hΓ dX3_read_88 ⟨ri (by rw [sp_read, if_pos (by omega), hst]; simp only; rw [if_neg (by omega), if_pos (by omega)]), trivial, (fun k j hk => (τ3f k j (fun e => hk ((show ∀ x ∈ [22, 23, 24, 25, 26, 27, 28, 29, 30, 32, 33, 34, 35], x ∈ [22, 23, 24, 25, 26, 27, 28, 29, 30, 32, 33, 34, 35] by decide) k e))))⟩
              · refine g_iload hΓ rfl dX3_read_65 ?_
                refine g_aload_n hΓ rfl dX3_read_67 ?_
                refine m_geta hok hΓ 0 (by decide) rfl rfl q1357 rfl dX3_read_68 ?_
                refine g_sipush hΓ (by decide) dX3_read_71 ?_
                refine m_ald hok hΓ 0 (by decide) rfl (n := 1048) rfl (by omega) (by decide) dX3_read_74 ?_
                refine g_topi ((τ3f 0 1009 (by decide))) ?_
                refine g_icmp_eq (tgt := 87) hΓ (by omega) (by omega) dX3_read_75 (by decide) (fun c15 => ?_) (fun c15 => ?_)
                · refine g_iconst hΓ dX3_read_87 ?_
                  exact m_iret hΓ dX3_read_88 ⟨ri (by rw [sp_read, if_pos (by omega), hst]; simp only; rw [if_neg (by omega), if_pos (by omega)]), trivial, (fun k j hk => (τ3f k j (fun e => hk ((show ∀ x ∈ [22, 23, 24, 25, 26, 27, 28, 29, 30, 32, 33, 34, 35], x ∈ [22, 23, 24, 25, 26, 27, 28, 29, 30, 32, 33, 34, 35] by decide) k e))))⟩
                · refine g_iload_n hΓ rfl dX3_read_78 ?_
                  refine g_iconst hΓ dX3_read_79 ?_
                  refine g_iconst hΓ dX3_read_80 ?_
                  refine m_callS (As := [.int (iI w), .int (iI 0), .int (iI 2)]) (rest := []) hok hΓ (m_isIn hok τ3 w 0 2 (by first | assumption | omega) (by first | assumption | omega) (by first | assumption | omega)) rfl q1549 q1550 q131 q1551 ndX3_isIn rfl (by decide) (by decide) rfl (Nat.le_of_ble_eq_true rfl) dX3_read_81 rfl (fun v16 τ16 τ16h => ?_)
                  obtain ⟨rfl, τ16h⟩ := τ16h
                  rw [τ16h]
                  clear τ16h
                  show gW Γ E (mM E h ad τ3) 0 0 _ _ (.int (iI (if 0 ≤ w ∧ w ≤ 2 then 1 else 0)) :: _)
                  refine g_ifB_ne (tgt := 89) hΓ  dX3_read_84 (by decide) (fun c17 => ?_) (fun c17 => ?_)
                  · have h4 := τ3h s (by omega) (by omega)
                    have hE := rdE_r hr (by omega) (s := s) (by omega) (by omega)
                    refine g_iload_n hΓ rfl dX3_read_89 ?_
                    refine g_if_ne (tgt := 103) hΓ (by omega) dX3_read_90 (by decide) (fun c18 => ?_) (fun c18 => ?_)
                    · refine g_iload_n hΓ rfl dX3_read_103 ?_
                      refine g_iconst hΓ dX3_read_104 ?_
                      refine g_icmp_ne (tgt := 118) hΓ (by omega) (by omega) dX3_read_105 (by decide) (fun c19 => ?_) (fun c19 => ?_)
                      · refine g_aload_n hΓ rfl dX3_read_118 ?_
                        refine m_geta hok hΓ 35 (by decide) rfl rfl q1392 rfl dX3_read_119 ?_
                        refine g_iload hΓ rfl dX3_read_122 ?_
                        refine m_ald hok hΓ 35 (by decide) rfl (n := 9) rfl (by omega) (by decide) dX3_read_124 ?_
                        exact m_iret hΓ dX3_read_125 ⟨ri (by rw [sp_read, if_pos (by omega), hst]; simp only; rw [if_neg (by omega), if_neg (by omega)]; (repeat' split) <;> first | (exfalso; omega) | omega), trivial, (fun k j hk => (τ3f k j (fun e => hk ((show ∀ x ∈ [22, 23, 24, 25, 26, 27, 28, 29, 30, 32, 33, 34, 35], x ∈ [22, 23, 24, 25, 26, 27, 28, 29, 30, 32, 33, 34, 35] by decide) k e))))⟩
                      · refine g_aload_n hΓ rfl dX3_read_108 ?_
                        refine m_geta hok hΓ 34 (by decide) rfl rfl q1391 rfl dX3_read_109 ?_
                        refine g_iload hΓ rfl dX3_read_112 ?_
                        refine m_ald hok hΓ 34 (by decide) rfl (n := 9) rfl (by omega) (by decide) dX3_read_114 ?_
                        refine g_goto (tgt := 125) hΓ dX3_read_115 (by decide) ?_
                        exact m_iret hΓ dX3_read_125 ⟨ri (by rw [sp_read, if_pos (by omega), hst]; simp only; rw [if_neg (by omega), if_neg (by omega)]; (repeat' split) <;> first | (exfalso; omega) | omega), trivial, (fun k j hk => (τ3f k j (fun e => hk ((show ∀ x ∈ [22, 23, 24, 25, 26, 27, 28, 29, 30, 32, 33, 34, 35], x ∈ [22, 23, 24, 25, 26, 27, 28, 29, 30, 32, 33, 34, 35] by decide) k e))))⟩
                    · refine g_aload_n hΓ rfl dX3_read_93 ?_
                      refine m_geta hok hΓ 33 (by decide) rfl rfl q1390 rfl dX3_read_94 ?_
                      refine g_iload hΓ rfl dX3_read_97 ?_
                      refine m_ald hok hΓ 33 (by decide) rfl (n := 9) rfl (by omega) (by decide) dX3_read_99 ?_
                      refine g_goto (tgt := 125) hΓ dX3_read_100 (by decide) ?_
                      exact m_iret hΓ dX3_read_125 ⟨ri (by rw [sp_read, if_pos (by omega), hst]; simp only; rw [if_neg (by omega), if_neg (by omega)]; (repeat' split) <;> first | (exfalso; omega) | omega), trivial, (fun k j hk => (τ3f k j (fun e => hk ((show ∀ x ∈ [22, 23, 24, 25, 26, 27, 28, 29, 30, 32, 33, 34, 35], x ∈ [22, 23, 24, 25, 26, 27, 28, 29, 30, 32, 33, 34, 35] by decide) k e))))⟩
                  · refine g_iconst hΓ dX3_read_87 ?_
                    exact m_iret hΓ dX3_read_88 ⟨ri (by rw [sp_read, if_pos (by omega), hst]; simp only; rw [if_neg (by omega), if_pos (by omega)]), trivial, (fun k j hk => (τ3f k j (fun e => hk ((show ∀ x ∈ [22, 23, 24, 25, 26, 27, 28, 29, 30, 32, 33, 34, 35], x ∈ [22, 23, 24, 25, 26, 27, 28, 29, 30, 32, 33, 34, 35] by decide) k e))))⟩
            · refine g_iload_n hΓ rfl dX3_read_59 ?_
              exact m_iret hΓ dX3_read_60 ⟨ri (by rw [sp_read, if_pos (by omega), hst]; simp only; rw [if_pos (by omega)]), trivial, (fun k j hk => (τ3f k j (fun e => hk ((show ∀ x ∈ [22, 23, 24, 25, 26, 27, 28, 29, 30, 32, 33, 34, 35], x ∈ [22, 23, 24, 25, 26, 27, 28, 29, 30, 32, 33, 34, 35] by decide) k e))))⟩
          · have h4 := τ3h s (by omega) (by omega)
            have hE := rdE_r hr (by omega) (s := s) (by omega) (by omega)
            refine g_iload hΓ rfl dX3_read_36 ?_
            refine g_aload_n hΓ rfl dX3_read_38 ?_
            refine m_geta hok hΓ 33 (by decide) rfl rfl q1390 rfl dX3_read_39 ?_
            refine g_iload hΓ rfl dX3_read_42 ?_
            refine m_ald hok hΓ 33 (by decide) rfl (n := 9) rfl (by omega) (by decide) dX3_read_44 ?_
            refine g_iadd hΓ dX3_read_45 ?_
            obtain ⟨x20, ex20⟩ : ∃ z9 : Int, z9 = s + (τ3 33 s) := ⟨_, rfl⟩
            refine g_topi ex20.symm ?_
            refine g_istore hΓ dX3_read_46 rfl (Nat.le_of_ble_eq_true rfl) (lv' := [some (.ref h), some (.int (iI k)), some (.int (iI w)), some (.int (iI n)), some (.int (iI x20))]) rfl ?_
            obtain ⟨x21, ex21⟩ : ∃ z9 : Int, z9 = n + 1 := ⟨_, rfl⟩
            refine g_iinc hΓ dX3_read_48 rfl rfl (lv' := [some (.ref h), some (.int (iI k)), some (.int (iI w)), some (.int (iI x21)), some (.int (iI x20))]) (by rw [ex21]; rfl) ?_
            refine g_goto (tgt := 18) hΓ dX3_read_51 (by decide) ?_
            exact ih_loop x21 x20 (by omega) (by omega) (by rw [← hv, show (9 - n).toNat = (9 - x21).toNat + 1 by omega, rwF, if_pos (by omega)]; (try simp only); rw [← h4.2.1, ex21, ex20])
    exact loop 9 0 0 (by omega) (by omega) rfl
  · refine g_iconst hΓ dX3_read_7 ?_
    exact m_iret hΓ dX3_read_8 ⟨ri (by rw [sp_read, if_neg (by omega)]), trivial, (fun k j hk => rfl)⟩
