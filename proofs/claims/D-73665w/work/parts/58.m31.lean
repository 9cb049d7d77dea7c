set_option maxRecDepth 100000
set_option maxHeartbeats 4000000 in
theorem m_own {l : Launch} {E : gE} {h : Nat} {ad : Nat → Nat} (hok : mOK E h ad) (σ : mS)   (ho : ownOK σ) (htp : ∀ j, 0 ≤ j → j < 1600 → 0 ≤ σ 11 j ∧ σ 11 j < 256) (hf : 0 ≤ σ 18 0 ∧ σ 18 0 ≤ σ 17 0) (hat : σ 17 0 ≤ 1600) : mC l E h ad yX3_own cX3_own 4 (some .int) 0 [.ref h] σ (fun rv σ' => rv = some (.int (iI (sp_own σ))) ∧ σ' = σ) := by
  refine mC.of (by decide) [some (.ref h), none, none, none] (Nat.le_of_ble_eq_true rfl) rfl rfl (fun Γ hΓ => ?_)
  refine g_iconst hΓ dX3_own_0 ?_
  refine g_istore_n hΓ dX3_own_1 rfl (Nat.le_of_ble_eq_true rfl) (lv' := [some (.ref h), some (.int (iI 0)), none, none]) rfl ?_
  refine g_iconst hΓ dX3_own_2 ?_
  refine g_istore_n hΓ dX3_own_3 rfl (Nat.le_of_ble_eq_true rfl) (lv' := [some (.ref h), some (.int (iI 0)), some (.int (iI 0)), none]) rfl ?_
  have loop : ∀ (fu : Nat) (k : Int) (n : Int), (10 - n).toNat < fu → (0 ≤ n ∧ n ≤ 10) → (k = oB n) → (owF σ (10 - n).toNat n = sp_own σ) → gW Γ E (mM E h ad σ) 0 0 4 [some (.ref h), some (.int (iI k)), some (.int (iI n)), none] [] := by
    intro fu
    induction fu with
    | zero => intro k n hn; exact absurd hn (Nat.not_lt_zero _)
    | succ fu ih_loop =>
      intro k n hn hn0 hk hS
      have hk10 : n = 10 → oB n = 56 := fun z => by rw [z]; rfl
      have hk9 : n < 10 → 0 ≤ oB n ∧ oB n < 56 := fun z => by
        have y := ow_f (n := n) (by omega) z
        omega
      refine g_iload_n hΓ rfl dX3_own_4 ?_
      refine g_bipush hΓ (by decide) dX3_own_5 ?_
      refine g_icmp_ge (tgt := 117) hΓ (by omega) (by omega) dX3_own_7 (by decide) (fun c1 => ?_) (fun c1 => ?_)
      · refine g_iconst hΓ dX3_own_117 ?_
        exact m_iret hΓ dX3_own_118 ⟨ri (by rw [← hS, show (10 - n).toNat = 0 by omega]; rfl), rfl⟩
      · refine g_iconst hΓ dX3_own_10 ?_
        refine g_istore_n hΓ dX3_own_11 rfl (Nat.le_of_ble_eq_true rfl) (lv' := [some (.ref h), some (.int (iI k)), some (.int (iI n)), some (.int (iI 0))]) rfl ?_
        obtain ⟨hL, hZ, hB, f1, f2, f3, f4⟩ := ow_f (n := n) (by omega) (by omega)
        have loop2 : ∀ (fu : Nat) (i : Int), (oN n - i).toNat < fu → (0 ≤ i ∧ i ≤ oN n ∧ σ 18 0 + i ≤ σ 17 0) → (owE σ n i.toNat = true) → gW Γ E (mM E h ad σ) 0 0 12 [some (.ref h), some (.int (iI k)), some (.int (iI n)), some (.int (iI i))] [] := by
          intro fu
          induction fu with
          | zero => intro i hn; exact absurd hn (Nat.not_lt_zero _)
          | succ fu ih_loop2 =>
            intro i hn hi hE
            have hoi := ho (k + i) (by omega) (by omega)
            have hiz : i < oN n → 1 ≤ owL (k + i) ∧ owL (k + i) ≤ 26 := fun z => by rw [hk]; exact hL i (by omega) z
            have hin : i = oN n → owL (k + i) = 0 := fun z => by rw [hk, z]; exact hZ
            refine g_aload_n hΓ rfl dX3_own_12 ?_
            refine m_geta hok hΓ 21 (by decide) rfl rfl q1378 rfl dX3_own_13 ?_
            refine g_iload_n hΓ rfl dX3_own_16 ?_
            refine g_iload_n hΓ rfl dX3_own_17 ?_
            refine g_iadd hΓ dX3_own_18 ?_
            refine m_ald hok hΓ 21 (by decide) rfl (n := 56) rfl (by omega) (by decide) dX3_own_19 ?_
            refine g_if_eq (tgt := 67) hΓ (by omega) dX3_own_20 (by decide) (fun c2 => ?_) (fun c2 => ?_)
            · refine g_aload_n hΓ rfl dX3_own_67 ?_
              refine m_geta hok hΓ 21 (by decide) rfl rfl q1378 rfl dX3_own_68 ?_
              refine g_iload_n hΓ rfl dX3_own_71 ?_
              refine g_iload_n hΓ rfl dX3_own_72 ?_
              refine g_iadd hΓ dX3_own_73 ?_
              refine m_ald hok hΓ 21 (by decide) rfl (n := 56) rfl (by omega) (by decide) dX3_own_74 ?_
              refine g_if_ne (tgt := 93) hΓ (by omega) dX3_own_75 (by decide) (fun c3 => ?_) (fun c3 => ?_)
              · have hno : ¬ owM σ n := fun z => by
                  obtain ⟨z1, z2⟩ := z
                  first
                  | omega
                  | (have y := owE_at z2 i (by omega) (by omega); rw [← hk] at y; omega)
                have loop3 : ∀ (fu : Nat) (j : Int), (oB n + oN n - j).toNat < fu → (oB n ≤ j ∧ j ≤ oB n + oN n) → gW Γ E (mM E h ad σ) 0 0 93 [some (.ref h), some (.int (iI j)), some (.int (iI n)), none] [] := by
                  intro fu
                  induction fu with
                  | zero => intro j hn; exact absurd hn (Nat.not_lt_zero _)
                  | succ fu ih_loop3 =>
                    intro j hn hj
                    have hoj := ho j (by omega) (by omega)
                    have hjz : j < oB n + oN n → 1 ≤ owL j ∧ owL j ≤ 26 := fun y => by
                      have x := hL (j - oB n) (by omega) (by omega)
                      rw [show oB n + (j - oB n) = j by omega] at x
                      exact x
                    have hjn : j = oB n + oN n → owL j = 0 := fun z => by rw [z]; exact hZ
                    refine g_aload_n hΓ rfl dX3_own_93 ?_
                    refine m_geta hok hΓ 21 (by decide) rfl rfl q1378 rfl dX3_own_94 ?_
                    refine g_iload_n hΓ rfl dX3_own_97 ?_
                    refine m_ald hok hΓ 21 (by decide) rfl (n := 56) rfl (by omega) (by decide) dX3_own_98 ?_
                    refine g_if_eq (tgt := 108) hΓ (by omega) dX3_own_99 (by decide) (fun c4 => ?_) (fun c4 => ?_)
                    · obtain ⟨x5, ex5⟩ : ∃ z9 : Int, z9 = j + 1 := ⟨_, rfl⟩
                      refine g_iinc hΓ dX3_own_108 rfl rfl (lv' := [some (.ref h), some (.int (iI x5)), some (.int (iI n)), none]) (by rw [ex5]; rfl) ?_
                      obtain ⟨x6, ex6⟩ : ∃ z9 : Int, z9 = n + 1 := ⟨_, rfl⟩
                      refine g_iinc hΓ dX3_own_111 rfl rfl (lv' := [some (.ref h), some (.int (iI x5)), some (.int (iI x6)), none]) (by rw [ex6]; rfl) ?_
                      refine g_goto (tgt := 4) hΓ dX3_own_114 (by decide) ?_
                      exact ih_loop x5 x6 (by omega) (by omega) (by rw [show x6 = n + 1 by omega, hB]; omega) (by rw [← hS, show x6 = n + 1 by omega, show (10 - n).toNat = (10 - (n + 1)).toNat + 1 by omega, owF, if_neg hno])
                    · obtain ⟨x7, ex7⟩ : ∃ z9 : Int, z9 = j + 1 := ⟨_, rfl⟩
                      refine g_iinc hΓ dX3_own_102 rfl rfl (lv' := [some (.ref h), some (.int (iI x7)), some (.int (iI n)), none]) (by rw [ex7]; rfl) ?_
                      refine g_goto (tgt := 93) hΓ dX3_own_105 (by decide) ?_
                      exact ih_loop3 x7 (by omega) (by omega)
                refine g_lvw (lv' := [some (.ref h), some (.int (iI k)), some (.int (iI n)), none]) ⟨rfl, ⟨rfl, ⟨rfl, trivial⟩⟩⟩ ?_
                exact loop3 57 k (by omega) (by omega)
              · refine g_aload_n hΓ rfl dX3_own_78 ?_
                refine m_geti hok hΓ 18 (by decide) rfl rfl q1375 rfl dX3_own_79 ?_
                refine g_iload_n hΓ rfl dX3_own_82 ?_
                refine g_iadd hΓ dX3_own_83 ?_
                refine g_aload_n hΓ rfl dX3_own_84 ?_
                refine m_geti hok hΓ 17 (by decide) rfl rfl q1374 rfl dX3_own_85 ?_
                refine g_icmp_ne (tgt := 93) hΓ (by omega) (by omega) dX3_own_88 (by decide) (fun c8 => ?_) (fun c8 => ?_)
                · have hno : ¬ owM σ n := fun z => by
                    obtain ⟨z1, z2⟩ := z
                    first
                    | omega
                    | (have y := owE_at z2 i (by omega) (by omega); rw [← hk] at y; omega)
                  have loop3 : ∀ (fu : Nat) (j : Int), (oB n + oN n - j).toNat < fu → (oB n ≤ j ∧ j ≤ oB n + oN n) → gW Γ E (mM E h ad σ) 0 0 93 [some (.ref h), some (.int (iI j)), some (.int (iI n)), none] [] := by
                    intro fu
                    induction fu with
                    | zero => intro j hn; exact absurd hn (Nat.not_lt_zero _)
                    | succ fu ih_loop3 =>
                      intro j hn hj
                      have hoj := ho j (by omega) (by omega)
                      have hjz : j < oB n + oN n → 1 ≤ owL j ∧ owL j ≤ 26 := fun y => by
                        have x := hL (j - oB n) (by omega) (by omega)
                        rw [show oB n + (j - oB n) = j by omega] at x
                        exact x
                      have hjn : j = oB n + oN n → owL j = 0 := fun z => by rw [z]; exact hZ
                      refine g_aload_n hΓ rfl dX3_own_93 ?_
                      refine m_geta hok hΓ 21 (by decide) rfl rfl q1378 rfl dX3_own_94 ?_
                      refine g_iload_n hΓ rfl dX3_own_97 ?_
                      refine m_ald hok hΓ 21 (by decide) rfl (n := 56) rfl (by omega) (by decide) dX3_own_98 ?_
                      refine g_if_eq (tgt := 108) hΓ (by omega) dX3_own_99 (by decide) (fun c9 => ?_) (fun c9 => ?_)
                      · obtain ⟨x10, ex10⟩ : ∃ z9 : Int, z9 = j + 1 := ⟨_, rfl⟩
                        refine g_iinc hΓ dX3_own_108 rfl rfl (lv' := [some (.ref h), some (.int (iI x10)), some (.int (iI n)), none]) (by rw [ex10]; rfl) ?_
                        obtain ⟨x11, ex11⟩ : ∃ z9 : Int, z9 = n + 1 := ⟨_, rfl⟩
                        refine g_iinc hΓ dX3_own_111 rfl rfl (lv' := [some (.ref h), some (.int (iI x10)), some (.int (iI x11)), none]) (by rw [ex11]; rfl) ?_
                        refine g_goto (tgt := 4) hΓ dX3_own_114 (by decide) ?_
                        exact ih_loop x10 x11 (by omega) (by omega) (by rw [show x11 = n + 1 by omega, hB]; omega) (by rw [← hS, show x11 = n + 1 by omega, show (10 - n).toNat = (10 - (n + 1)).toNat + 1 by omega, owF, if_neg hno])
                      · obtain ⟨x12, ex12⟩ : ∃ z9 : Int, z9 = j + 1 := ⟨_, rfl⟩
                        refine g_iinc hΓ dX3_own_102 rfl rfl (lv' := [some (.ref h), some (.int (iI x12)), some (.int (iI n)), none]) (by rw [ex12]; rfl) ?_
                        refine g_goto (tgt := 93) hΓ dX3_own_105 (by decide) ?_
                        exact ih_loop3 x12 (by omega) (by omega)
                  refine g_lvw (lv' := [some (.ref h), some (.int (iI k)), some (.int (iI n)), none]) ⟨rfl, ⟨rfl, ⟨rfl, trivial⟩⟩⟩ ?_
                  exact loop3 57 k (by omega) (by omega)
                · refine g_iload_n hΓ rfl dX3_own_91 ?_
                  exact m_iret hΓ dX3_own_92 ⟨ri (by rw [← hS, show (10 - n).toNat = (9 - n).toNat + 1 by omega, owF, if_pos ⟨by omega, by rw [show (oN n).toNat = i.toNat by omega]; exact hE⟩]), rfl⟩
            · refine g_aload_n hΓ rfl dX3_own_23 ?_
              refine m_geti hok hΓ 18 (by decide) rfl rfl q1375 rfl dX3_own_24 ?_
              refine g_iload_n hΓ rfl dX3_own_27 ?_
              refine g_iadd hΓ dX3_own_28 ?_
              refine g_aload_n hΓ rfl dX3_own_29 ?_
              refine m_geti hok hΓ 17 (by decide) rfl rfl q1374 rfl dX3_own_30 ?_
              refine g_icmp_ge (tgt := 67) hΓ (by omega) (by omega) dX3_own_33 (by decide) (fun c13 => ?_) (fun c13 => ?_)
              · refine g_aload_n hΓ rfl dX3_own_67 ?_
                refine m_geta hok hΓ 21 (by decide) rfl rfl q1378 rfl dX3_own_68 ?_
                refine g_iload_n hΓ rfl dX3_own_71 ?_
                refine g_iload_n hΓ rfl dX3_own_72 ?_
                refine g_iadd hΓ dX3_own_73 ?_
                refine m_ald hok hΓ 21 (by decide) rfl (n := 56) rfl (by omega) (by decide) dX3_own_74 ?_
                refine g_if_ne (tgt := 93) hΓ (by omega) dX3_own_75 (by decide) (fun c14 => ?_) (fun c14 => ?_)
                · have hno : ¬ owM σ n := fun z => by
                    obtain ⟨z1, z2⟩ := z
                    first
                    | omega
                    | (have y := owE_at z2 i (by omega) (by omega); rw [← hk] at y; omega)
                  have loop3 : ∀ (fu : Nat) (j : Int), (oB n + oN n - j).toNat < fu → (oB n ≤ j ∧ j ≤ oB n + oN n) → gW Γ E (mM E h ad σ) 0 0 93 [some (.ref h), some (.int (iI j)), some (.int (iI n)), none] [] := by
                    intro fu
                    induction fu with
                    | zero => intro j hn; exact absurd hn (Nat.not_lt_zero _)
                    | succ fu ih_loop3 =>
                      intro j hn hj
                      have hoj := ho j (by omega) (by omega)
                      have hjz : j < oB n + oN n → 1 ≤ owL j ∧ owL j ≤ 26 := fun y => by
                        have x := hL (j - oB n) (by omega) (by omega)
                        rw [show oB n + (j - oB n) = j by omega] at x
                        exact x
                      have hjn : j = oB n + oN n → owL j = 0 := fun z => by rw [z]; exact hZ
                      refine g_aload_n hΓ rfl dX3_own_93 ?_
                      refine m_geta hok hΓ 21 (by decide) rfl rfl q1378 rfl dX3_own_94 ?_
                      refine g_iload_n hΓ rfl dX3_own_97 ?_
                      refine m_ald hok hΓ 21 (by decide) rfl (n := 56) rfl (by omega) (by decide) dX3_own_98 ?_
                      refine g_if_eq (tgt := 108) hΓ (by omega) dX3_own_99 (by decide) (fun c15 => ?_) (fun c15 => ?_)
                      · obtain ⟨x16, ex16⟩ : ∃ z9 : Int, z9 = j + 1 := ⟨_, rfl⟩
                        refine g_iinc hΓ dX3_own_108 rfl rfl (lv' := [some (.ref h), some (.int (iI x16)), some (.int (iI n)), none]) (by rw [ex16]; rfl) ?_
                        obtain ⟨x17, ex17⟩ : ∃ z9 : Int, z9 = n + 1 := ⟨_, rfl⟩
                        refine g_iinc hΓ dX3_own_111 rfl rfl (lv' := [some (.ref h), some (.int (iI x16)), some (.int (iI x17)), none]) (by rw [ex17]; rfl) ?_
                        refine g_goto (tgt := 4) hΓ dX3_own_114 (by decide) ?_
                        exact ih_loop x16 x17 (by omega) (by omega) (by rw [show x17 = n + 1 by omega, hB]; omega) (by rw [← hS, show x17 = n + 1 by omega, show (10 - n).toNat = (10 - (n + 1)).toNat + 1 by omega, owF, if_neg hno])
                      · obtain ⟨x18, ex18⟩ : ∃ z9 : Int, z9 = j + 1 := ⟨_, rfl⟩
                        refine g_iinc hΓ dX3_own_102 rfl rfl (lv' := [some (.ref h), some (.int (iI x18)), some (.int (iI n)), none]) (by rw [ex18]; rfl) ?_
                        refine g_goto (tgt := 93) hΓ dX3_own_105 (by decide) ?_
                        exact ih_loop3 x18 (by omega) (by omega)
                  refine g_lvw (lv' := [some (.ref h), some (.int (iI k)), some (.int (iI n)), none]) ⟨rfl, ⟨rfl, ⟨rfl, trivial⟩⟩⟩ ?_
                  exact loop3 57 k (by omega) (by omega)
                · refine g_aload_n hΓ rfl dX3_own_78 ?_
                  refine m_geti hok hΓ 18 (by decide) rfl rfl q1375 rfl dX3_own_79 ?_
                  refine g_iload_n hΓ rfl dX3_own_82 ?_
                  refine g_iadd hΓ dX3_own_83 ?_
                  refine g_aload_n hΓ rfl dX3_own_84 ?_
                  refine m_geti hok hΓ 17 (by decide) rfl rfl q1374 rfl dX3_own_85 ?_
                  refine g_icmp_ne (tgt := 93) hΓ (by omega) (by omega) dX3_own_88 (by decide) (fun c19 => ?_) (fun c19 => ?_)
                  · have hno : ¬ owM σ n := fun z => by
                      obtain ⟨z1, z2⟩ := z
                      first
                      | omega
                      | (have y := owE_at z2 i (by omega) (by omega); rw [← hk] at y; omega)
                    have loop3 : ∀ (fu : Nat) (j : Int), (oB n + oN n - j).toNat < fu → (oB n ≤ j ∧ j ≤ oB n + oN n) → gW Γ E (mM E h ad σ) 0 0 93 [some (.ref h), some (.int (iI j)), some (.int (iI n)), none] [] := by
                      intro fu
                      induction fu with
                      | zero => intro j hn; exact absurd hn (Nat.not_lt_zero _)
                      | succ fu ih_loop3 =>
                        intro j hn hj
                        have hoj := ho j (by omega) (by omega)
                        have hjz : j < oB n + oN n → 1 ≤ owL j ∧ owL j ≤ 26 := fun y => by
                          have x := hL (j - oB n) (by omega) (by omega)
                          rw [show oB n + (j - oB n) = j by omega] at x
                          exact x
                        have hjn : j = oB n + oN n → owL j = 0 := fun z => by rw [z]; exact hZ
                        refine g_aload_n hΓ rfl dX3_own_93 ?_
                        refine m_geta hok hΓ 21 (by decide) rfl rfl q1378 rfl dX3_own_94 ?_
                        refine g_iload_n hΓ rfl dX3_own_97 ?_
                        refine m_ald hok hΓ 21 (by decide) rfl (n := 56) rfl (by omega) (by decide) dX3_own_98 ?_
                        refine g_if_eq (tgt := 108) hΓ (by omega) dX3_own_99 (by decide) (fun c20 => ?_) (fun c20 => ?_)
                        · obtain ⟨x21, ex21⟩ : ∃ z9 : Int, z9 = j + 1 := ⟨_, rfl⟩
                          refine g_iinc hΓ dX3_own_108 rfl rfl (lv' := [some (.ref h), some (.int (iI x21)), some (.int (iI n)), none]) (by rw [ex21]; rfl) ?_
                          obtain ⟨x22, ex22⟩ : ∃ z9 : Int, z9 = n + 1 := ⟨_, rfl⟩
                          refine g_iinc hΓ dX3_own_111 rfl rfl (lv' := [some (.ref h), some (.int (iI x21)), some (.int (iI x22)), none]) (by rw [ex22]; rfl) ?_
                          refine g_goto (tgt := 4) hΓ dX3_own_114 (by decide) ?_
                          exact ih_loop x21 x22 (by omega) (by omega) (by rw [show x22 = n + 1 by omega, hB]; omega) (by rw [← hS, show x22 = n + 1 by omega, show (10 - n).toNat = (10 - (n + 1)).toNat + 1 by omega, owF, if_neg hno])
                        · obtain ⟨x23, ex23⟩ : ∃ z9 : Int, z9 = j + 1 := ⟨_, rfl⟩
                          refine g_iinc hΓ dX3_own_102 rfl rfl (lv' := [some (.ref h), some (.int (iI x23)), some (.int (iI n)), none]) (by rw [ex23]; rfl) ?_
                          refine g_goto (tgt := 93) hΓ dX3_own_105 (by decide) ?_
                          exact ih_loop3 x23 (by omega) (by omega)
                    refine g_lvw (lv' := [some (.ref h), some (.int (iI k)), some (.int (iI n)), none]) ⟨rfl, ⟨rfl, ⟨rfl, trivial⟩⟩⟩ ?_
                    exact loop3 57 k (by omega) (by omega)
                  · refine g_iload_n hΓ rfl dX3_own_91 ?_
                    exact m_iret hΓ dX3_own_92 ⟨ri (by rw [← hS, show (10 - n).toNat = (9 - n).toNat + 1 by omega, owF, if_pos ⟨by omega, by rw [show (oN n).toNat = i.toNat by omega]; exact hE⟩]), rfl⟩
              · have hti := htp (σ 18 0 + i) (by omega) (by omega)
                refine g_aload_n hΓ rfl dX3_own_36 ?_
                refine m_geta hok hΓ 11 (by decide) rfl rfl q1368 rfl dX3_own_37 ?_
                refine g_aload_n hΓ rfl dX3_own_40 ?_
                refine m_geti hok hΓ 18 (by decide) rfl rfl q1375 rfl dX3_own_41 ?_
                refine g_iload_n hΓ rfl dX3_own_44 ?_
                refine g_iadd hΓ dX3_own_45 ?_
                refine m_ald hok hΓ 11 (by decide) rfl (n := 1600) rfl (by omega) (by decide) dX3_own_46 ?_
                refine g_bipush hΓ (by decide) dX3_own_47 ?_
                refine g_isub hΓ dX3_own_49 ?_
                refine g_aload_n hΓ rfl dX3_own_50 ?_
                refine m_geta hok hΓ 21 (by decide) rfl rfl q1378 rfl dX3_own_51 ?_
                refine g_iload_n hΓ rfl dX3_own_54 ?_
                refine g_iload_n hΓ rfl dX3_own_55 ?_
                refine g_iadd hΓ dX3_own_56 ?_
                refine m_ald hok hΓ 21 (by decide) rfl (n := 56) rfl (by omega) (by decide) dX3_own_57 ?_
                refine g_icmp_ne (tgt := 67) hΓ (by omega) (by omega) dX3_own_58 (by decide) (fun c24 => ?_) (fun c24 => ?_)
                · refine g_aload_n hΓ rfl dX3_own_67 ?_
                  refine m_geta hok hΓ 21 (by decide) rfl rfl q1378 rfl dX3_own_68 ?_
                  refine g_iload_n hΓ rfl dX3_own_71 ?_
                  refine g_iload_n hΓ rfl dX3_own_72 ?_
                  refine g_iadd hΓ dX3_own_73 ?_
                  refine m_ald hok hΓ 21 (by decide) rfl (n := 56) rfl (by omega) (by decide) dX3_own_74 ?_
                  refine g_if_ne (tgt := 93) hΓ (by omega) dX3_own_75 (by decide) (fun c25 => ?_) (fun c25 => ?_)
                  · have hno : ¬ owM σ n := fun z => by
                      obtain ⟨z1, z2⟩ := z
                      first
                      | omega
                      | (have y := owE_at z2 i (by omega) (by omega); rw [← hk] at y; omega)
                    have loop3 : ∀ (fu : Nat) (j : Int), (oB n + oN n - j).toNat < fu → (oB n ≤ j ∧ j ≤ oB n + oN n) → gW Γ E (mM E h ad σ) 0 0 93 [some (.ref h), some (.int (iI j)), some (.int (iI n)), none] [] := by
                      intro fu
                      induction fu with
                      | zero => intro j hn; exact absurd hn (Nat.not_lt_zero _)
                      | succ fu ih_loop3 =>
                        intro j hn hj
                        have hoj := ho j (by omega) (by omega)
                        have hjz : j < oB n + oN n → 1 ≤ owL j ∧ owL j ≤ 26 := fun y => by
                          have x := hL (j - oB n) (by omega) (by omega)
                          rw [show oB n + (j - oB n) = j by omega] at x
                          exact x
                        have hjn : j = oB n + oN n → owL j = 0 := fun z => by rw [z]; exact hZ
                        refine g_aload_n hΓ rfl dX3_own_93 ?_
                        refine m_geta hok hΓ 21 (by decide) rfl rfl q1378 rfl dX3_own_94 ?_
                        refine g_iload_n hΓ rfl dX3_own_97 ?_
                        refine m_ald hok hΓ 21 (by decide) rfl (n := 56) rfl (by omega) (by decide) dX3_own_98 ?_
                        refine g_if_eq (tgt := 108) hΓ (by omega) dX3_own_99 (by decide) (fun c26 => ?_) (fun c26 => ?_)
                        · obtain ⟨x27, ex27⟩ : ∃ z9 : Int, z9 = j + 1 := ⟨_, rfl⟩
                          refine g_iinc hΓ dX3_own_108 rfl rfl (lv' := [some (.ref h), some (.int (iI x27)), some (.int (iI n)), none]) (by rw [ex27]; rfl) ?_
                          obtain ⟨x28, ex28⟩ : ∃ z9 : Int, z9 = n + 1 := ⟨_, rfl⟩
                          refine g_iinc hΓ dX3_own_111 rfl rfl (lv' := [some (.ref h), some (.int (iI x27)), some (.int (iI x28)), none]) (by rw [ex28]; rfl) ?_
                          refine g_goto (tgt := 4) hΓ dX3_own_114 (by decide) ?_
                          exact ih_loop x27 x28 (by omega) (by omega) (by rw [show x28 = n + 1 by omega, hB]; omega) (by rw [← hS, show x28 = n + 1 by omega, show (10 - n).toNat = (10 - (n + 1)).toNat + 1 by omega, owF, if_neg hno])
                        · obtain ⟨x29, ex29⟩ : ∃ z9 : Int, z9 = j + 1 := ⟨_, rfl⟩
                          refine g_iinc hΓ dX3_own_102 rfl rfl (lv' := [some (.ref h), some (.int (iI x29)), some (.int (iI n)), none]) (by rw [ex29]; rfl) ?_
                          refine g_goto (tgt := 93) hΓ dX3_own_105 (by decide) ?_
                          exact ih_loop3 x29 (by omega) (by omega)
                    refine g_lvw (lv' := [some (.ref h), some (.int (iI k)), some (.int (iI n)), none]) ⟨rfl, ⟨rfl, ⟨rfl, trivial⟩⟩⟩ ?_
                    exact loop3 57 k (by omega) (by omega)
                  · refine g_aload_n hΓ rfl dX3_own_78 ?_
                    refine m_geti hok hΓ 18 (by decide) rfl rfl q1375 rfl dX3_own_79 ?_
                    refine g_iload_n hΓ rfl dX3_own_82 ?_
                    refine g_iadd hΓ dX3_own_83 ?_
                    refine g_aload_n hΓ rfl dX3_own_84 ?_
                    refine m_geti hok hΓ 17 (by decide) rfl rfl q1374 rfl dX3_own_85 ?_
                    refine g_icmp_ne (tgt := 93) hΓ (by omega) (by omega) dX3_own_88 (by decide) (fun c30 => ?_) (fun c30 => ?_)
                    · have hno : ¬ owM σ n := fun z => by
                        obtain ⟨z1, z2⟩ := z
                        first
                        | omega
                        | (have y := owE_at z2 i (by omega) (by omega); rw [← hk] at y; omega)
                      have loop3 : ∀ (fu : Nat) (j : Int), (oB n + oN n - j).toNat < fu → (oB n ≤ j ∧ j ≤ oB n + oN n) → gW Γ E (mM E h ad σ) 0 0 93 [some (.ref h), some (.int (iI j)), some (.int (iI n)), none] [] := by
                        intro fu
                        induction fu with
                        | zero => intro j hn; exact absurd hn (Nat.not_lt_zero _)
                        | succ fu ih_loop3 =>
                          intro j hn hj
                          have hoj := ho j (by omega) (by omega)
                          have hjz : j < oB n + oN n → 1 ≤ owL j ∧ owL j ≤ 26 := fun y => by
                            have x := hL (j - oB n) (by omega) (by omega)
                            rw [show oB n + (j - oB n) = j by omega] at x
                            exact x
                          have hjn : j = oB n + oN n → owL j = 0 := fun z => by rw [z]; exact hZ
                          refine g_aload_n hΓ rfl dX3_own_93 ?_
                          refine m_geta hok hΓ 21 (by decide) rfl rfl q1378 rfl dX3_own_94 ?_
                          refine g_iload_n hΓ rfl dX3_own_97 ?_
                          refine m_ald hok hΓ 21 (by decide) rfl (n := 56) rfl (by omega) (by decide) dX3_own_98 ?_
                          refine g_if_eq (tgt := 108) hΓ (by omega) dX3_own_99 (by decide) (fun c31 => ?_) (fun c31 => ?_)
                          · obtain ⟨x32, ex32⟩ : ∃ z9 : Int, z9 = j + 1 := ⟨_, rfl⟩
                            refine g_iinc hΓ dX3_own_108 rfl rfl (lv' := [some (.ref h), some (.int (iI x32)), some (.int (iI n)), none]) (by rw [ex32]; rfl) ?_
                            obtain ⟨x33, ex33⟩ : ∃ z9 : Int, z9 = n + 1 := ⟨_, rfl⟩
                            refine g_iinc hΓ dX3_own_111 rfl rfl (lv' := [some (.ref h), some (.int (iI x32)), some (.int (iI x33)), none]) (by rw [ex33]; rfl) ?_
                            refine g_goto (tgt := 4) hΓ dX3_own_114 (by decide) ?_
                            exact ih_loop x32 x33 (by omega) (by omega) (by rw [show x33 = n + 1 by omega, hB]; omega) (by rw [← hS, show x33 = n + 1 by omega, show (10 - n).toNat = (10 - (n + 1)).toNat + 1 by omega, owF, if_neg hno])
                          · obtain ⟨x34, ex34⟩ : ∃ z9 : Int, z9 = j + 1 := ⟨_, rfl⟩
                            refine g_iinc hΓ dX3_own_102 rfl rfl (lv' := [some (.ref h), some (.int (iI x34)), some (.int (iI n)), none]) (by rw [ex34]; rfl) ?_
                            refine g_goto (tgt := 93) hΓ dX3_own_105 (by decide) ?_
                            exact ih_loop3 x34 (by omega) (by omega)
                      refine g_lvw (lv' := [some (.ref h), some (.int (iI k)), some (.int (iI n)), none]) ⟨rfl, ⟨rfl, ⟨rfl, trivial⟩⟩⟩ ?_
                      exact loop3 57 k (by omega) (by omega)
                    · refine g_iload_n hΓ rfl dX3_own_91 ?_
                      exact m_iret hΓ dX3_own_92 ⟨ri (by rw [← hS, show (10 - n).toNat = (9 - n).toNat + 1 by omega, owF, if_pos ⟨by omega, by rw [show (oN n).toNat = i.toNat by omega]; exact hE⟩]), rfl⟩
                · obtain ⟨x35, ex35⟩ : ∃ z9 : Int, z9 = i + 1 := ⟨_, rfl⟩
                  refine g_iinc hΓ dX3_own_61 rfl rfl (lv' := [some (.ref h), some (.int (iI k)), some (.int (iI n)), some (.int (iI x35))]) (by rw [ex35]; rfl) ?_
                  refine g_goto (tgt := 12) hΓ dX3_own_64 (by decide) ?_
                  exact ih_loop2 x35 (by omega) (by omega) (by rw [show x35.toNat = i.toNat + 1 by omega, owE, hE, Bool.true_and, show ((i.toNat : Nat) : Int) = i by omega, ← hk]; exact decide_eq_true (by omega))
        exact loop2 7 0 (by omega) (by omega) rfl
  exact loop 11 0 0 (by omega) (by omega) rfl rfl
