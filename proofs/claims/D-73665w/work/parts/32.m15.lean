set_option maxRecDepth 100000
set_option maxHeartbeats 4000000 in
theorem m_joins {l : Launch} {E : gE} {h : Nat} {ad : Nat → Nat} (hok : mOK E h ad) (σ : mS)  (a : Int) (b : Int) (ha : 0 ≤ a ∧ a < 8) (hb : 0 ≤ b ∧ b < 8) (hn : 0 ≤ σ 0 1000 ∧ σ 0 1000 ≤ 8) (hg : ∀ m, 0 ≤ m → m < 8 → 0 ≤ σ 31 m ∧ σ 31 m < 8) : mC l E h ad yX3_joins cX3_joins 6 none 1 [.ref h, .int (iI a), .int (iI b)] σ (fun rv σ' => rv = none ∧ (σ' 31 = jnF (σ 31) a b (σ 0 1000)) ∧ ∀ (k : Nat) (j : Int), k ∉ [31] → σ' k j = σ k j) := by
  refine mC.of (by decide) [some (.ref h), some (.int (iI a)), some (.int (iI b)), none, none, none] (Nat.le_of_ble_eq_true rfl) rfl rfl (fun Γ hΓ => ?_)
  have hga := hg a ha.1 ha.2
  have hgb := hg b hb.1 hb.2
  refine g_aload_n hΓ rfl dX3_joins_0 ?_
  refine m_geta hok hΓ 31 (by decide) rfl rfl q1388 rfl dX3_joins_1 ?_
  refine g_iload_n hΓ rfl dX3_joins_4 ?_
  refine m_ald hok hΓ 31 (by decide) rfl (n := 8) rfl (by omega) (by decide) dX3_joins_5 ?_
  refine g_aload_n hΓ rfl dX3_joins_6 ?_
  refine m_geta hok hΓ 31 (by decide) rfl rfl q1388 rfl dX3_joins_7 ?_
  refine g_iload_n hΓ rfl dX3_joins_10 ?_
  refine m_ald hok hΓ 31 (by decide) rfl (n := 8) rfl (by omega) (by decide) dX3_joins_11 ?_
  refine m_callS (As := [.int (iI (σ 31 a)), .int (iI (σ 31 b))]) (rest := []) hok hΓ (m_lesser hok σ (σ 31 a) (σ 31 b) (by first | assumption | omega) (by first | assumption | omega)) rfl q1674 q1675 q131 q1676 ndX3_lesser rfl (by decide) (by decide) rfl (Nat.le_of_ble_eq_true rfl) dX3_joins_12 rfl (fun v1 τ1 τ1h => ?_)
  obtain ⟨rfl, τ1h⟩ := τ1h
  rw [τ1h]
  clear τ1h
  show gW Γ E (mM E h ad σ) 0 0 _ _ (.int (iI (min (σ 31 a) (σ 31 b))) :: _)
  obtain ⟨x2, ex2⟩ : ∃ z9 : Int, z9 = min (σ 31 a) (σ 31 b) := ⟨_, rfl⟩
  refine g_topi ex2.symm ?_
  refine g_istore_n hΓ dX3_joins_15 rfl (Nat.le_of_ble_eq_true rfl) (lv' := [some (.ref h), some (.int (iI a)), some (.int (iI b)), some (.int (iI x2)), none, none]) rfl ?_
  refine g_aload_n hΓ rfl dX3_joins_16 ?_
  refine m_geta hok hΓ 31 (by decide) rfl rfl q1388 rfl dX3_joins_17 ?_
  refine g_iload_n hΓ rfl dX3_joins_20 ?_
  refine m_ald hok hΓ 31 (by decide) rfl (n := 8) rfl (by omega) (by decide) dX3_joins_21 ?_
  refine g_aload_n hΓ rfl dX3_joins_22 ?_
  refine m_geta hok hΓ 31 (by decide) rfl rfl q1388 rfl dX3_joins_23 ?_
  refine g_iload_n hΓ rfl dX3_joins_26 ?_
  refine m_ald hok hΓ 31 (by decide) rfl (n := 8) rfl (by omega) (by decide) dX3_joins_27 ?_
  refine m_callS (As := [.int (iI (σ 31 a)), .int (iI (σ 31 b))]) (rest := []) hok hΓ (m_greater hok σ (σ 31 a) (σ 31 b) (by first | assumption | omega) (by first | assumption | omega)) rfl q1693 q1694 q131 q1695 ndX3_greater rfl (by decide) (by decide) rfl (Nat.le_of_ble_eq_true rfl) dX3_joins_28 rfl (fun v3 τ3 τ3h => ?_)
  obtain ⟨rfl, τ3h⟩ := τ3h
  rw [τ3h]
  clear τ3h
  show gW Γ E (mM E h ad σ) 0 0 _ _ (.int (iI (max (σ 31 a) (σ 31 b))) :: _)
  obtain ⟨x4, ex4⟩ : ∃ z9 : Int, z9 = max (σ 31 a) (σ 31 b) := ⟨_, rfl⟩
  refine g_topi ex4.symm ?_
  refine g_istore hΓ dX3_joins_31 rfl (Nat.le_of_ble_eq_true rfl) (lv' := [some (.ref h), some (.int (iI a)), some (.int (iI b)), some (.int (iI x2)), some (.int (iI x4)), none]) rfl ?_
  refine g_iconst hΓ dX3_joins_33 ?_
  refine g_istore hΓ dX3_joins_34 rfl (Nat.le_of_ble_eq_true rfl) (lv' := [some (.ref h), some (.int (iI a)), some (.int (iI b)), some (.int (iI x2)), some (.int (iI x4)), some (.int (iI 0))]) rfl ?_
  have loop : ∀ (fu : Nat) (m : Int) (t : mS), (σ 0 1000 - m).toNat < fu → (0 ≤ m ∧ m ≤ σ 0 1000) → (∀ j, t 31 j = if j < m then jnF (σ 31) a b (σ 0 1000) j else σ 31 j) → (∀ (k : Nat) (j : Int), k ∉ [31] → t k j = σ k j) → gW Γ E (mM E h ad t) 0 0 36 [some (.ref h), some (.int (iI a)), some (.int (iI b)), some (.int (iI x2)), some (.int (iI x4)), some (.int (iI m))] [] := by
    intro fu
    induction fu with
    | zero => intro m t hn; exact absurd hn (Nat.not_lt_zero _)
    | succ fu ih_loop =>
      intro m t hn hm hA tf
      refine g_iload hΓ rfl dX3_joins_36 ?_
      refine g_aload_n hΓ rfl dX3_joins_38 ?_
      refine m_geta hok hΓ 0 (by decide) rfl rfl q1357 rfl dX3_joins_39 ?_
      refine g_sipush hΓ (by decide) dX3_joins_42 ?_
      refine m_ald hok hΓ 0 (by decide) rfl (n := 1048) rfl (by omega) (by decide) dX3_joins_45 ?_
      refine g_topi ((tf 0 1000 (by decide))) ?_
      refine g_icmp_ge (tgt := 85) hΓ (by omega) (by omega) dX3_joins_46 (by decide) (fun c5 => ?_) (fun c5 => ?_)
      · exact m_vret hΓ dX3_joins_85 ⟨rfl, funext fun j => by rw [hA j]; by_cases z : j < m; rw [if_pos z]; rw [if_neg z, jnF, if_neg (by omega)], tf⟩
      · have hAm := hA m
        rw [if_neg (by omega)] at hAm
        have hgm := hg m (by omega) (by omega)
        refine g_aload_n hΓ rfl dX3_joins_49 ?_
        refine m_geta hok hΓ 31 (by decide) rfl rfl q1388 rfl dX3_joins_50 ?_
        refine g_iload hΓ rfl dX3_joins_53 ?_
        refine g_aload_n hΓ rfl dX3_joins_55 ?_
        refine m_geta hok hΓ 31 (by decide) rfl rfl q1388 rfl dX3_joins_56 ?_
        refine g_iload hΓ rfl dX3_joins_59 ?_
        refine m_ald hok hΓ 31 (by decide) rfl (n := 8) rfl (by omega) (by decide) dX3_joins_61 ?_
        refine g_iload hΓ rfl dX3_joins_62 ?_
        refine g_icmp_ne (tgt := 71) hΓ (by omega) (by omega) dX3_joins_64 (by decide) (fun c6 => ?_) (fun c6 => ?_)
        · refine g_aload_n hΓ rfl dX3_joins_71 ?_
          refine m_geta hok hΓ 31 (by decide) rfl rfl q1388 rfl dX3_joins_72 ?_
          refine g_iload hΓ rfl dX3_joins_75 ?_
          refine m_ald hok hΓ 31 (by decide) rfl (n := 8) rfl (by omega) (by decide) dX3_joins_77 ?_
          refine m_ast hok hΓ 31 (by decide) rfl (n := 8) rfl (by omega) (by decide) dX3_joins_78 (fun τ7 τ7e => ?_)
          have τ7r : τ7 31 m = t 31 m := by rw [τ7e]; exact us_s _ _ _ _
          have τ7f : ∀ (k9 : Nat) (j9 : Int), (k9 ≠ 31 ∨ j9 ≠ m) → τ7 k9 j9 = t k9 j9 := fun k9 j9 hh => by rw [τ7e]; exact us_n hh
          obtain ⟨x8, ex8⟩ : ∃ z9 : Int, z9 = m + 1 := ⟨_, rfl⟩
          refine g_iinc hΓ dX3_joins_79 rfl rfl (lv' := [some (.ref h), some (.int (iI a)), some (.int (iI b)), some (.int (iI x2)), some (.int (iI x4)), some (.int (iI x8))]) (by rw [ex8]; rfl) ?_
          refine g_goto (tgt := 36) hΓ dX3_joins_82 (by decide) ?_
          exact ih_loop x8 τ7 (by omega) (by omega) (fun j => by
              by_cases q : j = m
              · subst q
                rw [τ7r, if_pos (by omega), jnF, ← ex4, ← ex2]
                first | rw [if_pos ⟨by omega, by omega, by omega⟩] | (rw [if_neg (by omega)]; omega)
              · rw [τ7f 31 j (Or.inr q), hA j]
                by_cases z : j < m
                · rw [if_pos z, if_pos (by omega)]
                · rw [if_neg z, if_neg (by omega)]) (fun k' j' hk' => (τ7f k' j' (Or.inl (fun e => hk' (by rw [e]; decide)))).trans (tf k' j' hk'))
        · refine g_iload_n hΓ rfl dX3_joins_67 ?_
          refine g_goto (tgt := 78) hΓ dX3_joins_68 (by decide) ?_
          refine m_ast hok hΓ 31 (by decide) rfl (n := 8) rfl (by omega) (by decide) dX3_joins_78 (fun τ9 τ9e => ?_)
          have τ9r : τ9 31 m = x2 := by rw [τ9e]; exact us_s _ _ _ _
          have τ9f : ∀ (k9 : Nat) (j9 : Int), (k9 ≠ 31 ∨ j9 ≠ m) → τ9 k9 j9 = t k9 j9 := fun k9 j9 hh => by rw [τ9e]; exact us_n hh
          obtain ⟨x10, ex10⟩ : ∃ z9 : Int, z9 = m + 1 := ⟨_, rfl⟩
          refine g_iinc hΓ dX3_joins_79 rfl rfl (lv' := [some (.ref h), some (.int (iI a)), some (.int (iI b)), some (.int (iI x2)), some (.int (iI x4)), some (.int (iI x10))]) (by rw [ex10]; rfl) ?_
          refine g_goto (tgt := 36) hΓ dX3_joins_82 (by decide) ?_
          exact ih_loop x10 τ9 (by omega) (by omega) (fun j => by
              by_cases q : j = m
              · subst q
                rw [τ9r, if_pos (by omega), jnF, ← ex4, ← ex2]
                first | rw [if_pos ⟨by omega, by omega, by omega⟩] | (rw [if_neg (by omega)]; omega)
              · rw [τ9f 31 j (Or.inr q), hA j]
                by_cases z : j < m
                · rw [if_pos z, if_pos (by omega)]
                · rw [if_neg z, if_neg (by omega)]) (fun k' j' hk' => (τ9f k' j' (Or.inl (fun e => hk' (by rw [e]; decide)))).trans (tf k' j' hk'))
  exact loop 9 0 σ (by omega) (by omega) (fun j => by by_cases z : j < 0; rw [if_pos z, jnF, if_neg (by omega)]; rw [if_neg z]) (fun k j _ => rfl)
set_option maxHeartbeats 4000000 in
theorem m_laysGroups {l : Launch} {E : gE} {h : Nat} {ad : Nat → Nat} (hok : mOK E h ad) (σ : mS)   (hr : rowOK (σ 0)) : mC l E h ad yX3_laysGroups cX3_laysGroups 3 none 9 [.ref h] σ (fun rv σ' => rv = none ∧ (∀ m, 0 ≤ m → m < 8 → σ' 31 m = grE σ m ∧ (0 ≤ grE σ m ∧ grE σ m < 8)) ∧ ∀ (k : Nat) (j : Int), k ∉ [22, 23, 24, 25, 26, 27, 28, 29, 31] → σ' k j = σ k j) := by
  refine mC.of (by decide) [some (.ref h), none, none] (Nat.le_of_ble_eq_true rfl) rfl rfl (fun Γ hΓ => ?_)
  obtain ⟨h1000, h1009, h1042, h1043, h1044, h1045, h1046, h1047, hms, hsi, hsm, hnm⟩ := id hr
  refine g_iconst hΓ dX3_laysGroups_0 ?_
  refine g_istore_n hΓ dX3_laysGroups_1 rfl (Nat.le_of_ble_eq_true rfl) (lv' := [some (.ref h), some (.int (iI 0)), none]) rfl ?_
  have loop0 : ∀ (fu : Nat) (m : Int) (t : mS), (8 - m).toNat < fu → (0 ≤ m ∧ m ≤ 8) → (∀ j, 0 ≤ j → j < m → t 31 j = j) → (∀ (k : Nat) (j : Int), k ∉ [22, 23, 24, 25, 26, 27, 28, 29, 31] → t k j = σ k j) → gW Γ E (mM E h ad t) 0 0 2 [some (.ref h), some (.int (iI m)), none] [] := by
    intro fu
    induction fu with
    | zero => intro m t hn; exact absurd hn (Nat.not_lt_zero _)
    | succ fu ih_loop0 =>
      intro m t hn hm hA tf
      refine g_iload_n hΓ rfl dX3_laysGroups_2 ?_
      refine g_bipush hΓ (by decide) dX3_laysGroups_3 ?_
      refine g_icmp_ge (tgt := 21) hΓ (by omega) (by omega) dX3_laysGroups_5 (by decide) (fun c1 => ?_) (fun c1 => ?_)
      · refine g_iconst hΓ dX3_laysGroups_21 ?_
        refine g_istore_n hΓ dX3_laysGroups_22 rfl (Nat.le_of_ble_eq_true rfl) (lv' := [some (.ref h), some (.int (iI 0)), none]) rfl ?_
        have loop : ∀ (fu : Nat) (a : Int) (g0 : Int → Int) (t : mS), (σ 0 1000 - a).toNat < fu → (0 ≤ a ∧ a ≤ σ 0 1000) → (∀ m, 0 ≤ m → m < 8 → t 31 m = g0 m) → (∀ m, 0 ≤ m → m < 8 → 0 ≤ g0 m ∧ g0 m < 8) → (grO (sc2 σ) (σ 0 1046) (σ 0 1000) (σ 0 1000 - a).toNat a g0 = grE σ) → (∀ (k : Nat) (j : Int), k ∉ [22, 23, 24, 25, 26, 27, 28, 29, 31] → t k j = σ k j) → gW Γ E (mM E h ad t) 0 0 23 [some (.ref h), some (.int (iI a)), none] [] := by
          intro fu
          induction fu with
          | zero => intro a g0 t hn; exact absurd hn (Nat.not_lt_zero _)
          | succ fu ih_loop =>
            intro a g0 t hn ha hG hgr hv tf
            refine g_iload_n hΓ rfl dX3_laysGroups_23 ?_
            refine g_aload_n hΓ rfl dX3_laysGroups_24 ?_
            refine m_geta hok hΓ 0 (by decide) rfl rfl q1357 rfl dX3_laysGroups_25 ?_
            refine g_sipush hΓ (by decide) dX3_laysGroups_28 ?_
            refine m_ald hok hΓ 0 (by decide) rfl (n := 1048) rfl (by omega) (by decide) dX3_laysGroups_31 ?_
            refine g_topi ((tf 0 1000 (by decide))) ?_
            refine g_icmp_ge (tgt := 86) hΓ (by omega) (by omega) dX3_laysGroups_32 (by decide) (fun c2 => ?_) (fun c2 => ?_)
            · exact m_vret hΓ dX3_laysGroups_86 ⟨rfl, (fun m q0 q1 => by rw [hG m q0 q1, ← hv, show (σ 0 1000 - a).toNat = 0 by omega]; exact ⟨rfl, hgr m q0 q1⟩), tf⟩
            · refine g_iload_n hΓ rfl dX3_laysGroups_35 ?_
              refine g_iconst hΓ dX3_laysGroups_36 ?_
              refine g_iadd hΓ dX3_laysGroups_37 ?_
              obtain ⟨x3, ex3⟩ : ∃ z9 : Int, z9 = a + 1 := ⟨_, rfl⟩
              refine g_topi ex3.symm ?_
              refine g_istore_n hΓ dX3_laysGroups_38 rfl (Nat.le_of_ble_eq_true rfl) (lv' := [some (.ref h), some (.int (iI a)), some (.int (iI x3))]) rfl ?_
              have loop2 : ∀ (fu : Nat) (b : Int) (g : Int → Int) (t : mS), (σ 0 1000 - b).toNat < fu → (a < b ∧ b ≤ σ 0 1000) → (∀ m, 0 ≤ m → m < 8 → t 31 m = g m) → (∀ m, 0 ≤ m → m < 8 → 0 ≤ g m ∧ g m < 8) → (grJ (sc2 σ) (σ 0 1046) (σ 0 1000) a (σ 0 1000 - b).toNat b g = grJ (sc2 σ) (σ 0 1046) (σ 0 1000) a (σ 0 1000 - (a + 1)).toNat (a + 1) g0) → (∀ (k : Nat) (j : Int), k ∉ [22, 23, 24, 25, 26, 27, 28, 29, 31] → t k j = σ k j) → gW Γ E (mM E h ad t) 0 0 39 [some (.ref h), some (.int (iI a)), some (.int (iI b))] [] := by
                intro fu
                induction fu with
                | zero => intro b g t hn; exact absurd hn (Nat.not_lt_zero _)
                | succ fu ih_loop2 =>
                  intro b g t hn hb hG hgr hv2 tf
                  have t0 : t 0 = σ 0 := funext fun j => tf 0 j (by decide)
                  have t7 : t 7 = σ 7 := funext fun j => tf 7 j (by decide)
                  have t8 : t 8 = σ 8 := funext fun j => tf 8 j (by decide)
                  have tQ := sc2_same t0 t7 t8
                  have hr1 : rowOK (t 0) := by rw [t0]; exact hr
                  refine g_iload_n hΓ rfl dX3_laysGroups_39 ?_
                  refine g_aload_n hΓ rfl dX3_laysGroups_40 ?_
                  refine m_geta hok hΓ 0 (by decide) rfl rfl q1357 rfl dX3_laysGroups_41 ?_
                  refine g_sipush hΓ (by decide) dX3_laysGroups_44 ?_
                  refine m_ald hok hΓ 0 (by decide) rfl (n := 1048) rfl (by omega) (by decide) dX3_laysGroups_47 ?_
                  refine g_topi ((tf 0 1000 (by decide))) ?_
                  refine g_icmp_ge (tgt := 80) hΓ (by omega) (by omega) dX3_laysGroups_48 (by decide) (fun c4 => ?_) (fun c4 => ?_)
                  · obtain ⟨x5, ex5⟩ : ∃ z9 : Int, z9 = a + 1 := ⟨_, rfl⟩
                    refine g_iinc hΓ dX3_laysGroups_80 rfl rfl (lv' := [some (.ref h), some (.int (iI x5)), some (.int (iI b))]) (by rw [ex5]; rfl) ?_
                    refine g_goto (tgt := 23) hΓ dX3_laysGroups_83 (by decide) ?_
                    refine g_lvw (lv' := [some (.ref h), some (.int (iI x5)), none]) ⟨rfl, ⟨rfl, trivial⟩⟩ ?_
                    exact ih_loop x5 g t (by omega) (by omega) hG hgr (by rw [← hv, show (σ 0 1000 - a).toNat = (σ 0 1000 - x5).toNat + 1 by omega, grO, ← hv2, show (σ 0 1000 - b).toNat = 0 by omega, grJ, ex5]) tf
                  · have hsr := sc2_r hr (x := a) (y := b) (by omega) (by omega)
                    refine g_aload_n hΓ rfl dX3_laysGroups_51 ?_
                    refine g_iload_n hΓ rfl dX3_laysGroups_52 ?_
                    refine g_iload_n hΓ rfl dX3_laysGroups_53 ?_
                    refine m_callV (As := [.int (iI a), .int (iI b)]) (rest := []) hok hΓ (m_scoreOfTwo hok t a b (by first | assumption | omega | (rw [t0]; omega) | (simp only [isL, t0]; omega)) (by first | assumption | omega | (rw [t0]; omega) | (simp only [isL, t0]; omega)) (by first | assumption | omega | (rw [t0]; omega) | (simp only [isL, t0]; omega))) rfl q1746 q1748 qs95 q131 q1749 ndX3_scoreOfTwo rfl (by decide) (by decide) rfl rfl (Nat.le_of_ble_eq_true rfl) dX3_laysGroups_54 rfl (fun v6 τ6 τ6h => ?_)
                    obtain ⟨rfl, τ6h, τ6f⟩ := τ6h
                    show gW Γ E (mM E h ad τ6) 0 0 _ _ (.int (iI (sc2 t a b)) :: _)
                    refine g_topi (show (sc2 t a b : Int) = (sc2 σ a b) by simp only [tQ]) ?_
                    refine g_aload_n hΓ rfl dX3_laysGroups_57 ?_
                    refine m_geta hok hΓ 0 (by decide) rfl rfl q1357 rfl dX3_laysGroups_58 ?_
                    refine g_sipush hΓ (by decide) dX3_laysGroups_61 ?_
                    refine m_ald hok hΓ 0 (by decide) rfl (n := 1048) rfl (by omega) (by decide) dX3_laysGroups_64 ?_
                    refine g_topi (((τ6f 0 1046 (by decide)).trans (tf 0 1046 (by decide)))) ?_
                    refine g_icmp_ge (tgt := 74) hΓ (by omega) (by omega) dX3_laysGroups_65 (by decide) (fun c7 => ?_) (fun c7 => ?_)
                    · obtain ⟨x8, ex8⟩ : ∃ z9 : Int, z9 = b + 1 := ⟨_, rfl⟩
                      refine g_iinc hΓ dX3_laysGroups_74 rfl rfl (lv' := [some (.ref h), some (.int (iI a)), some (.int (iI x8))]) (by rw [ex8]; rfl) ?_
                      refine g_goto (tgt := 39) hΓ dX3_laysGroups_77 (by decide) ?_
                      exact ih_loop2 x8 g τ6 (by omega) (by omega) (fun m q0 q1 => (τ6f 31 m (by decide)).trans (hG m q0 q1)) hgr (by rw [← hv2, show (σ 0 1000 - b).toNat = (σ 0 1000 - x8).toNat + 1 by omega, grJ, if_neg (by omega), ex8]) (fun k j hk => ((τ6f k j (fun e => hk ((show ∀ x ∈ [22, 23, 24, 25, 26, 27, 28, 29], x ∈ [22, 23, 24, 25, 26, 27, 28, 29, 31] by decide) k e))).trans (tf k j (fun e => hk ((show ∀ x ∈ [22, 23, 24, 25, 26, 27, 28, 29, 31], x ∈ [22, 23, 24, 25, 26, 27, 28, 29, 31] by decide) k e)))))
                    · have hn1 : 0 ≤ τ6 0 1000 ∧ τ6 0 1000 ≤ 8 := by rw [show τ6 0 1000 = σ 0 1000 from ((τ6f 0 1000 (by decide)).trans (tf 0 1000 (by decide)))]; exact h1000
                      have e31 : ∀ j, τ6 31 j = t 31 j := fun j => τ6f 31 j (by decide)
                      have hg1 : ∀ m, 0 ≤ m → m < 8 → 0 ≤ τ6 31 m ∧ τ6 31 m < 8 := fun m q0 q1 => by rw [e31, hG m q0 q1]; exact hgr m q0 q1
                      refine g_aload_n hΓ rfl dX3_laysGroups_68 ?_
                      refine g_iload_n hΓ rfl dX3_laysGroups_69 ?_
                      refine g_iload_n hΓ rfl dX3_laysGroups_70 ?_
                      refine m_callV (As := [.int (iI a), .int (iI b)]) (rest := []) hok hΓ (m_joins hok τ6 a b (by first | assumption | omega) (by first | assumption | omega) (by first | assumption | omega) (by first | assumption | omega)) rfl q1827 q1829 qs106 q131 q1830 ndX3_joins rfl (by decide) (by decide) rfl rfl (Nat.le_of_ble_eq_true rfl) dX3_laysGroups_71 rfl (fun v9 τ9 τ9h => ?_)
                      obtain ⟨rfl, τ9h, τ9f⟩ := τ9h
                      obtain ⟨x10, ex10⟩ : ∃ z9 : Int, z9 = b + 1 := ⟨_, rfl⟩
                      refine g_iinc hΓ dX3_laysGroups_74 rfl rfl (lv' := [some (.ref h), some (.int (iI a)), some (.int (iI x10))]) (by rw [ex10]; rfl) ?_
                      refine g_goto (tgt := 39) hΓ dX3_laysGroups_77 (by decide) ?_
                      exact ih_loop2 x10 (jnF g a b (σ 0 1000)) τ9 (by omega) (by omega) (fun m q0 q1 => by
                          rw [τ9h, show τ6 0 1000 = σ 0 1000 from ((τ6f 0 1000 (by decide)).trans (tf 0 1000 (by decide))), jnF, jnF, e31, e31, e31, hG m q0 q1, hG a (by omega) (by omega), hG b (by omega) (by omega)]) (jnF_r hgr (by omega) (by omega)) (by rw [← hv2, show (σ 0 1000 - b).toNat = (σ 0 1000 - x10).toNat + 1 by omega, grJ, if_pos (by omega), ex10]) (fun k j hk => (((τ9f k j (fun e => hk ((show ∀ x ∈ [31], x ∈ [22, 23, 24, 25, 26, 27, 28, 29, 31] by decide) k e))).trans (τ6f k j (fun e => hk ((show ∀ x ∈ [22, 23, 24, 25, 26, 27, 28, 29], x ∈ [22, 23, 24, 25, 26, 27, 28, 29, 31] by decide) k e)))).trans (tf k j (fun e => hk ((show ∀ x ∈ [22, 23, 24, 25, 26, 27, 28, 29, 31], x ∈ [22, 23, 24, 25, 26, 27, 28, 29, 31] by decide) k e)))))
              exact loop2 9 x3 g0 t (by omega) (by omega) hG hgr (by rw [ex3]) tf
        exact loop 9 0 (fun m => m) t (by omega) (by omega) (fun m q0 q1 => hA m q0 (by omega)) (fun m q0 q1 => ⟨q0, q1⟩) (by rw [grE, nMod, Int.sub_zero]) tf
      · refine g_aload_n hΓ rfl dX3_laysGroups_8 ?_
        refine m_geta hok hΓ 31 (by decide) rfl rfl q1388 rfl dX3_laysGroups_9 ?_
        refine g_iload_n hΓ rfl dX3_laysGroups_12 ?_
        refine g_iload_n hΓ rfl dX3_laysGroups_13 ?_
        refine m_ast hok hΓ 31 (by decide) rfl (n := 8) rfl (by omega) (by decide) dX3_laysGroups_14 (fun τ11 τ11e => ?_)
        have τ11r : τ11 31 m = m := by rw [τ11e]; exact us_s _ _ _ _
        have τ11f : ∀ (k9 : Nat) (j9 : Int), (k9 ≠ 31 ∨ j9 ≠ m) → τ11 k9 j9 = t k9 j9 := fun k9 j9 hh => by rw [τ11e]; exact us_n hh
        obtain ⟨x12, ex12⟩ : ∃ z9 : Int, z9 = m + 1 := ⟨_, rfl⟩
        refine g_iinc hΓ dX3_laysGroups_15 rfl rfl (lv' := [some (.ref h), some (.int (iI x12)), none]) (by rw [ex12]; rfl) ?_
        refine g_goto (tgt := 2) hΓ dX3_laysGroups_18 (by decide) ?_
        exact ih_loop0 x12 τ11 (by omega) (by omega) (fun j h0 h1 => by
            by_cases q : j = m
            · subst q; exact τ11r
            · exact (τ11f 31 j (Or.inr q)).trans (hA j h0 (by omega))) (fun k j hk => ((τ11f k j (Or.inl (fun e => hk (by rw [e]; decide)))).trans (tf k j (fun e => hk ((show ∀ x ∈ [22, 23, 24, 25, 26, 27, 28, 29, 31], x ∈ [22, 23, 24, 25, 26, 27, 28, 29, 31] by decide) k e)))))
  exact loop0 9 0 σ (by omega) (by omega) (fun j h0 h1 => absurd h1 (by omega)) (fun k j _ => rfl)
set_option maxHeartbeats 4000000 in
theorem m_group {l : Launch} {E : gE} {h : Nat} {ad : Nat → Nat} (hok : mOK E h ad) (σ : mS)  (m : Int) (hm : r32 m) (hr : rowOK (σ 0)) : mC l E h ad yX3_group cX3_group 2 (some .int) 10 [.ref h, .int (iI m)] σ (fun rv σ' => rv = some (.int (iI (sp_group σ m))) ∧ (True) ∧ ∀ (k : Nat) (j : Int), k ∉ [22, 23, 24, 25, 26, 27, 28, 29, 31] → σ' k j = σ k j) := by
  refine mC.of (by decide) [some (.ref h), some (.int (iI m))] (Nat.le_of_ble_eq_true rfl) rfl rfl (fun Γ hΓ => ?_)
  obtain ⟨h1000, h1009, h1042, h1043, h1044, h1045, h1046, h1047, hms, hsi, hsm, hnm⟩ := id hr
  refine g_aload_n hΓ rfl dX3_group_0 ?_
  refine g_iload_n hΓ rfl dX3_group_1 ?_
  refine m_callV (As := [.int (iI m)]) (rest := []) hok hΓ (m_isModel hok σ m (by first | assumption | omega) (by first | assumption | omega)) rfl q1594 q1596 qs76 q131 q1597 ndX3_isModel rfl (by decide) (by decide) rfl rfl (Nat.le_of_ble_eq_true rfl) dX3_group_2 rfl (fun v1 τ1 τ1h => ?_)
  obtain ⟨rfl, τ1h⟩ := τ1h
  rw [τ1h]
  clear τ1h
  show gW Γ E (mM E h ad σ) 0 0 _ _ (.int (iI (if 0 ≤ m ∧ m < σ 0 1000 then 1 else 0)) :: _)
  refine g_ifB_ne (tgt := 10) hΓ  dX3_group_5 (by decide) (fun c2 => ?_) (fun c2 => ?_)
  · refine g_aload_n hΓ rfl dX3_group_10 ?_
    refine m_callV (As := []) (rest := []) hok hΓ (m_laysGroups hok σ  (by first | assumption | omega)) rfl q1823 q1825 qs105 q131 q1826 ndX3_laysGroups rfl (by decide) (by decide) rfl rfl (Nat.le_of_ble_eq_true rfl) dX3_group_11 rfl (fun v3 τ3 τ3h => ?_)
    obtain ⟨rfl, τ3h, τ3f⟩ := τ3h
    refine g_aload_n hΓ rfl dX3_group_14 ?_
    refine m_geta hok hΓ 31 (by decide) rfl rfl q1388 rfl dX3_group_15 ?_
    refine g_iload_n hΓ rfl dX3_group_18 ?_
    refine m_ald hok hΓ 31 (by decide) rfl (n := 8) rfl (by omega) (by decide) dX3_group_19 ?_
    exact m_iret hΓ dX3_group_20 ⟨ri (by rw [sp_group]; first | (rw [if_neg (by omega)]; done) | (rw [if_pos (by omega)]; exact (τ3h m (by omega) (by omega)).1)), trivial, (fun k j hk => (τ3f k j (fun e => hk ((show ∀ x ∈ [22, 23, 24, 25, 26, 27, 28, 29, 31], x ∈ [22, 23, 24, 25, 26, 27, 28, 29, 31] by decide) k e))))⟩
  · refine g_iconst hΓ dX3_group_8 ?_
    exact m_iret hΓ dX3_group_9 ⟨ri (by rw [sp_group]; first | (rw [if_neg (by omega)]; done) | (rw [if_pos (by omega)]; exact (σh m (by omega) (by omega)).1)), trivial, (fun k j hk => rfl)⟩
set_option maxHeartbeats 4000000 in
theorem m_groups {l : Launch} {E : gE} {h : Nat} {ad : Nat → Nat} (hok : mOK E h ad) (σ : mS)   (hr : rowOK (σ 0)) : mC l E h ad yX3_groups cX3_groups 3 (some .int) 10 [.ref h] σ (fun rv σ' => rv = some (.int (iI (sp_groups σ))) ∧ (True) ∧ ∀ (k : Nat) (j : Int), k ∉ [22, 23, 24, 25, 26, 27, 28, 29, 31] → σ' k j = σ k j) := by
  refine mC.of (by decide) [some (.ref h), none, none] (Nat.le_of_ble_eq_true rfl) rfl rfl (fun Γ hΓ => ?_)
  obtain ⟨h1000, h1009, h1042, h1043, h1044, h1045, h1046, h1047, hms, hsi, hsm, hnm⟩ := id hr
  refine g_aload_n hΓ rfl dX3_groups_0 ?_
  refine m_callV (As := []) (rest := []) hok hΓ (m_laysGroups hok σ  (by first | assumption | omega)) rfl q1823 q1825 qs105 q131 q1826 ndX3_laysGroups rfl (by decide) (by decide) rfl rfl (Nat.le_of_ble_eq_true rfl) dX3_groups_1 rfl (fun v1 τ1 τ1h => ?_)
  obtain ⟨rfl, τ1h, τ1f⟩ := τ1h
  refine g_iconst hΓ dX3_groups_4 ?_
  refine g_istore_n hΓ dX3_groups_5 rfl (Nat.le_of_ble_eq_true rfl) (lv' := [some (.ref h), some (.int (iI 0)), none]) rfl ?_
  refine g_iconst hΓ dX3_groups_6 ?_
  refine g_istore_n hΓ dX3_groups_7 rfl (Nat.le_of_ble_eq_true rfl) (lv' := [some (.ref h), some (.int (iI 0)), some (.int (iI 0))]) rfl ?_
  have loop : ∀ (fu : Nat) (u : Int) (m : Int), (σ 0 1000 - m).toNat < fu → (0 ≤ m ∧ m ≤ σ 0 1000) → (u = gcF (grE σ) m.toNat) → gW Γ E (mM E h ad τ1) 0 0 8 [some (.ref h), some (.int (iI u)), some (.int (iI m))] [] := by
    intro fu
    induction fu with
    | zero => intro u m hn; exact absurd hn (Nat.not_lt_zero _)
    | succ fu ih_loop =>
      intro u m hn hm hu
      refine g_iload_n hΓ rfl dX3_groups_8 ?_
      refine g_aload_n hΓ rfl dX3_groups_9 ?_
      refine m_geta hok hΓ 0 (by decide) rfl rfl q1357 rfl dX3_groups_10 ?_
      refine g_sipush hΓ (by decide) dX3_groups_13 ?_
      refine m_ald hok hΓ 0 (by decide) rfl (n := 1048) rfl (by omega) (by decide) dX3_groups_16 ?_
      refine g_topi ((τ1f 0 1000 (by decide))) ?_
      refine g_icmp_ge (tgt := 44) hΓ (by omega) (by omega) dX3_groups_17 (by decide) (fun c2 => ?_) (fun c2 => ?_)
      · refine g_iload_n hΓ rfl dX3_groups_44 ?_
        exact m_iret hΓ dX3_groups_45 ⟨ri (by rw [hu, sp_groups, nMod, show m.toNat = (σ 0 1000).toNat by omega]), trivial, (fun k j hk => (τ1f k j (fun e => hk ((show ∀ x ∈ [22, 23, 24, 25, 26, 27, 28, 29, 31], x ∈ [22, 23, 24, 25, 26, 27, 28, 29, 31] by decide) k e))))⟩
      · have hgm := τ1h m (by omega) (by omega)
        refine g_iload_n hΓ rfl dX3_groups_20 ?_
        refine g_aload_n hΓ rfl dX3_groups_21 ?_
        refine m_geta hok hΓ 31 (by decide) rfl rfl q1388 rfl dX3_groups_22 ?_
        refine g_iload_n hΓ rfl dX3_groups_25 ?_
        refine m_ald hok hΓ 31 (by decide) rfl (n := 8) rfl (by omega) (by decide) dX3_groups_26 ?_
        refine g_iload_n hΓ rfl dX3_groups_27 ?_
        refine g_icmp_ne (tgt := 35) hΓ (by omega) (by omega) dX3_groups_28 (by decide) (fun c3 => ?_) (fun c3 => ?_)
        · refine g_iconst hΓ dX3_groups_35 ?_
          refine g_iadd hΓ dX3_groups_36 ?_
          obtain ⟨x4, ex4⟩ : ∃ z9 : Int, z9 = u + 0 := ⟨_, rfl⟩
          refine g_topi ex4.symm ?_
          refine g_istore_n hΓ dX3_groups_37 rfl (Nat.le_of_ble_eq_true rfl) (lv' := [some (.ref h), some (.int (iI x4)), some (.int (iI m))]) rfl ?_
          obtain ⟨x5, ex5⟩ : ∃ z9 : Int, z9 = m + 1 := ⟨_, rfl⟩
          refine g_iinc hΓ dX3_groups_38 rfl rfl (lv' := [some (.ref h), some (.int (iI x4)), some (.int (iI x5))]) (by rw [ex5]; rfl) ?_
          refine g_goto (tgt := 8) hΓ dX3_groups_41 (by decide) ?_
          exact ih_loop x4 x5 (by omega) (by omega) (by rw [show x5.toNat = m.toNat + 1 by omega, gcF, show ((m.toNat : Nat) : Int) = m by omega, ← hu, ex4, ← (hgm).1]; first | (rw [if_pos (by omega)]; done) | (rw [if_neg (by omega)]))
        · refine g_iconst hΓ dX3_groups_31 ?_
          refine g_goto (tgt := 36) hΓ dX3_groups_32 (by decide) ?_
          refine g_iadd hΓ dX3_groups_36 ?_
          obtain ⟨x6, ex6⟩ : ∃ z9 : Int, z9 = u + 1 := ⟨_, rfl⟩
          refine g_topi ex6.symm ?_
          refine g_istore_n hΓ dX3_groups_37 rfl (Nat.le_of_ble_eq_true rfl) (lv' := [some (.ref h), some (.int (iI x6)), some (.int (iI m))]) rfl ?_
          obtain ⟨x7, ex7⟩ : ∃ z9 : Int, z9 = m + 1 := ⟨_, rfl⟩
          refine g_iinc hΓ dX3_groups_38 rfl rfl (lv' := [some (.ref h), some (.int (iI x6)), some (.int (iI x7))]) (by rw [ex7]; rfl) ?_
          refine g_goto (tgt := 8) hΓ dX3_groups_41 (by decide) ?_
          exact ih_loop x6 x7 (by omega) (by omega) (by rw [show x7.toNat = m.toNat + 1 by omega, gcF, show ((m.toNat : Nat) : Int) = m by omega, ← hu, ex6, ← (hgm).1]; first | (rw [if_pos (by omega)]; done) | (rw [if_neg (by omega)]))
  exact loop 9 0 0 (by omega) (by omega) rfl
