set_option maxRecDepth 100000
set_option maxHeartbeats 4000000 in
theorem m_sumOf {l : Launch} {E : gE} {h : Nat} {ad : Nat → Nat} (hok : mOK E h ad) (σ : mS)  (m : Int) (hm : 0 ≤ m ∧ m < σ 0 1000) (hr : rowOK (σ 0)) : mC l E h ad yX3_sumOf cX3_sumOf 4 (some .int) 9 [.ref h, .int (iI m)] σ (fun rv σ' => rv = some (.int (iI (suE σ m))) ∧ (True) ∧ ∀ (k : Nat) (j : Int), k ∉ [22, 23, 24, 25, 26, 27, 28, 29] → σ' k j = σ k j) := by
  refine mC.of (by decide) [some (.ref h), some (.int (iI m)), none, none] (Nat.le_of_ble_eq_true rfl) rfl rfl (fun Γ hΓ => ?_)
  obtain ⟨h1000, h1009, h1042, h1043, h1044, h1045, h1046, h1047, hms, hsi, hsm, hnm⟩ := id hr
  have hnm : ((nMod σ : Nat) : Int) = σ 0 1000 := by rw [nMod]; omega
  refine g_iconst hΓ dX3_sumOf_0 ?_
  refine g_istore_n hΓ dX3_sumOf_1 rfl (Nat.le_of_ble_eq_true rfl) (lv' := [some (.ref h), some (.int (iI m)), some (.int (iI 0)), none]) rfl ?_
  refine g_iconst hΓ dX3_sumOf_2 ?_
  refine g_istore_n hΓ dX3_sumOf_3 rfl (Nat.le_of_ble_eq_true rfl) (lv' := [some (.ref h), some (.int (iI m)), some (.int (iI 0)), some (.int (iI 0))]) rfl ?_
  have loop : ∀ (fu : Nat) (u : Int) (o : Int) (t : mS), (σ 0 1000 - o).toNat < fu → (0 ≤ o ∧ o ≤ σ 0 1000) → (u = suF (sc2 σ m) m o.toNat) → (∀ (k : Nat) (j : Int), k ∉ [22, 23, 24, 25, 26, 27, 28, 29] → t k j = σ k j) → gW Γ E (mM E h ad t) 0 0 4 [some (.ref h), some (.int (iI m)), some (.int (iI u)), some (.int (iI o))] [] := by
    intro fu
    induction fu with
    | zero => intro u o t hn; exact absurd hn (Nat.not_lt_zero _)
    | succ fu ih_loop =>
      intro u o t hn ho hu tf
      have t0 : t 0 = σ 0 := funext fun j => tf 0 j (by decide)
      have t7 : t 7 = σ 7 := funext fun j => tf 7 j (by decide)
      have t8 : t 8 = σ 8 := funext fun j => tf 8 j (by decide)
      have tQ := sc2_same t0 t7 t8
      have hr1 : rowOK (t 0) := by rw [t0]; exact hr
      refine g_iload_n hΓ rfl dX3_sumOf_4 ?_
      refine g_aload_n hΓ rfl dX3_sumOf_5 ?_
      refine m_geta hok hΓ 0 (by decide) rfl rfl q1357 rfl dX3_sumOf_6 ?_
      refine g_sipush hΓ (by decide) dX3_sumOf_9 ?_
      refine m_ald hok hΓ 0 (by decide) rfl (n := 1048) rfl (by omega) (by decide) dX3_sumOf_12 ?_
      refine g_topi ((tf 0 1000 (by decide))) ?_
      refine g_icmp_ge (tgt := 40) hΓ (by omega) (by omega) dX3_sumOf_13 (by decide) (fun c1 => ?_) (fun c1 => ?_)
      · refine g_iload_n hΓ rfl dX3_sumOf_40 ?_
        exact m_iret hΓ dX3_sumOf_41 ⟨ri (by rw [hu, suE, show o.toNat = nMod σ by omega]), trivial, tf⟩
      · refine g_iload_n hΓ rfl dX3_sumOf_16 ?_
        refine g_iload_n hΓ rfl dX3_sumOf_17 ?_
        refine g_iload_n hΓ rfl dX3_sumOf_18 ?_
        refine g_icmp_ne (tgt := 26) hΓ (by omega) (by omega) dX3_sumOf_19 (by decide) (fun c2 => ?_) (fun c2 => ?_)
        · refine g_aload_n hΓ rfl dX3_sumOf_26 ?_
          refine g_iload_n hΓ rfl dX3_sumOf_27 ?_
          refine g_iload_n hΓ rfl dX3_sumOf_28 ?_
          refine m_callV (As := [.int (iI m), .int (iI o)]) (rest := [.int (iI u)]) hok hΓ (m_scoreOfTwo hok t m o (by first | assumption | omega | (rw [t0]; omega) | (simp only [isL, t0]; omega)) (by first | assumption | omega | (rw [t0]; omega) | (simp only [isL, t0]; omega)) (by first | assumption | omega | (rw [t0]; omega) | (simp only [isL, t0]; omega))) rfl q1746 q1748 qs95 q131 q1749 ndX3_scoreOfTwo rfl (by decide) (by decide) rfl rfl (Nat.le_of_ble_eq_true rfl) dX3_sumOf_29 rfl (fun v3 τ3 τ3h => ?_)
          obtain ⟨rfl, τ3h, τ3f⟩ := τ3h
          show gW Γ E (mM E h ad τ3) 0 0 _ _ (.int (iI (sc2 t m o)) :: _)
          refine g_topi (show (sc2 t m o : Int) = (sc2 σ m o) by simp only [tQ]) ?_
          refine g_iadd hΓ dX3_sumOf_32 ?_
          obtain ⟨x4, ex4⟩ : ∃ z9 : Int, z9 = u + (sc2 σ m o) := ⟨_, rfl⟩
          refine g_topi ex4.symm ?_
          refine g_istore_n hΓ dX3_sumOf_33 rfl (Nat.le_of_ble_eq_true rfl) (lv' := [some (.ref h), some (.int (iI m)), some (.int (iI x4)), some (.int (iI o))]) rfl ?_
          obtain ⟨x5, ex5⟩ : ∃ z9 : Int, z9 = o + 1 := ⟨_, rfl⟩
          refine g_iinc hΓ dX3_sumOf_34 rfl rfl (lv' := [some (.ref h), some (.int (iI m)), some (.int (iI x4)), some (.int (iI x5))]) (by rw [ex5]; rfl) ?_
          refine g_goto (tgt := 4) hΓ dX3_sumOf_37 (by decide) ?_
          exact ih_loop x4 x5 τ3 (by omega) (by omega) (by rw [show x5.toNat = o.toNat + 1 by omega, suF, show ((o.toNat : Nat) : Int) = o by omega, ← hu, ex4]; first | (rw [if_pos (by omega)]; done) | (rw [if_neg (by omega)])) (fun k' j' hk' => (τ3f k' j' hk').trans (tf k' j' hk'))
        · refine g_iconst hΓ dX3_sumOf_22 ?_
          refine g_goto (tgt := 32) hΓ dX3_sumOf_23 (by decide) ?_
          refine g_iadd hΓ dX3_sumOf_32 ?_
          obtain ⟨x6, ex6⟩ : ∃ z9 : Int, z9 = u + 0 := ⟨_, rfl⟩
          refine g_topi ex6.symm ?_
          refine g_istore_n hΓ dX3_sumOf_33 rfl (Nat.le_of_ble_eq_true rfl) (lv' := [some (.ref h), some (.int (iI m)), some (.int (iI x6)), some (.int (iI o))]) rfl ?_
          obtain ⟨x7, ex7⟩ : ∃ z9 : Int, z9 = o + 1 := ⟨_, rfl⟩
          refine g_iinc hΓ dX3_sumOf_34 rfl rfl (lv' := [some (.ref h), some (.int (iI m)), some (.int (iI x6)), some (.int (iI x7))]) (by rw [ex7]; rfl) ?_
          refine g_goto (tgt := 4) hΓ dX3_sumOf_37 (by decide) ?_
          exact ih_loop x6 x7 t (by omega) (by omega) (by rw [show x7.toNat = o.toNat + 1 by omega, suF, show ((o.toNat : Nat) : Int) = o by omega, ← hu, ex6]; first | (rw [if_pos (by omega)]; done) | (rw [if_neg (by omega)])) tf
  exact loop 9 0 0 σ (by omega) (by omega) rfl (fun k j _ => rfl)
set_option maxHeartbeats 4000000 in
theorem m_central {l : Launch} {E : gE} {h : Nat} {ad : Nat → Nat} (hok : mOK E h ad) (σ : mS)  (w : Int) (hw : r32 w) (hr : rowOK (σ 0)) : mC l E h ad yX3_central cX3_central 6 (some .int) 10 [.ref h, .int (iI w)] σ (fun rv σ' => rv = some (.int (iI (sp_central σ w))) ∧ (True) ∧ ∀ (k : Nat) (j : Int), k ∉ [22, 23, 24, 25, 26, 27, 28, 29] → σ' k j = σ k j) := by
  refine mC.of (by decide) [some (.ref h), some (.int (iI w)), none, none, none, none] (Nat.le_of_ble_eq_true rfl) rfl rfl (fun Γ hΓ => ?_)
  obtain ⟨h1000, h1009, h1042, h1043, h1044, h1045, h1046, h1047, hms, hsi, hsm, hnm⟩ := id hr
  have hnm : ((nMod σ : Nat) : Int) = σ 0 1000 := by rw [nMod]; omega
  refine g_aload_n hΓ rfl dX3_central_0 ?_
  refine m_geta hok hΓ 0 (by decide) rfl rfl q1357 rfl dX3_central_1 ?_
  refine g_sipush hΓ (by decide) dX3_central_4 ?_
  refine m_ald hok hΓ 0 (by decide) rfl (n := 1048) rfl (by omega) (by decide) dX3_central_7 ?_
  refine g_if_eq (tgt := 20) hΓ (by omega) dX3_central_8 (by decide) (fun c1 => ?_) (fun c1 => ?_)
  · refine g_iconst hΓ dX3_central_20 ?_
    exact m_iret hΓ dX3_central_21 ⟨ri (by rw [sp_central, if_neg (by omega)]), trivial, (fun k j hk => rfl)⟩
  · refine g_iload_n hΓ rfl dX3_central_11 ?_
    refine g_iconst hΓ dX3_central_12 ?_
    refine g_iconst hΓ dX3_central_13 ?_
    refine m_callS (As := [.int (iI w), .int (iI 0), .int (iI 1)]) (rest := []) hok hΓ (m_isIn hok σ w 0 1 (by first | assumption | omega) (by first | assumption | omega) (by first | assumption | omega)) rfl q1549 q1550 q131 q1551 ndX3_isIn rfl (by decide) (by decide) rfl (Nat.le_of_ble_eq_true rfl) dX3_central_14 rfl (fun v2 τ2 τ2h => ?_)
    obtain ⟨rfl, τ2h⟩ := τ2h
    rw [τ2h]
    clear τ2h
    show gW Γ E (mM E h ad σ) 0 0 _ _ (.int (iI (if 0 ≤ w ∧ w ≤ 1 then 1 else 0)) :: _)
    refine g_ifB_ne (tgt := 22) hΓ  dX3_central_17 (by decide) (fun c3 => ?_) (fun c3 => ?_)
    · refine g_iconst hΓ dX3_central_22 ?_
      refine g_istore_n hΓ dX3_central_23 rfl (Nat.le_of_ble_eq_true rfl) (lv' := [some (.ref h), some (.int (iI w)), some (.int (iI (-1))), none, none, none]) rfl ?_
      refine g_ldcw (n := 100000000) hΓ rfl q1716 (by decide) dX3_central_24 ?_
      refine g_istore_n hΓ dX3_central_27 rfl (Nat.le_of_ble_eq_true rfl) (lv' := [some (.ref h), some (.int (iI w)), some (.int (iI (-1))), some (.int (iI 100000000)), none, none]) rfl ?_
      refine g_iconst hΓ dX3_central_28 ?_
      refine g_istore hΓ dX3_central_29 rfl (Nat.le_of_ble_eq_true rfl) (lv' := [some (.ref h), some (.int (iI w)), some (.int (iI (-1))), some (.int (iI 100000000)), some (.int (iI 0)), none]) rfl ?_
      have loop : ∀ (fu : Nat) (s : Int) (z : Int) (m : Int) (t : mS), (σ 0 1000 - m).toNat < fu → (0 ≤ m ∧ m ≤ σ 0 1000) → (0 ≤ z ∧ z ≤ 100000000) → (ceF (suE σ) (σ 0 1000 - m).toNat m (s, z) = ceE σ) → (∀ (k : Nat) (j : Int), k ∉ [22, 23, 24, 25, 26, 27, 28, 29] → t k j = σ k j) → gW Γ E (mM E h ad t) 0 0 31 [some (.ref h), some (.int (iI w)), some (.int (iI s)), some (.int (iI z)), some (.int (iI m)), none] [] := by
        intro fu
        induction fu with
        | zero => intro s z m t hn; exact absurd hn (Nat.not_lt_zero _)
        | succ fu ih_loop =>
          intro s z m t hn hm hz hv tf
          have t0 : t 0 = σ 0 := funext fun j => tf 0 j (by decide)
          have t7 : t 7 = σ 7 := funext fun j => tf 7 j (by decide)
          have t8 : t 8 = σ 8 := funext fun j => tf 8 j (by decide)
          have tQ := suE_same t0 t7 t8
          have hr1 : rowOK (t 0) := by rw [t0]; exact hr
          refine g_iload hΓ rfl dX3_central_31 ?_
          refine g_aload_n hΓ rfl dX3_central_33 ?_
          refine m_geta hok hΓ 0 (by decide) rfl rfl q1357 rfl dX3_central_34 ?_
          refine g_sipush hΓ (by decide) dX3_central_37 ?_
          refine m_ald hok hΓ 0 (by decide) rfl (n := 1048) rfl (by omega) (by decide) dX3_central_40 ?_
          refine g_topi ((tf 0 1000 (by decide))) ?_
          refine g_icmp_ge (tgt := 73) hΓ (by omega) (by omega) dX3_central_41 (by decide) (fun c4 => ?_) (fun c4 => ?_)
          · refine g_iload_n hΓ rfl dX3_central_73 ?_
            refine g_if_ne (tgt := 81) hΓ (by omega) dX3_central_74 (by decide) (fun c5 => ?_) (fun c5 => ?_)
            · refine g_iload_n hΓ rfl dX3_central_81 ?_
              exact m_iret hΓ dX3_central_82 ⟨ri (by have q : ceE σ = (s, z) := (by rw [← hv, show (σ 0 1000 - m).toNat = 0 by omega]; rfl); rw [sp_central, if_pos (by omega), q]; simp only; first | rw [if_pos (by omega)] | rw [if_neg (by omega)]), trivial, tf⟩
            · refine g_iload_n hΓ rfl dX3_central_77 ?_
              refine g_goto (tgt := 82) hΓ dX3_central_78 (by decide) ?_
              exact m_iret hΓ dX3_central_82 ⟨ri (by have q : ceE σ = (s, z) := (by rw [← hv, show (σ 0 1000 - m).toNat = 0 by omega]; rfl); rw [sp_central, if_pos (by omega), q]; simp only; first | rw [if_pos (by omega)] | rw [if_neg (by omega)]), trivial, tf⟩
          · have hsr := suE_r hr (m := m) (by omega) (by omega)
            refine g_aload_n hΓ rfl dX3_central_44 ?_
            refine g_iload hΓ rfl dX3_central_45 ?_
            refine m_callV (As := [.int (iI m)]) (rest := []) hok hΓ (m_sumOf hok t m (by first | assumption | omega | (rw [t0]; omega) | (simp only [isL, t0]; omega)) (by first | assumption | omega | (rw [t0]; omega) | (simp only [isL, t0]; omega))) rfl q1839 q1841 qs107 q131 q1842 ndX3_sumOf rfl (by decide) (by decide) rfl rfl (Nat.le_of_ble_eq_true rfl) dX3_central_47 rfl (fun v6 τ6 τ6h => ?_)
            obtain ⟨rfl, τ6h, τ6f⟩ := τ6h
            show gW Γ E (mM E h ad τ6) 0 0 _ _ (.int (iI (suE t m)) :: _)
            refine g_topi (show (suE t m : Int) = (suE σ m) by simp only [tQ]) ?_
            obtain ⟨x7, ex7⟩ : ∃ z9 : Int, z9 = suE σ m := ⟨_, rfl⟩
            refine g_topi ex7.symm ?_
            refine g_istore hΓ dX3_central_50 rfl (Nat.le_of_ble_eq_true rfl) (lv' := [some (.ref h), some (.int (iI w)), some (.int (iI s)), some (.int (iI z)), some (.int (iI m)), some (.int (iI x7))]) rfl ?_
            refine g_iload hΓ rfl dX3_central_52 ?_
            refine g_iload_n hΓ rfl dX3_central_54 ?_
            refine g_icmp_lt (tgt := 61) hΓ (by omega) (by omega) dX3_central_55 (by decide) (fun c8 => ?_) (fun c8 => ?_)
            · refine g_iload hΓ rfl dX3_central_61 ?_
              refine g_istore_n hΓ dX3_central_63 rfl (Nat.le_of_ble_eq_true rfl) (lv' := [some (.ref h), some (.int (iI w)), some (.int (iI s)), some (.int (iI x7)), some (.int (iI m)), some (.int (iI x7))]) rfl ?_
              refine g_iload hΓ rfl dX3_central_64 ?_
              refine g_istore_n hΓ dX3_central_66 rfl (Nat.le_of_ble_eq_true rfl) (lv' := [some (.ref h), some (.int (iI w)), some (.int (iI m)), some (.int (iI x7)), some (.int (iI m)), some (.int (iI x7))]) rfl ?_
              obtain ⟨x9, ex9⟩ : ∃ z9 : Int, z9 = m + 1 := ⟨_, rfl⟩
              refine g_iinc hΓ dX3_central_67 rfl rfl (lv' := [some (.ref h), some (.int (iI w)), some (.int (iI m)), some (.int (iI x7)), some (.int (iI x9)), some (.int (iI x7))]) (by rw [ex9]; rfl) ?_
              refine g_goto (tgt := 31) hΓ dX3_central_70 (by decide) ?_
              refine g_lvw (lv' := [some (.ref h), some (.int (iI w)), some (.int (iI m)), some (.int (iI x7)), some (.int (iI x9)), none]) ⟨rfl, ⟨rfl, ⟨rfl, ⟨rfl, ⟨rfl, trivial⟩⟩⟩⟩⟩ ?_
              exact ih_loop m x7 x9 τ6 (by omega) (by omega) (by omega) (by rw [← hv, show (σ 0 1000 - m).toNat = (σ 0 1000 - x9).toNat + 1 by omega, ceF]; simp only; rw [if_neg (by omega), ex9, ← ex7]) (fun k' j' hk' => (τ6f k' j' hk').trans (tf k' j' hk'))
            · refine g_goto (tgt := 67) hΓ dX3_central_58 (by decide) ?_
              obtain ⟨x10, ex10⟩ : ∃ z9 : Int, z9 = m + 1 := ⟨_, rfl⟩
              refine g_iinc hΓ dX3_central_67 rfl rfl (lv' := [some (.ref h), some (.int (iI w)), some (.int (iI s)), some (.int (iI z)), some (.int (iI x10)), some (.int (iI x7))]) (by rw [ex10]; rfl) ?_
              refine g_goto (tgt := 31) hΓ dX3_central_70 (by decide) ?_
              refine g_lvw (lv' := [some (.ref h), some (.int (iI w)), some (.int (iI s)), some (.int (iI z)), some (.int (iI x10)), none]) ⟨rfl, ⟨rfl, ⟨rfl, ⟨rfl, ⟨rfl, trivial⟩⟩⟩⟩⟩ ?_
              exact ih_loop s z x10 τ6 (by omega) (by omega) (by omega) (by rw [← hv, show (σ 0 1000 - m).toNat = (σ 0 1000 - x10).toNat + 1 by omega, ceF]; simp only; rw [if_pos (by omega), ex10]) (fun k' j' hk' => (τ6f k' j' hk').trans (tf k' j' hk'))
      exact loop 9 (-1) 100000000 0 σ (by omega) (by omega) (by omega) (by rw [ceE, nMod, Int.sub_zero]) (fun k j _ => rfl)
    · refine g_iconst hΓ dX3_central_20 ?_
      exact m_iret hΓ dX3_central_21 ⟨ri (by rw [sp_central, if_neg (by omega)]), trivial, (fun k j hk => rfl)⟩
set_option maxHeartbeats 4000000 in
theorem m_nearest {l : Launch} {E : gE} {h : Nat} {ad : Nat → Nat} (hok : mOK E h ad) (σ : mS)  (m : Int) (w : Int) (hm : r32 m) (hw : r32 w) (hr : rowOK (σ 0)) : mC l E h ad yX3_nearest cX3_nearest 7 (some .int) 9 [.ref h, .int (iI m), .int (iI w)] σ (fun rv σ' => rv = some (.int (iI (sp_nearest σ m w))) ∧ (True) ∧ ∀ (k : Nat) (j : Int), k ∉ [22, 23, 24, 25, 26, 27, 28, 29] → σ' k j = σ k j) := by
  refine mC.of (by decide) [some (.ref h), some (.int (iI m)), some (.int (iI w)), none, none, none, none] (Nat.le_of_ble_eq_true rfl) rfl rfl (fun Γ hΓ => ?_)
  obtain ⟨h1000, h1009, h1042, h1043, h1044, h1045, h1046, h1047, hms, hsi, hsm, hnm⟩ := id hr
  have hnm : ((nMod σ : Nat) : Int) = σ 0 1000 := by rw [nMod]; omega
  refine g_aload_n hΓ rfl dX3_nearest_0 ?_
  refine g_iload_n hΓ rfl dX3_nearest_1 ?_
  refine m_callV (As := [.int (iI m)]) (rest := []) hok hΓ (m_isModel hok σ m (by first | assumption | omega) (by first | assumption | omega)) rfl q1594 q1596 qs76 q131 q1597 ndX3_isModel rfl (by decide) (by decide) rfl rfl (Nat.le_of_ble_eq_true rfl) dX3_nearest_2 rfl (fun v1 τ1 τ1h => ?_)
  obtain ⟨rfl, τ1h⟩ := τ1h
  rw [τ1h]
  clear τ1h
  show gW Γ E (mM E h ad σ) 0 0 _ _ (.int (iI (if 0 ≤ m ∧ m < σ 0 1000 then 1 else 0)) :: _)
  refine g_ifB_eq (tgt := 17) hΓ  dX3_nearest_5 (by decide) (fun c2 => ?_) (fun c2 => ?_)
  · refine g_iconst hΓ dX3_nearest_17 ?_
    exact m_iret hΓ dX3_nearest_18 ⟨ri (by rw [sp_nearest, if_neg (by omega)]), trivial, (fun k j hk => rfl)⟩
  · refine g_iload_n hΓ rfl dX3_nearest_8 ?_
    refine g_iconst hΓ dX3_nearest_9 ?_
    refine g_iconst hΓ dX3_nearest_10 ?_
    refine m_callS (As := [.int (iI w), .int (iI 0), .int (iI 1)]) (rest := []) hok hΓ (m_isIn hok σ w 0 1 (by first | assumption | omega) (by first | assumption | omega) (by first | assumption | omega)) rfl q1549 q1550 q131 q1551 ndX3_isIn rfl (by decide) (by decide) rfl (Nat.le_of_ble_eq_true rfl) dX3_nearest_11 rfl (fun v3 τ3 τ3h => ?_)
    obtain ⟨rfl, τ3h⟩ := τ3h
    rw [τ3h]
    clear τ3h
    show gW Γ E (mM E h ad σ) 0 0 _ _ (.int (iI (if 0 ≤ w ∧ w ≤ 1 then 1 else 0)) :: _)
    refine g_ifB_ne (tgt := 19) hΓ  dX3_nearest_14 (by decide) (fun c4 => ?_) (fun c4 => ?_)
    · refine g_iconst hΓ dX3_nearest_19 ?_
      refine g_istore_n hΓ dX3_nearest_20 rfl (Nat.le_of_ble_eq_true rfl) (lv' := [some (.ref h), some (.int (iI m)), some (.int (iI w)), some (.int (iI (-1))), none, none, none]) rfl ?_
      refine g_iconst hΓ dX3_nearest_21 ?_
      refine g_istore hΓ dX3_nearest_22 rfl (Nat.le_of_ble_eq_true rfl) (lv' := [some (.ref h), some (.int (iI m)), some (.int (iI w)), some (.int (iI (-1))), some (.int (iI (-1))), none, none]) rfl ?_
      refine g_iconst hΓ dX3_nearest_24 ?_
      refine g_istore hΓ dX3_nearest_25 rfl (Nat.le_of_ble_eq_true rfl) (lv' := [some (.ref h), some (.int (iI m)), some (.int (iI w)), some (.int (iI (-1))), some (.int (iI (-1))), some (.int (iI 0)), none]) rfl ?_
      have loop : ∀ (fu : Nat) (s : Int) (z : Int) (o : Int) (t : mS), (σ 0 1000 - o).toNat < fu → (0 ≤ o ∧ o ≤ σ 0 1000) → (-1 ≤ z ∧ z ≤ 100000000 ∧ -1 ≤ s ∧ s ≤ 8) → (neF (sc2 σ m) m (σ 0 1000 - o).toNat o (s, z) = neE σ m) → (∀ (k : Nat) (j : Int), k ∉ [22, 23, 24, 25, 26, 27, 28, 29] → t k j = σ k j) → gW Γ E (mM E h ad t) 0 0 27 [some (.ref h), some (.int (iI m)), some (.int (iI w)), some (.int (iI s)), some (.int (iI z)), some (.int (iI o)), none] [] := by
        intro fu
        induction fu with
        | zero => intro s z o t hn; exact absurd hn (Nat.not_lt_zero _)
        | succ fu ih_loop =>
          intro s z o t hn ho hz hv tf
          have t0 : t 0 = σ 0 := funext fun j => tf 0 j (by decide)
          have t7 : t 7 = σ 7 := funext fun j => tf 7 j (by decide)
          have t8 : t 8 = σ 8 := funext fun j => tf 8 j (by decide)
          have tQ := sc2_same t0 t7 t8
          have hr1 : rowOK (t 0) := by rw [t0]; exact hr
          refine g_iload hΓ rfl dX3_nearest_27 ?_
          refine g_aload_n hΓ rfl dX3_nearest_29 ?_
          refine m_geta hok hΓ 0 (by decide) rfl rfl q1357 rfl dX3_nearest_30 ?_
          refine g_sipush hΓ (by decide) dX3_nearest_33 ?_
          refine m_ald hok hΓ 0 (by decide) rfl (n := 1048) rfl (by omega) (by decide) dX3_nearest_36 ?_
          refine g_topi ((tf 0 1000 (by decide))) ?_
          refine g_icmp_ge (tgt := 86) hΓ (by omega) (by omega) dX3_nearest_37 (by decide) (fun c5 => ?_) (fun c5 => ?_)
          · refine g_iload_n hΓ rfl dX3_nearest_86 ?_
            refine g_if_ne (tgt := 94) hΓ (by omega) dX3_nearest_87 (by decide) (fun c6 => ?_) (fun c6 => ?_)
            · refine g_iload hΓ rfl dX3_nearest_94 ?_
              exact m_iret hΓ dX3_nearest_96 ⟨ri (by have q : neE σ m = (s, z) := (by rw [← hv, show (σ 0 1000 - o).toNat = 0 by omega]; rfl); rw [sp_nearest, if_pos (by omega), q]; simp only; first | rw [if_pos (by omega)] | rw [if_neg (by omega)]), trivial, tf⟩
            · refine g_iload_n hΓ rfl dX3_nearest_90 ?_
              refine g_goto (tgt := 96) hΓ dX3_nearest_91 (by decide) ?_
              exact m_iret hΓ dX3_nearest_96 ⟨ri (by have q : neE σ m = (s, z) := (by rw [← hv, show (σ 0 1000 - o).toNat = 0 by omega]; rfl); rw [sp_nearest, if_pos (by omega), q]; simp only; first | rw [if_pos (by omega)] | rw [if_neg (by omega)]), trivial, tf⟩
          · refine g_iload hΓ rfl dX3_nearest_40 ?_
            refine g_iload_n hΓ rfl dX3_nearest_42 ?_
            refine g_icmp_ne (tgt := 49) hΓ (by omega) (by omega) dX3_nearest_43 (by decide) (fun c7 => ?_) (fun c7 => ?_)
            · have hsr := sc2_r hr (x := m) (y := o) (by omega) (by omega)
              refine g_aload_n hΓ rfl dX3_nearest_49 ?_
              refine g_iload_n hΓ rfl dX3_nearest_50 ?_
              refine g_iload hΓ rfl dX3_nearest_51 ?_
              refine m_callV (As := [.int (iI m), .int (iI o)]) (rest := []) hok hΓ (m_scoreOfTwo hok t m o (by first | assumption | omega | (rw [t0]; omega) | (simp only [isL, t0]; omega)) (by first | assumption | omega | (rw [t0]; omega) | (simp only [isL, t0]; omega)) (by first | assumption | omega | (rw [t0]; omega) | (simp only [isL, t0]; omega))) rfl q1746 q1748 qs95 q131 q1749 ndX3_scoreOfTwo rfl (by decide) (by decide) rfl rfl (Nat.le_of_ble_eq_true rfl) dX3_nearest_53 rfl (fun v8 τ8 τ8h => ?_)
              obtain ⟨rfl, τ8h, τ8f⟩ := τ8h
              show gW Γ E (mM E h ad τ8) 0 0 _ _ (.int (iI (sc2 t m o)) :: _)
              refine g_topi (show (sc2 t m o : Int) = (sc2 σ m o) by simp only [tQ]) ?_
              obtain ⟨x9, ex9⟩ : ∃ z9 : Int, z9 = sc2 σ m o := ⟨_, rfl⟩
              refine g_topi ex9.symm ?_
              refine g_istore hΓ dX3_nearest_56 rfl (Nat.le_of_ble_eq_true rfl) (lv' := [some (.ref h), some (.int (iI m)), some (.int (iI w)), some (.int (iI s)), some (.int (iI z)), some (.int (iI o)), some (.int (iI x9))]) rfl ?_
              refine g_iload_n hΓ rfl dX3_nearest_58 ?_
              refine g_iconst hΓ dX3_nearest_59 ?_
              refine g_icmp_eq (tgt := 73) hΓ (by omega) (by omega) dX3_nearest_60 (by decide) (fun c10 => ?_) (fun c10 => ?_)
              · refine g_iload hΓ rfl dX3_nearest_73 ?_
                refine g_istore_n hΓ dX3_nearest_75 rfl (Nat.le_of_ble_eq_true rfl) (lv' := [some (.ref h), some (.int (iI m)), some (.int (iI w)), some (.int (iI o)), some (.int (iI z)), some (.int (iI o)), some (.int (iI x9))]) rfl ?_
                refine g_iload hΓ rfl dX3_nearest_76 ?_
                refine g_istore hΓ dX3_nearest_78 rfl (Nat.le_of_ble_eq_true rfl) (lv' := [some (.ref h), some (.int (iI m)), some (.int (iI w)), some (.int (iI o)), some (.int (iI x9)), some (.int (iI o)), some (.int (iI x9))]) rfl ?_
                obtain ⟨x11, ex11⟩ : ∃ z9 : Int, z9 = o + 1 := ⟨_, rfl⟩
                refine g_iinc hΓ dX3_nearest_80 rfl rfl (lv' := [some (.ref h), some (.int (iI m)), some (.int (iI w)), some (.int (iI o)), some (.int (iI x9)), some (.int (iI x11)), some (.int (iI x9))]) (by rw [ex11]; rfl) ?_
                refine g_goto (tgt := 27) hΓ dX3_nearest_83 (by decide) ?_
                refine g_lvw (lv' := [some (.ref h), some (.int (iI m)), some (.int (iI w)), some (.int (iI o)), some (.int (iI x9)), some (.int (iI x11)), none]) ⟨rfl, ⟨rfl, ⟨rfl, ⟨rfl, ⟨rfl, ⟨rfl, trivial⟩⟩⟩⟩⟩⟩ ?_
                exact ih_loop o x9 x11 τ8 (by omega) (by omega) (by omega) (by rw [← hv, show (σ 0 1000 - o).toNat = (σ 0 1000 - x11).toNat + 1 by omega, neF]; simp only; rw [if_neg (by omega), ex11, ← ex9]) (fun k' j' hk' => (τ8f k' j' hk').trans (tf k' j' hk'))
              · refine g_iload hΓ rfl dX3_nearest_63 ?_
                refine g_iload hΓ rfl dX3_nearest_65 ?_
                refine g_icmp_lt (tgt := 73) hΓ (by omega) (by omega) dX3_nearest_67 (by decide) (fun c12 => ?_) (fun c12 => ?_)
                · refine g_iload hΓ rfl dX3_nearest_73 ?_
                  refine g_istore_n hΓ dX3_nearest_75 rfl (Nat.le_of_ble_eq_true rfl) (lv' := [some (.ref h), some (.int (iI m)), some (.int (iI w)), some (.int (iI o)), some (.int (iI z)), some (.int (iI o)), some (.int (iI x9))]) rfl ?_
                  refine g_iload hΓ rfl dX3_nearest_76 ?_
                  refine g_istore hΓ dX3_nearest_78 rfl (Nat.le_of_ble_eq_true rfl) (lv' := [some (.ref h), some (.int (iI m)), some (.int (iI w)), some (.int (iI o)), some (.int (iI x9)), some (.int (iI o)), some (.int (iI x9))]) rfl ?_
                  obtain ⟨x13, ex13⟩ : ∃ z9 : Int, z9 = o + 1 := ⟨_, rfl⟩
                  refine g_iinc hΓ dX3_nearest_80 rfl rfl (lv' := [some (.ref h), some (.int (iI m)), some (.int (iI w)), some (.int (iI o)), some (.int (iI x9)), some (.int (iI x13)), some (.int (iI x9))]) (by rw [ex13]; rfl) ?_
                  refine g_goto (tgt := 27) hΓ dX3_nearest_83 (by decide) ?_
                  refine g_lvw (lv' := [some (.ref h), some (.int (iI m)), some (.int (iI w)), some (.int (iI o)), some (.int (iI x9)), some (.int (iI x13)), none]) ⟨rfl, ⟨rfl, ⟨rfl, ⟨rfl, ⟨rfl, ⟨rfl, trivial⟩⟩⟩⟩⟩⟩ ?_
                  exact ih_loop o x9 x13 τ8 (by omega) (by omega) (by omega) (by rw [← hv, show (σ 0 1000 - o).toNat = (σ 0 1000 - x13).toNat + 1 by omega, neF]; simp only; rw [if_neg (by omega), ex13, ← ex9]) (fun k' j' hk' => (τ8f k' j' hk').trans (tf k' j' hk'))
                · refine g_goto (tgt := 80) hΓ dX3_nearest_70 (by decide) ?_
                  obtain ⟨x14, ex14⟩ : ∃ z9 : Int, z9 = o + 1 := ⟨_, rfl⟩
                  refine g_iinc hΓ dX3_nearest_80 rfl rfl (lv' := [some (.ref h), some (.int (iI m)), some (.int (iI w)), some (.int (iI s)), some (.int (iI z)), some (.int (iI x14)), some (.int (iI x9))]) (by rw [ex14]; rfl) ?_
                  refine g_goto (tgt := 27) hΓ dX3_nearest_83 (by decide) ?_
                  refine g_lvw (lv' := [some (.ref h), some (.int (iI m)), some (.int (iI w)), some (.int (iI s)), some (.int (iI z)), some (.int (iI x14)), none]) ⟨rfl, ⟨rfl, ⟨rfl, ⟨rfl, ⟨rfl, ⟨rfl, trivial⟩⟩⟩⟩⟩⟩ ?_
                  exact ih_loop s z x14 τ8 (by omega) (by omega) (by omega) (by rw [← hv, show (σ 0 1000 - o).toNat = (σ 0 1000 - x14).toNat + 1 by omega, neF]; simp only; rw [if_pos (by omega), ex14]) (fun k' j' hk' => (τ8f k' j' hk').trans (tf k' j' hk'))
            · refine g_goto (tgt := 80) hΓ dX3_nearest_46 (by decide) ?_
              obtain ⟨x15, ex15⟩ : ∃ z9 : Int, z9 = o + 1 := ⟨_, rfl⟩
              refine g_iinc hΓ dX3_nearest_80 rfl rfl (lv' := [some (.ref h), some (.int (iI m)), some (.int (iI w)), some (.int (iI s)), some (.int (iI z)), some (.int (iI x15)), none]) (by rw [ex15]; rfl) ?_
              refine g_goto (tgt := 27) hΓ dX3_nearest_83 (by decide) ?_
              exact ih_loop s z x15 t (by omega) (by omega) (by omega) (by rw [← hv, show (σ 0 1000 - o).toNat = (σ 0 1000 - x15).toNat + 1 by omega, neF]; simp only; rw [if_pos (by omega), ex15]) tf
      exact loop 9 (-1) (-1) 0 σ (by omega) (by omega) (by omega) (by rw [neE, nMod, Int.sub_zero]) (fun k j _ => rfl)
    · refine g_iconst hΓ dX3_nearest_17 ?_
      exact m_iret hΓ dX3_nearest_18 ⟨ri (by rw [sp_nearest, if_neg (by omega)]), trivial, (fun k j hk => rfl)⟩
set_option maxHeartbeats 4000000 in
theorem m_closest {l : Launch} {E : gE} {h : Nat} {ad : Nat → Nat} (hok : mOK E h ad) (σ : mS)  (w : Int) (hw : r32 w) (hr : rowOK (σ 0)) : mC l E h ad yX3_closest cX3_closest 8 (some .int) 9 [.ref h, .int (iI w)] σ (fun rv σ' => rv = some (.int (iI (sp_closest σ w))) ∧ (True) ∧ ∀ (k : Nat) (j : Int), k ∉ [22, 23, 24, 25, 26, 27, 28, 29] → σ' k j = σ k j) := by
  refine mC.of (by decide) [some (.ref h), some (.int (iI w)), none, none, none, none, none, none] (Nat.le_of_ble_eq_true rfl) rfl rfl (fun Γ hΓ => ?_)
  obtain ⟨h1000, h1009, h1042, h1043, h1044, h1045, h1046, h1047, hms, hsi, hsm, hnm⟩ := id hr
  have hnm : ((nMod σ : Nat) : Int) = σ 0 1000 := by rw [nMod]; omega
  refine g_aload_n hΓ rfl dX3_closest_0 ?_
  refine m_geta hok hΓ 0 (by decide) rfl rfl q1357 rfl dX3_closest_1 ?_
  refine g_sipush hΓ (by decide) dX3_closest_4 ?_
  refine m_ald hok hΓ 0 (by decide) rfl (n := 1048) rfl (by omega) (by decide) dX3_closest_7 ?_
  refine g_iconst hΓ dX3_closest_8 ?_
  refine g_icmp_lt (tgt := 21) hΓ (by omega) (by omega) dX3_closest_9 (by decide) (fun c1 => ?_) (fun c1 => ?_)
  · refine g_iconst hΓ dX3_closest_21 ?_
    exact m_iret hΓ dX3_closest_22 ⟨ri (by rw [sp_closest, if_neg (by omega)]), trivial, (fun k j hk => rfl)⟩
  · refine g_iload_n hΓ rfl dX3_closest_12 ?_
    refine g_iconst hΓ dX3_closest_13 ?_
    refine g_iconst hΓ dX3_closest_14 ?_
    refine m_callS (As := [.int (iI w), .int (iI 0), .int (iI 2)]) (rest := []) hok hΓ (m_isIn hok σ w 0 2 (by first | assumption | omega) (by first | assumption | omega) (by first | assumption | omega)) rfl q1549 q1550 q131 q1551 ndX3_isIn rfl (by decide) (by decide) rfl (Nat.le_of_ble_eq_true rfl) dX3_closest_15 rfl (fun v2 τ2 τ2h => ?_)
    obtain ⟨rfl, τ2h⟩ := τ2h
    rw [τ2h]
    clear τ2h
    show gW Γ E (mM E h ad σ) 0 0 _ _ (.int (iI (if 0 ≤ w ∧ w ≤ 2 then 1 else 0)) :: _)
    refine g_ifB_ne (tgt := 23) hΓ  dX3_closest_18 (by decide) (fun c3 => ?_) (fun c3 => ?_)
    · refine g_iconst hΓ dX3_closest_23 ?_
      refine g_istore_n hΓ dX3_closest_24 rfl (Nat.le_of_ble_eq_true rfl) (lv' := [some (.ref h), some (.int (iI w)), some (.int (iI (-1))), none, none, none, none, none]) rfl ?_
      refine g_iconst hΓ dX3_closest_25 ?_
      refine g_istore_n hΓ dX3_closest_26 rfl (Nat.le_of_ble_eq_true rfl) (lv' := [some (.ref h), some (.int (iI w)), some (.int (iI (-1))), some (.int (iI (-1))), none, none, none, none]) rfl ?_
      refine g_ldcw (n := 100000000) hΓ rfl q1716 (by decide) dX3_closest_27 ?_
      refine g_istore hΓ dX3_closest_30 rfl (Nat.le_of_ble_eq_true rfl) (lv' := [some (.ref h), some (.int (iI w)), some (.int (iI (-1))), some (.int (iI (-1))), some (.int (iI 100000000)), none, none, none]) rfl ?_
      refine g_iconst hΓ dX3_closest_32 ?_
      refine g_istore hΓ dX3_closest_33 rfl (Nat.le_of_ble_eq_true rfl) (lv' := [some (.ref h), some (.int (iI w)), some (.int (iI (-1))), some (.int (iI (-1))), some (.int (iI 100000000)), some (.int (iI 0)), none, none]) rfl ?_
      have loop : ∀ (fu : Nat) (p0 : Int) (q0 : Int) (z0 : Int) (a : Int) (t : mS), (σ 0 1000 - a).toNat < fu → (0 ≤ a ∧ a ≤ σ 0 1000) → (0 ≤ z0 ∧ z0 ≤ 100000000) → (clO (sc2 σ) (σ 0 1000) (σ 0 1000 - a).toNat a ((p0, q0), z0) = clE σ) → (∀ (k : Nat) (j : Int), k ∉ [22, 23, 24, 25, 26, 27, 28, 29] → t k j = σ k j) → gW Γ E (mM E h ad t) 0 0 35 [some (.ref h), some (.int (iI w)), some (.int (iI p0)), some (.int (iI q0)), some (.int (iI z0)), some (.int (iI a)), none, none] [] := by
        intro fu
        induction fu with
        | zero => intro p0 q0 z0 a t hn; exact absurd hn (Nat.not_lt_zero _)
        | succ fu ih_loop =>
          intro p0 q0 z0 a t hn ha hz0 hv tf
          refine g_iload hΓ rfl dX3_closest_35 ?_
          refine g_aload_n hΓ rfl dX3_closest_37 ?_
          refine m_geta hok hΓ 0 (by decide) rfl rfl q1357 rfl dX3_closest_38 ?_
          refine g_sipush hΓ (by decide) dX3_closest_41 ?_
          refine m_ald hok hΓ 0 (by decide) rfl (n := 1048) rfl (by omega) (by decide) dX3_closest_44 ?_
          refine g_topi ((tf 0 1000 (by decide))) ?_
          refine g_icmp_ge (tgt := 109) hΓ (by omega) (by omega) dX3_closest_45 (by decide) (fun c4 => ?_) (fun c4 => ?_)
          · refine g_iload_n hΓ rfl dX3_closest_109 ?_
            refine g_if_ne (tgt := 117) hΓ (by omega) dX3_closest_110 (by decide) (fun c5 => ?_) (fun c5 => ?_)
            · refine g_iload_n hΓ rfl dX3_closest_117 ?_
              refine g_iconst hΓ dX3_closest_118 ?_
              refine g_icmp_ne (tgt := 126) hΓ (by omega) (by omega) dX3_closest_119 (by decide) (fun c6 => ?_) (fun c6 => ?_)
              · refine g_iload hΓ rfl dX3_closest_126 ?_
                exact m_iret hΓ dX3_closest_128 ⟨ri (by have q : clE σ = ((p0, q0), z0) := (by rw [← hv, show (σ 0 1000 - a).toNat = 0 by omega]; rfl); rw [sp_closest, if_pos (by omega), q]; simp only; (repeat' split) <;> first | rfl | omega), trivial, tf⟩
              · refine g_iload_n hΓ rfl dX3_closest_122 ?_
                refine g_goto (tgt := 128) hΓ dX3_closest_123 (by decide) ?_
                exact m_iret hΓ dX3_closest_128 ⟨ri (by have q : clE σ = ((p0, q0), z0) := (by rw [← hv, show (σ 0 1000 - a).toNat = 0 by omega]; rfl); rw [sp_closest, if_pos (by omega), q]; simp only; (repeat' split) <;> first | rfl | omega), trivial, tf⟩
            · refine g_iload_n hΓ rfl dX3_closest_113 ?_
              refine g_goto (tgt := 128) hΓ dX3_closest_114 (by decide) ?_
              exact m_iret hΓ dX3_closest_128 ⟨ri (by have q : clE σ = ((p0, q0), z0) := (by rw [← hv, show (σ 0 1000 - a).toNat = 0 by omega]; rfl); rw [sp_closest, if_pos (by omega), q]; simp only; (repeat' split) <;> first | rfl | omega), trivial, tf⟩
          · refine g_iload hΓ rfl dX3_closest_48 ?_
            refine g_iconst hΓ dX3_closest_50 ?_
            refine g_iadd hΓ dX3_closest_51 ?_
            obtain ⟨x7, ex7⟩ : ∃ z9 : Int, z9 = a + 1 := ⟨_, rfl⟩
            refine g_topi ex7.symm ?_
            refine g_istore hΓ dX3_closest_52 rfl (Nat.le_of_ble_eq_true rfl) (lv' := [some (.ref h), some (.int (iI w)), some (.int (iI p0)), some (.int (iI q0)), some (.int (iI z0)), some (.int (iI a)), some (.int (iI x7)), none]) rfl ?_
            have loop2 : ∀ (fu : Nat) (p : Int) (q : Int) (z : Int) (b : Int) (t : mS), (σ 0 1000 - b).toNat < fu → (a < b ∧ b ≤ σ 0 1000) → (0 ≤ z ∧ z ≤ 100000000) → (clJ (sc2 σ) a (σ 0 1000 - b).toNat b ((p, q), z) = clJ (sc2 σ) a (σ 0 1000 - (a + 1)).toNat (a + 1) ((p0, q0), z0)) → (∀ (k : Nat) (j : Int), k ∉ [22, 23, 24, 25, 26, 27, 28, 29] → t k j = σ k j) → gW Γ E (mM E h ad t) 0 0 54 [some (.ref h), some (.int (iI w)), some (.int (iI p)), some (.int (iI q)), some (.int (iI z)), some (.int (iI a)), some (.int (iI b)), none] [] := by
              intro fu
              induction fu with
              | zero => intro p q z b t hn; exact absurd hn (Nat.not_lt_zero _)
              | succ fu ih_loop2 =>
                intro p q z b t hn hb hz hv2 tf
                have t0 : t 0 = σ 0 := funext fun j => tf 0 j (by decide)
                have t7 : t 7 = σ 7 := funext fun j => tf 7 j (by decide)
                have t8 : t 8 = σ 8 := funext fun j => tf 8 j (by decide)
                have tQ := sc2_same t0 t7 t8
                have hr1 : rowOK (t 0) := by rw [t0]; exact hr
                refine g_iload hΓ rfl dX3_closest_54 ?_
                refine g_aload_n hΓ rfl dX3_closest_56 ?_
                refine m_geta hok hΓ 0 (by decide) rfl rfl q1357 rfl dX3_closest_57 ?_
                refine g_sipush hΓ (by decide) dX3_closest_60 ?_
                refine m_ald hok hΓ 0 (by decide) rfl (n := 1048) rfl (by omega) (by decide) dX3_closest_63 ?_
                refine g_topi ((tf 0 1000 (by decide))) ?_
                refine g_icmp_ge (tgt := 103) hΓ (by omega) (by omega) dX3_closest_64 (by decide) (fun c8 => ?_) (fun c8 => ?_)
                · obtain ⟨x9, ex9⟩ : ∃ z9 : Int, z9 = a + 1 := ⟨_, rfl⟩
                  refine g_iinc hΓ dX3_closest_103 rfl rfl (lv' := [some (.ref h), some (.int (iI w)), some (.int (iI p)), some (.int (iI q)), some (.int (iI z)), some (.int (iI x9)), some (.int (iI b)), none]) (by rw [ex9]; rfl) ?_
                  refine g_goto (tgt := 35) hΓ dX3_closest_106 (by decide) ?_
                  refine g_lvw (lv' := [some (.ref h), some (.int (iI w)), some (.int (iI p)), some (.int (iI q)), some (.int (iI z)), some (.int (iI x9)), none, none]) ⟨rfl, ⟨rfl, ⟨rfl, ⟨rfl, ⟨rfl, ⟨rfl, trivial⟩⟩⟩⟩⟩⟩ ?_
                  exact ih_loop p q z x9 t (by omega) (by omega) (by omega) (by rw [← hv, show (σ 0 1000 - a).toNat = (σ 0 1000 - x9).toNat + 1 by omega, clO, ← hv2, show (σ 0 1000 - b).toNat = 0 by omega, clJ, ex9]) tf
                · have hsr := sc2_r hr (x := a) (y := b) (by omega) (by omega)
                  refine g_aload_n hΓ rfl dX3_closest_67 ?_
                  refine g_iload hΓ rfl dX3_closest_68 ?_
                  refine g_iload hΓ rfl dX3_closest_70 ?_
                  refine m_callV (As := [.int (iI a), .int (iI b)]) (rest := []) hok hΓ (m_scoreOfTwo hok t a b (by first | assumption | omega | (rw [t0]; omega) | (simp only [isL, t0]; omega)) (by first | assumption | omega | (rw [t0]; omega) | (simp only [isL, t0]; omega)) (by first | assumption | omega | (rw [t0]; omega) | (simp only [isL, t0]; omega))) rfl q1746 q1748 qs95 q131 q1749 ndX3_scoreOfTwo rfl (by decide) (by decide) rfl rfl (Nat.le_of_ble_eq_true rfl) dX3_closest_72 rfl (fun v10 τ10 τ10h => ?_)
                  obtain ⟨rfl, τ10h, τ10f⟩ := τ10h
                  show gW Γ E (mM E h ad τ10) 0 0 _ _ (.int (iI (sc2 t a b)) :: _)
                  refine g_topi (show (sc2 t a b : Int) = (sc2 σ a b) by simp only [tQ]) ?_
                  obtain ⟨x11, ex11⟩ : ∃ z9 : Int, z9 = sc2 σ a b := ⟨_, rfl⟩
                  refine g_topi ex11.symm ?_
                  refine g_istore hΓ dX3_closest_75 rfl (Nat.le_of_ble_eq_true rfl) (lv' := [some (.ref h), some (.int (iI w)), some (.int (iI p)), some (.int (iI q)), some (.int (iI z)), some (.int (iI a)), some (.int (iI b)), some (.int (iI x11))]) rfl ?_
                  refine g_iload hΓ rfl dX3_closest_77 ?_
                  refine g_iload hΓ rfl dX3_closest_79 ?_
                  refine g_icmp_lt (tgt := 87) hΓ (by omega) (by omega) dX3_closest_81 (by decide) (fun c12 => ?_) (fun c12 => ?_)
                  · refine g_iload hΓ rfl dX3_closest_87 ?_
                    refine g_istore hΓ dX3_closest_89 rfl (Nat.le_of_ble_eq_true rfl) (lv' := [some (.ref h), some (.int (iI w)), some (.int (iI p)), some (.int (iI q)), some (.int (iI x11)), some (.int (iI a)), some (.int (iI b)), some (.int (iI x11))]) rfl ?_
                    refine g_iload hΓ rfl dX3_closest_91 ?_
                    refine g_istore_n hΓ dX3_closest_93 rfl (Nat.le_of_ble_eq_true rfl) (lv' := [some (.ref h), some (.int (iI w)), some (.int (iI a)), some (.int (iI q)), some (.int (iI x11)), some (.int (iI a)), some (.int (iI b)), some (.int (iI x11))]) rfl ?_
                    refine g_iload hΓ rfl dX3_closest_94 ?_
                    refine g_istore_n hΓ dX3_closest_96 rfl (Nat.le_of_ble_eq_true rfl) (lv' := [some (.ref h), some (.int (iI w)), some (.int (iI a)), some (.int (iI b)), some (.int (iI x11)), some (.int (iI a)), some (.int (iI b)), some (.int (iI x11))]) rfl ?_
                    obtain ⟨x13, ex13⟩ : ∃ z9 : Int, z9 = b + 1 := ⟨_, rfl⟩
                    refine g_iinc hΓ dX3_closest_97 rfl rfl (lv' := [some (.ref h), some (.int (iI w)), some (.int (iI a)), some (.int (iI b)), some (.int (iI x11)), some (.int (iI a)), some (.int (iI x13)), some (.int (iI x11))]) (by rw [ex13]; rfl) ?_
                    refine g_goto (tgt := 54) hΓ dX3_closest_100 (by decide) ?_
                    refine g_lvw (lv' := [some (.ref h), some (.int (iI w)), some (.int (iI a)), some (.int (iI b)), some (.int (iI x11)), some (.int (iI a)), some (.int (iI x13)), none]) ⟨rfl, ⟨rfl, ⟨rfl, ⟨rfl, ⟨rfl, ⟨rfl, ⟨rfl, trivial⟩⟩⟩⟩⟩⟩⟩ ?_
                    exact ih_loop2 a b x11 x13 τ10 (by omega) (by omega) (by omega) (by rw [← hv2, show (σ 0 1000 - b).toNat = (σ 0 1000 - x13).toNat + 1 by omega, clJ]; simp only; rw [if_pos (by omega), ex13, ← ex11]) (fun k' j' hk' => (τ10f k' j' hk').trans (tf k' j' hk'))
                  · refine g_goto (tgt := 97) hΓ dX3_closest_84 (by decide) ?_
                    obtain ⟨x14, ex14⟩ : ∃ z9 : Int, z9 = b + 1 := ⟨_, rfl⟩
                    refine g_iinc hΓ dX3_closest_97 rfl rfl (lv' := [some (.ref h), some (.int (iI w)), some (.int (iI p)), some (.int (iI q)), some (.int (iI z)), some (.int (iI a)), some (.int (iI x14)), some (.int (iI x11))]) (by rw [ex14]; rfl) ?_
                    refine g_goto (tgt := 54) hΓ dX3_closest_100 (by decide) ?_
                    refine g_lvw (lv' := [some (.ref h), some (.int (iI w)), some (.int (iI p)), some (.int (iI q)), some (.int (iI z)), some (.int (iI a)), some (.int (iI x14)), none]) ⟨rfl, ⟨rfl, ⟨rfl, ⟨rfl, ⟨rfl, ⟨rfl, ⟨rfl, trivial⟩⟩⟩⟩⟩⟩⟩ ?_
                    exact ih_loop2 p q z x14 τ10 (by omega) (by omega) (by omega) (by rw [← hv2, show (σ 0 1000 - b).toNat = (σ 0 1000 - x14).toNat + 1 by omega, clJ]; simp only; rw [if_neg (by omega), ex14]) (fun k' j' hk' => (τ10f k' j' hk').trans (tf k' j' hk'))
            exact loop2 9 p0 q0 z0 x7 t (by omega) (by omega) (by omega) (by rw [ex7]) tf
      exact loop 9 (-1) (-1) 100000000 0 σ (by omega) (by omega) (by omega) (by rw [clE, nMod, Int.sub_zero]) (fun k j _ => rfl)
    · refine g_iconst hΓ dX3_closest_21 ?_
      exact m_iret hΓ dX3_closest_22 ⟨ri (by rw [sp_closest, if_neg (by omega)]), trivial, (fun k j hk => rfl)⟩
