set_option maxRecDepth 100000
set_option maxHeartbeats 4000000 in
theorem m_laysScores {l : Launch} {E : gE} {h : Nat} {ad : Nat → Nat} (hok : mOK E h ad) (σ : mS)  (a : Int) (n : Int) (hl : letS σ a n) (hr : rowOK (σ 0)) : mC l E h ad yX3_laysScores cX3_laysScores 4 none 8 [.ref h, .int (iI a), .int (iI n)] σ (fun rv σ' => rv = none ∧ (∀ o, 0 ≤ o → o < σ 0 1000 → σ' 30 o = scM σ a n o) ∧ ∀ (k : Nat) (j : Int), k ∉ [22, 23, 24, 25, 26, 27, 28, 29, 30] → σ' k j = σ k j) := by
  refine mC.of (by decide) [some (.ref h), some (.int (iI a)), some (.int (iI n)), none] (Nat.le_of_ble_eq_true rfl) rfl rfl (fun Γ hΓ => ?_)
  obtain ⟨h1000, h1009, h1042, h1043, h1044, h1045, h1046, h1047, hms, hsi, hsm, hnm⟩ := id hr
  refine g_iconst hΓ dX3_laysScores_0 ?_
  refine g_istore_n hΓ dX3_laysScores_1 rfl (Nat.le_of_ble_eq_true rfl) (lv' := [some (.ref h), some (.int (iI a)), some (.int (iI n)), some (.int (iI 0))]) rfl ?_
  have loop : ∀ (fu : Nat) (m : Int) (t : mS), (σ 0 1000 - m).toNat < fu → (0 ≤ m ∧ m ≤ σ 0 1000) → (∀ o, 0 ≤ o → o < m → t 30 o = scM σ a n o) → (∀ (k : Nat) (j : Int), k ∉ [22, 23, 24, 25, 26, 27, 28, 29, 30] → t k j = σ k j) → gW Γ E (mM E h ad t) 0 0 2 [some (.ref h), some (.int (iI a)), some (.int (iI n)), some (.int (iI m))] [] := by
    intro fu
    induction fu with
    | zero => intro m t hn; exact absurd hn (Nat.not_lt_zero _)
    | succ fu ih_loop =>
      intro m t hn hm hA tf
      have t0 : t 0 = σ 0 := funext fun j => tf 0 j (by decide)
      have t7 : t 7 = σ 7 := funext fun j => tf 7 j (by decide)
      have t8 : t 8 = σ 8 := funext fun j => tf 8 j (by decide)
      have tL := letS_same t0 t7 t8
      have tM := mnS_same t0
      have tQ := scS_same t0 t7 t8
      have hr1 : rowOK (t 0) := by rw [t0]; exact hr
      have hl1 : letS t a n := by rw [tL]; exact hl
      refine g_iload_n hΓ rfl dX3_laysScores_2 ?_
      refine g_aload_n hΓ rfl dX3_laysScores_3 ?_
      refine m_geta hok hΓ 0 (by decide) rfl rfl q1357 rfl dX3_laysScores_4 ?_
      refine g_sipush hΓ (by decide) dX3_laysScores_7 ?_
      refine m_ald hok hΓ 0 (by decide) rfl (n := 1048) rfl (by omega) (by decide) dX3_laysScores_10 ?_
      refine g_topi ((tf 0 1000 (by decide))) ?_
      refine g_icmp_ge (tgt := 42) hΓ (by omega) (by omega) dX3_laysScores_11 (by decide) (fun c1 => ?_) (fun c1 => ?_)
      · exact m_vret hΓ dX3_laysScores_42 ⟨rfl, fun o h0 h1 => hA o h0 (by omega), tf⟩
      · have hlm : letS t (fsS m) (mnS σ m) := by rw [tL]; exact letS_of hr (Or.inr ⟨by omega, by omega⟩)
        refine g_aload_n hΓ rfl dX3_laysScores_14 ?_
        refine m_geta hok hΓ 30 (by decide) rfl rfl q1387 rfl dX3_laysScores_15 ?_
        refine g_iload_n hΓ rfl dX3_laysScores_18 ?_
        refine g_aload_n hΓ rfl dX3_laysScores_19 ?_
        refine g_iload_n hΓ rfl dX3_laysScores_20 ?_
        refine g_iload_n hΓ rfl dX3_laysScores_21 ?_
        refine g_aload_n hΓ rfl dX3_laysScores_22 ?_
        refine g_iload_n hΓ rfl dX3_laysScores_23 ?_
        refine m_callV (As := [.int (iI m)]) (rest := [.int (iI n), .int (iI a), .ref h, .int (iI m), .ref (ad 30)]) hok hΓ (m_firstOf hok t m (by first | assumption | omega)) rfl q1618 q1620 qs80 q131 q1621 ndX3_firstOf rfl (by decide) (by decide) rfl rfl (Nat.le_of_ble_eq_true rfl) dX3_laysScores_24 rfl (fun v2 τ2 τ2h => ?_)
        obtain ⟨rfl, τ2h⟩ := τ2h
        rw [τ2h]
        clear τ2h
        show gW Γ E (mM E h ad t) 0 0 _ _ (.int (iI (fsS m)) :: _)
        refine g_aload_n hΓ rfl dX3_laysScores_27 ?_
        refine g_iload_n hΓ rfl dX3_laysScores_28 ?_
        refine m_callV (As := [.int (iI m)]) (rest := [.int (iI (fsS m)), .int (iI n), .int (iI a), .ref h, .int (iI m), .ref (ad 30)]) hok hΓ (m_manyOf hok t m (by first | assumption | omega) (by first | assumption | omega)) rfl q1606 q1608 qs78 q131 q1609 ndX3_manyOf rfl (by decide) (by decide) rfl rfl (Nat.le_of_ble_eq_true rfl) dX3_laysScores_29 rfl (fun v3 τ3 τ3h => ?_)
        obtain ⟨rfl, τ3h⟩ := τ3h
        rw [τ3h]
        clear τ3h
        show gW Γ E (mM E h ad t) 0 0 _ _ (.int (iI (mnS t m)) :: _)
        refine g_topi (show (mnS t m : Int) = (mnS σ m) by simp only [tQ, tM]) ?_
        refine m_callV (As := [.int (iI a), .int (iI n), .int (iI (fsS m)), .int (iI (mnS σ m))]) (rest := [.int (iI m), .ref (ad 30)]) hok hΓ (m_scoreOf hok t a n (fsS m) (mnS σ m) (by first | assumption | omega) (by first | assumption | omega) (by first | assumption | omega)) rfl q1750 q1752 qs96 q131 q1753 ndX3_scoreOf rfl (by decide) (by decide) rfl rfl (Nat.le_of_ble_eq_true rfl) dX3_laysScores_32 rfl (fun v4 τ4 τ4h => ?_)
        obtain ⟨rfl, τ4h, τ4f⟩ := τ4h
        show gW Γ E (mM E h ad τ4) 0 0 _ _ (.int (iI (scS t a n (fsS m) (mnS σ m))) :: _)
        refine g_topi (show (scS t a n (fsS m) (mnS σ m) : Int) = (scS σ a n (fsS m) (mnS σ m)) by simp only [tQ, tM]) ?_
        refine m_ast hok hΓ 30 (by decide) rfl (n := 8) rfl (by omega) (by decide) dX3_laysScores_35 (fun τ5 τ5e => ?_)
        have τ5r : τ5 30 m = scS σ a n (fsS m) (mnS σ m) := by rw [τ5e]; exact us_s _ _ _ _
        have τ5f : ∀ (k9 : Nat) (j9 : Int), (k9 ≠ 30 ∨ j9 ≠ m) → τ5 k9 j9 = τ4 k9 j9 := fun k9 j9 hh => by rw [τ5e]; exact us_n hh
        obtain ⟨x6, ex6⟩ : ∃ z9 : Int, z9 = m + 1 := ⟨_, rfl⟩
        refine g_iinc hΓ dX3_laysScores_36 rfl rfl (lv' := [some (.ref h), some (.int (iI a)), some (.int (iI n)), some (.int (iI x6))]) (by rw [ex6]; rfl) ?_
        refine g_goto (tgt := 2) hΓ dX3_laysScores_39 (by decide) ?_
        exact ih_loop x6 τ5 (by omega) (by omega) (fun o h0 h1 => by
            by_cases q : o = m
            · subst q; rw [τ5r, scM]
            · exact (τ5f 30 o (Or.inr (by omega))).trans ((τ4f 30 o (by decide)).trans (hA o h0 (by omega)))) (fun k j hk => (((τ5f k j (Or.inl (fun e => hk (by rw [e]; decide)))).trans (τ4f k j (fun e => hk ((show ∀ x ∈ [22, 23, 24, 25, 26, 27, 28, 29], x ∈ [22, 23, 24, 25, 26, 27, 28, 29, 30] by decide) k e)))).trans (tf k j (fun e => hk ((show ∀ x ∈ [22, 23, 24, 25, 26, 27, 28, 29, 30], x ∈ [22, 23, 24, 25, 26, 27, 28, 29, 30] by decide) k e)))))
  exact loop 9 0 σ (by omega) (by omega) (fun o h0 h1 => absurd h1 (by omega)) (fun k j _ => rfl)
set_option maxHeartbeats 4000000 in
theorem m_placeOf {l : Launch} {E : gE} {h : Nat} {ad : Nat → Nat} (hok : mOK E h ad) (σ : mS)  (m : Int) (hm : 0 ≤ m ∧ m < σ 0 1000) (hn : 0 ≤ σ 0 1000 ∧ σ 0 1000 ≤ 8) (hs : ∀ o, 0 ≤ o → o < σ 0 1000 → 0 ≤ σ 30 o ∧ σ 30 o ≤ 1584) : mC l E h ad yX3_placeOf cX3_placeOf 4 (some .int) 0 [.ref h, .int (iI m)] σ (fun rv σ' => rv = some (.int (iI (plF (σ 30) m (nMod σ)))) ∧ σ' = σ) := by
  refine mC.of (by decide) [some (.ref h), some (.int (iI m)), none, none] (Nat.le_of_ble_eq_true rfl) rfl rfl (fun Γ hΓ => ?_)
  refine g_iconst hΓ dX3_placeOf_0 ?_
  refine g_istore_n hΓ dX3_placeOf_1 rfl (Nat.le_of_ble_eq_true rfl) (lv' := [some (.ref h), some (.int (iI m)), some (.int (iI 0)), none]) rfl ?_
  refine g_iconst hΓ dX3_placeOf_2 ?_
  refine g_istore_n hΓ dX3_placeOf_3 rfl (Nat.le_of_ble_eq_true rfl) (lv' := [some (.ref h), some (.int (iI m)), some (.int (iI 0)), some (.int (iI 0))]) rfl ?_
  have loop : ∀ (fu : Nat) (u : Int) (o : Int), (σ 0 1000 - o).toNat < fu → (0 ≤ o ∧ o ≤ σ 0 1000) → (u = plF (σ 30) m o.toNat) → gW Γ E (mM E h ad σ) 0 0 4 [some (.ref h), some (.int (iI m)), some (.int (iI u)), some (.int (iI o))] [] := by
    intro fu
    induction fu with
    | zero => intro u o hn; exact absurd hn (Nat.not_lt_zero _)
    | succ fu ih_loop =>
      intro u o hn ho hu
      refine g_iload_n hΓ rfl dX3_placeOf_4 ?_
      refine g_aload_n hΓ rfl dX3_placeOf_5 ?_
      refine m_geta hok hΓ 0 (by decide) rfl rfl q1357 rfl dX3_placeOf_6 ?_
      refine g_sipush hΓ (by decide) dX3_placeOf_9 ?_
      refine m_ald hok hΓ 0 (by decide) rfl (n := 1048) rfl (by omega) (by decide) dX3_placeOf_12 ?_
      refine g_icmp_ge (tgt := 65) hΓ (by omega) (by omega) dX3_placeOf_13 (by decide) (fun c1 => ?_) (fun c1 => ?_)
      · refine g_iload_n hΓ rfl dX3_placeOf_65 ?_
        exact m_iret hΓ dX3_placeOf_66 ⟨ri (by rw [hu, nMod, show o.toNat = (σ 0 1000).toNat by omega]), rfl⟩
      · have h1 := hs o (by omega) (by omega)
        have h2 := hs m (by omega) (by omega)
        refine g_iload_n hΓ rfl dX3_placeOf_16 ?_
        refine g_aload_n hΓ rfl dX3_placeOf_17 ?_
        refine m_geta hok hΓ 30 (by decide) rfl rfl q1387 rfl dX3_placeOf_18 ?_
        refine g_iload_n hΓ rfl dX3_placeOf_21 ?_
        refine m_ald hok hΓ 30 (by decide) rfl (n := 8) rfl (by omega) (by decide) dX3_placeOf_22 ?_
        refine g_aload_n hΓ rfl dX3_placeOf_23 ?_
        refine m_geta hok hΓ 30 (by decide) rfl rfl q1387 rfl dX3_placeOf_24 ?_
        refine g_iload_n hΓ rfl dX3_placeOf_27 ?_
        refine m_ald hok hΓ 30 (by decide) rfl (n := 8) rfl (by omega) (by decide) dX3_placeOf_28 ?_
        refine g_icmp_lt (tgt := 52) hΓ (by omega) (by omega) dX3_placeOf_29 (by decide) (fun c2 => ?_) (fun c2 => ?_)
        · refine g_iconst hΓ dX3_placeOf_52 ?_
          refine g_goto (tgt := 57) hΓ dX3_placeOf_53 (by decide) ?_
          refine g_iadd hΓ dX3_placeOf_57 ?_
          obtain ⟨x3, ex3⟩ : ∃ z9 : Int, z9 = u + 1 := ⟨_, rfl⟩
          refine g_topi ex3.symm ?_
          refine g_istore_n hΓ dX3_placeOf_58 rfl (Nat.le_of_ble_eq_true rfl) (lv' := [some (.ref h), some (.int (iI m)), some (.int (iI x3)), some (.int (iI o))]) rfl ?_
          obtain ⟨x4, ex4⟩ : ∃ z9 : Int, z9 = o + 1 := ⟨_, rfl⟩
          refine g_iinc hΓ dX3_placeOf_59 rfl rfl (lv' := [some (.ref h), some (.int (iI m)), some (.int (iI x3)), some (.int (iI x4))]) (by rw [ex4]; rfl) ?_
          refine g_goto (tgt := 4) hΓ dX3_placeOf_62 (by decide) ?_
          exact ih_loop x3 x4 (by omega) (by omega) (by rw [show x4.toNat = o.toNat + 1 by omega, plF, show ((o.toNat : Nat) : Int) = o by omega, ← hu, ex3]; first | (rw [if_pos (by omega)]; done) | (rw [if_neg (by omega)]))
        · refine g_aload_n hΓ rfl dX3_placeOf_32 ?_
          refine m_geta hok hΓ 30 (by decide) rfl rfl q1387 rfl dX3_placeOf_33 ?_
          refine g_iload_n hΓ rfl dX3_placeOf_36 ?_
          refine m_ald hok hΓ 30 (by decide) rfl (n := 8) rfl (by omega) (by decide) dX3_placeOf_37 ?_
          refine g_aload_n hΓ rfl dX3_placeOf_38 ?_
          refine m_geta hok hΓ 30 (by decide) rfl rfl q1387 rfl dX3_placeOf_39 ?_
          refine g_iload_n hΓ rfl dX3_placeOf_42 ?_
          refine m_ald hok hΓ 30 (by decide) rfl (n := 8) rfl (by omega) (by decide) dX3_placeOf_43 ?_
          refine g_icmp_ne (tgt := 56) hΓ (by omega) (by omega) dX3_placeOf_44 (by decide) (fun c5 => ?_) (fun c5 => ?_)
          · refine g_iconst hΓ dX3_placeOf_56 ?_
            refine g_iadd hΓ dX3_placeOf_57 ?_
            obtain ⟨x6, ex6⟩ : ∃ z9 : Int, z9 = u + 0 := ⟨_, rfl⟩
            refine g_topi ex6.symm ?_
            refine g_istore_n hΓ dX3_placeOf_58 rfl (Nat.le_of_ble_eq_true rfl) (lv' := [some (.ref h), some (.int (iI m)), some (.int (iI x6)), some (.int (iI o))]) rfl ?_
            obtain ⟨x7, ex7⟩ : ∃ z9 : Int, z9 = o + 1 := ⟨_, rfl⟩
            refine g_iinc hΓ dX3_placeOf_59 rfl rfl (lv' := [some (.ref h), some (.int (iI m)), some (.int (iI x6)), some (.int (iI x7))]) (by rw [ex7]; rfl) ?_
            refine g_goto (tgt := 4) hΓ dX3_placeOf_62 (by decide) ?_
            exact ih_loop x6 x7 (by omega) (by omega) (by rw [show x7.toNat = o.toNat + 1 by omega, plF, show ((o.toNat : Nat) : Int) = o by omega, ← hu, ex6]; first | (rw [if_pos (by omega)]; done) | (rw [if_neg (by omega)]))
          · refine g_iload_n hΓ rfl dX3_placeOf_47 ?_
            refine g_iload_n hΓ rfl dX3_placeOf_48 ?_
            refine g_icmp_ge (tgt := 56) hΓ (by omega) (by omega) dX3_placeOf_49 (by decide) (fun c8 => ?_) (fun c8 => ?_)
            · refine g_iconst hΓ dX3_placeOf_56 ?_
              refine g_iadd hΓ dX3_placeOf_57 ?_
              obtain ⟨x9, ex9⟩ : ∃ z9 : Int, z9 = u + 0 := ⟨_, rfl⟩
              refine g_topi ex9.symm ?_
              refine g_istore_n hΓ dX3_placeOf_58 rfl (Nat.le_of_ble_eq_true rfl) (lv' := [some (.ref h), some (.int (iI m)), some (.int (iI x9)), some (.int (iI o))]) rfl ?_
              obtain ⟨x10, ex10⟩ : ∃ z9 : Int, z9 = o + 1 := ⟨_, rfl⟩
              refine g_iinc hΓ dX3_placeOf_59 rfl rfl (lv' := [some (.ref h), some (.int (iI m)), some (.int (iI x9)), some (.int (iI x10))]) (by rw [ex10]; rfl) ?_
              refine g_goto (tgt := 4) hΓ dX3_placeOf_62 (by decide) ?_
              exact ih_loop x9 x10 (by omega) (by omega) (by rw [show x10.toNat = o.toNat + 1 by omega, plF, show ((o.toNat : Nat) : Int) = o by omega, ← hu, ex9]; first | (rw [if_pos (by omega)]; done) | (rw [if_neg (by omega)]))
            · refine g_iconst hΓ dX3_placeOf_52 ?_
              refine g_goto (tgt := 57) hΓ dX3_placeOf_53 (by decide) ?_
              refine g_iadd hΓ dX3_placeOf_57 ?_
              obtain ⟨x11, ex11⟩ : ∃ z9 : Int, z9 = u + 1 := ⟨_, rfl⟩
              refine g_topi ex11.symm ?_
              refine g_istore_n hΓ dX3_placeOf_58 rfl (Nat.le_of_ble_eq_true rfl) (lv' := [some (.ref h), some (.int (iI m)), some (.int (iI x11)), some (.int (iI o))]) rfl ?_
              obtain ⟨x12, ex12⟩ : ∃ z9 : Int, z9 = o + 1 := ⟨_, rfl⟩
              refine g_iinc hΓ dX3_placeOf_59 rfl rfl (lv' := [some (.ref h), some (.int (iI m)), some (.int (iI x11)), some (.int (iI x12))]) (by rw [ex12]; rfl) ?_
              refine g_goto (tgt := 4) hΓ dX3_placeOf_62 (by decide) ?_
              exact ih_loop x11 x12 (by omega) (by omega) (by rw [show x12.toNat = o.toNat + 1 by omega, plF, show ((o.toNat : Nat) : Int) = o by omega, ← hu, ex11]; first | (rw [if_pos (by omega)]; done) | (rw [if_neg (by omega)]))
  exact loop 9 0 0 (by omega) (by omega) rfl
set_option maxHeartbeats 4000000 in
theorem m_modelAt {l : Launch} {E : gE} {h : Nat} {ad : Nat → Nat} (hok : mOK E h ad) (σ : mS)  (p : Int) (hp : r32 p) (hn : 0 ≤ σ 0 1000 ∧ σ 0 1000 ≤ 8) (hs : ∀ o, 0 ≤ o → o < σ 0 1000 → 0 ≤ σ 30 o ∧ σ 30 o ≤ 1584) : mC l E h ad yX3_modelAt cX3_modelAt 3 (some .int) 1 [.ref h, .int (iI p)] σ (fun rv σ' => rv = some (.int (iI (moA (σ 30) (nMod σ) p))) ∧ σ' = σ) := by
  refine mC.of (by decide) [some (.ref h), some (.int (iI p)), none] (Nat.le_of_ble_eq_true rfl) rfl rfl (fun Γ hΓ => ?_)
  refine g_iconst hΓ dX3_modelAt_0 ?_
  refine g_istore_n hΓ dX3_modelAt_1 rfl (Nat.le_of_ble_eq_true rfl) (lv' := [some (.ref h), some (.int (iI p)), some (.int (iI 0))]) rfl ?_
  have loop : ∀ (fu : Nat) (m : Int), (σ 0 1000 - m).toNat < fu → (0 ≤ m ∧ m ≤ σ 0 1000) → (moF (σ 30) (nMod σ) p (σ 0 1000 - m).toNat m = moA (σ 30) (nMod σ) p) → gW Γ E (mM E h ad σ) 0 0 2 [some (.ref h), some (.int (iI p)), some (.int (iI m))] [] := by
    intro fu
    induction fu with
    | zero => intro m hn; exact absurd hn (Nat.not_lt_zero _)
    | succ fu ih_loop =>
      intro m hn hm hv
      refine g_iload_n hΓ rfl dX3_modelAt_2 ?_
      refine g_aload_n hΓ rfl dX3_modelAt_3 ?_
      refine m_geta hok hΓ 0 (by decide) rfl rfl q1357 rfl dX3_modelAt_4 ?_
      refine g_sipush hΓ (by decide) dX3_modelAt_7 ?_
      refine m_ald hok hΓ 0 (by decide) rfl (n := 1048) rfl (by omega) (by decide) dX3_modelAt_10 ?_
      refine g_icmp_ge (tgt := 31) hΓ (by omega) (by omega) dX3_modelAt_11 (by decide) (fun c1 => ?_) (fun c1 => ?_)
      · refine g_iconst hΓ dX3_modelAt_31 ?_
        exact m_iret hΓ dX3_modelAt_32 ⟨ri (by rw [← hv]; rw [show (σ 0 1000 - m).toNat = 0 by omega]; rfl), rfl⟩
      · have hpr := plF_r (σ 30) m (nMod σ)
        have hnm : ((nMod σ : Nat) : Int) = σ 0 1000 := by rw [nMod]; omega
        refine g_aload_n hΓ rfl dX3_modelAt_14 ?_
        refine g_iload_n hΓ rfl dX3_modelAt_15 ?_
        refine m_callV (As := [.int (iI m)]) (rest := []) hok hΓ (m_placeOf hok σ m (by first | assumption | omega) (by first | assumption | omega) (by first | assumption | omega)) rfl q1794 q1796 qs103 q131 q1797 ndX3_placeOf rfl (by decide) (by decide) rfl rfl (Nat.le_of_ble_eq_true rfl) dX3_modelAt_16 rfl (fun v2 τ2 τ2h => ?_)
        obtain ⟨rfl, τ2h⟩ := τ2h
        rw [τ2h]
        clear τ2h
        show gW Γ E (mM E h ad σ) 0 0 _ _ (.int (iI (plF (σ 30) m (nMod σ))) :: _)
        refine g_iload_n hΓ rfl dX3_modelAt_19 ?_
        refine g_icmp_ne (tgt := 25) hΓ (by omega) (by omega) dX3_modelAt_20 (by decide) (fun c3 => ?_) (fun c3 => ?_)
        · obtain ⟨x4, ex4⟩ : ∃ z9 : Int, z9 = m + 1 := ⟨_, rfl⟩
          refine g_iinc hΓ dX3_modelAt_25 rfl rfl (lv' := [some (.ref h), some (.int (iI p)), some (.int (iI x4))]) (by rw [ex4]; rfl) ?_
          refine g_goto (tgt := 2) hΓ dX3_modelAt_28 (by decide) ?_
          exact ih_loop x4 (by omega) (by omega) (by rw [← hv, show (σ 0 1000 - m).toNat = (σ 0 1000 - x4).toNat + 1 by omega, moF, if_neg (by omega), ex4])
        · refine g_iload_n hΓ rfl dX3_modelAt_23 ?_
          exact m_iret hΓ dX3_modelAt_24 ⟨ri (by rw [← hv]; rw [show (σ 0 1000 - m).toNat = (σ 0 1000 - m - 1).toNat + 1 by omega, moF, if_pos (by omega)]), rfl⟩
  exact loop 9 0 (by omega) (by omega) (by rw [moA, nMod, Int.sub_zero])
set_option maxHeartbeats 4000000 in
theorem m_marginOf {l : Launch} {E : gE} {h : Nat} {ad : Nat → Nat} (hok : mOK E h ad) (σ : mS)   (hn : 0 ≤ σ 0 1000 ∧ σ 0 1000 ≤ 8) (hs : ∀ o, 0 ≤ o → o < σ 0 1000 → 0 ≤ σ 30 o ∧ σ 30 o ≤ 1584) : mC l E h ad yX3_marginOf cX3_marginOf 1 (some .int) 2 [.ref h] σ (fun rv σ' => rv = some (.int (iI (mgn (σ 30) (nMod σ)))) ∧ σ' = σ) := by
  refine mC.of (by decide) [some (.ref h)] (Nat.le_of_ble_eq_true rfl) rfl rfl (fun Γ hΓ => ?_)
  have hnm : ((nMod σ : Nat) : Int) = σ 0 1000 := by rw [nMod]; omega
  refine g_aload_n hΓ rfl dX3_marginOf_0 ?_
  refine m_geta hok hΓ 0 (by decide) rfl rfl q1357 rfl dX3_marginOf_1 ?_
  refine g_sipush hΓ (by decide) dX3_marginOf_4 ?_
  refine m_ald hok hΓ 0 (by decide) rfl (n := 1048) rfl (by omega) (by decide) dX3_marginOf_7 ?_
  refine g_iconst hΓ dX3_marginOf_8 ?_
  refine g_icmp_ge (tgt := 18) hΓ (by omega) (by omega) dX3_marginOf_9 (by decide) (fun c1 => ?_) (fun c1 => ?_)
  · have a0 := moA_in (f := σ 30) (N := nMod σ) (p := 0) (by omega) (by omega)
    have a1 := moA_in (f := σ 30) (N := nMod σ) (p := 1) (by omega) (by omega)
    refine g_aload_n hΓ rfl dX3_marginOf_18 ?_
    refine m_geta hok hΓ 30 (by decide) rfl rfl q1387 rfl dX3_marginOf_19 ?_
    refine g_aload_n hΓ rfl dX3_marginOf_22 ?_
    refine g_iconst hΓ dX3_marginOf_23 ?_
    refine m_callV (As := [.int (iI 1)]) (rest := [.ref (ad 30)]) hok hΓ (m_modelAt hok σ 1 (by first | assumption | omega) (by first | assumption | omega) (by first | assumption | omega)) rfl q1790 q1792 qs102 q131 q1793 ndX3_modelAt rfl (by decide) (by decide) rfl rfl (Nat.le_of_ble_eq_true rfl) dX3_marginOf_24 rfl (fun v2 τ2 τ2h => ?_)
    obtain ⟨rfl, τ2h⟩ := τ2h
    rw [τ2h]
    clear τ2h
    show gW Γ E (mM E h ad σ) 0 0 _ _ (.int (iI (moA (σ 30) (nMod σ) 1)) :: _)
    refine m_ald hok hΓ 30 (by decide) rfl (n := 8) rfl (by omega) (by decide) dX3_marginOf_27 ?_
    refine g_aload_n hΓ rfl dX3_marginOf_28 ?_
    refine m_geta hok hΓ 30 (by decide) rfl rfl q1387 rfl dX3_marginOf_29 ?_
    refine g_aload_n hΓ rfl dX3_marginOf_32 ?_
    refine g_iconst hΓ dX3_marginOf_33 ?_
    refine m_callV (As := [.int (iI 0)]) (rest := [.ref (ad 30), .int (iI (σ 30 (moA (σ 30) (nMod σ) 1)))]) hok hΓ (m_modelAt hok σ 0 (by first | assumption | omega) (by first | assumption | omega) (by first | assumption | omega)) rfl q1790 q1792 qs102 q131 q1793 ndX3_modelAt rfl (by decide) (by decide) rfl rfl (Nat.le_of_ble_eq_true rfl) dX3_marginOf_34 rfl (fun v3 τ3 τ3h => ?_)
    obtain ⟨rfl, τ3h⟩ := τ3h
    rw [τ3h]
    clear τ3h
    show gW Γ E (mM E h ad σ) 0 0 _ _ (.int (iI (moA (σ 30) (nMod σ) 0)) :: _)
    refine m_ald hok hΓ 30 (by decide) rfl (n := 8) rfl (by omega) (by decide) dX3_marginOf_37 ?_
    refine g_isub hΓ dX3_marginOf_38 ?_
    exact m_iret hΓ dX3_marginOf_39 ⟨ri (by rw [mgn]; first | rw [if_pos (by omega)] | rw [if_neg (by omega)]), rfl⟩
  · refine g_ldcw (n := -1000000) hΓ rfl q1806 (by decide) dX3_marginOf_12 ?_
    refine g_goto (tgt := 39) hΓ dX3_marginOf_15 (by decide) ?_
    exact m_iret hΓ dX3_marginOf_39 ⟨ri (by rw [mgn]; first | rw [if_pos (by omega)] | rw [if_neg (by omega)]), rfl⟩
set_option maxHeartbeats 4000000 in
theorem m_rank {l : Launch} {E : gE} {h : Nat} {ad : Nat → Nat} (hok : mOK E h ad) (σ : mS)  (k : Int) (hk : r32 k) (hr : rowOK (σ 0)) : mC l E h ad yX3_rank cX3_rank 2 (some .int) 9 [.ref h, .int (iI k)] σ (fun rv σ' => rv = some (.int (iI (sp_rank σ k))) ∧ (True) ∧ ∀ (k : Nat) (j : Int), k ∉ [22, 23, 24, 25, 26, 27, 28, 29, 30] → σ' k j = σ k j) := by
  refine mC.of (by decide) [some (.ref h), some (.int (iI k))] (Nat.le_of_ble_eq_true rfl) rfl rfl (fun Γ hΓ => ?_)
  obtain ⟨h1000, h1009, h1042, h1043, h1044, h1045, h1046, h1047, hms, hsi, hsm, hnm⟩ := id hr
  have hli := inkS hr
  refine g_aload_n hΓ rfl dX3_rank_0 ?_
  refine g_iconst hΓ dX3_rank_1 ?_
  refine g_aload_n hΓ rfl dX3_rank_2 ?_
  refine m_geta hok hΓ 0 (by decide) rfl rfl q1357 rfl dX3_rank_3 ?_
  refine g_sipush hΓ (by decide) dX3_rank_6 ?_
  refine m_ald hok hΓ 0 (by decide) rfl (n := 1048) rfl (by omega) (by decide) dX3_rank_9 ?_
  refine m_callV (As := [.int (iI 0), .int (iI (σ 0 1009))]) (rest := []) hok hΓ (m_laysScores hok σ 0 (σ 0 1009) (by first | assumption | omega) (by first | assumption | omega)) rfl q1786 q1788 qs101 q131 q1789 ndX3_laysScores rfl (by decide) (by decide) rfl rfl (Nat.le_of_ble_eq_true rfl) dX3_rank_10 rfl (fun v1 τ1 τ1h => ?_)
  obtain ⟨rfl, τ1h, τ1f⟩ := τ1h
  have τ10 : τ1 0 = σ 0 := funext fun j => τ1f 0 j (by decide)
  have τ17 : τ1 7 = σ 7 := funext fun j => τ1f 7 j (by decide)
  have τ18 : τ1 8 = σ 8 := funext fun j => τ1f 8 j (by decide)
  have τ1N : nMod τ1 = nMod σ := by rw [nMod, nMod, τ10]
  have hnm : ((nMod σ : Nat) : Int) = σ 0 1000 := by rw [nMod]; omega
  have hk : ∀ o : Int, 0 ≤ o → o < nMod σ → τ1 30 o = scM σ 0 (σ 0 1009) o := fun o h0 h1 => τ1h o h0 (by omega)
  have hn1 : 0 ≤ τ1 0 1000 ∧ τ1 0 1000 ≤ 8 := by rw [τ10]; exact h1000
  have hs1 : ∀ o, 0 ≤ o → o < τ1 0 1000 → 0 ≤ τ1 30 o ∧ τ1 30 o ≤ 1584 := fun o h0 h1 => by
    rw [τ10] at h1
    rw [τ1h o h0 h1]
    exact scM_r hr hli h0 h1
  refine g_aload_n hΓ rfl dX3_rank_13 ?_
  refine g_iload_n hΓ rfl dX3_rank_14 ?_
  refine m_callV (As := [.int (iI k)]) (rest := []) hok hΓ (m_modelAt hok τ1 k (by first | assumption | omega) (by first | assumption | omega) (by first | assumption | omega)) rfl q1790 q1792 qs102 q131 q1793 ndX3_modelAt rfl (by decide) (by decide) rfl rfl (Nat.le_of_ble_eq_true rfl) dX3_rank_15 rfl (fun v2 τ2 τ2h => ?_)
  obtain ⟨rfl, τ2h⟩ := τ2h
  rw [τ2h]
  clear τ2h
  show gW Γ E (mM E h ad τ1) 0 0 _ _ (.int (iI (moA (τ1 30) (nMod τ1) k)) :: _)
  exact m_iret hΓ dX3_rank_18 ⟨ri (by rw [sp_rank, τ1N]; exact moA_congr hk _), trivial, (fun k j hk => (τ1f k j (fun e => hk ((show ∀ x ∈ [22, 23, 24, 25, 26, 27, 28, 29, 30], x ∈ [22, 23, 24, 25, 26, 27, 28, 29, 30] by decide) k e))))⟩
set_option maxHeartbeats 4000000 in
theorem m_margin {l : Launch} {E : gE} {h : Nat} {ad : Nat → Nat} (hok : mOK E h ad) (σ : mS)   (hr : rowOK (σ 0)) : mC l E h ad yX3_margin cX3_margin 1 (some .int) 9 [.ref h] σ (fun rv σ' => rv = some (.int (iI (sp_margin σ))) ∧ (True) ∧ ∀ (k : Nat) (j : Int), k ∉ [22, 23, 24, 25, 26, 27, 28, 29, 30] → σ' k j = σ k j) := by
  refine mC.of (by decide) [some (.ref h)] (Nat.le_of_ble_eq_true rfl) rfl rfl (fun Γ hΓ => ?_)
  obtain ⟨h1000, h1009, h1042, h1043, h1044, h1045, h1046, h1047, hms, hsi, hsm, hnm⟩ := id hr
  have hli := inkS hr
  refine g_aload_n hΓ rfl dX3_margin_0 ?_
  refine g_iconst hΓ dX3_margin_1 ?_
  refine g_aload_n hΓ rfl dX3_margin_2 ?_
  refine m_geta hok hΓ 0 (by decide) rfl rfl q1357 rfl dX3_margin_3 ?_
  refine g_sipush hΓ (by decide) dX3_margin_6 ?_
  refine m_ald hok hΓ 0 (by decide) rfl (n := 1048) rfl (by omega) (by decide) dX3_margin_9 ?_
  refine m_callV (As := [.int (iI 0), .int (iI (σ 0 1009))]) (rest := []) hok hΓ (m_laysScores hok σ 0 (σ 0 1009) (by first | assumption | omega) (by first | assumption | omega)) rfl q1786 q1788 qs101 q131 q1789 ndX3_laysScores rfl (by decide) (by decide) rfl rfl (Nat.le_of_ble_eq_true rfl) dX3_margin_10 rfl (fun v1 τ1 τ1h => ?_)
  obtain ⟨rfl, τ1h, τ1f⟩ := τ1h
  have τ10 : τ1 0 = σ 0 := funext fun j => τ1f 0 j (by decide)
  have τ17 : τ1 7 = σ 7 := funext fun j => τ1f 7 j (by decide)
  have τ18 : τ1 8 = σ 8 := funext fun j => τ1f 8 j (by decide)
  have τ1N : nMod τ1 = nMod σ := by rw [nMod, nMod, τ10]
  have hnm : ((nMod σ : Nat) : Int) = σ 0 1000 := by rw [nMod]; omega
  have hk : ∀ o : Int, 0 ≤ o → o < nMod σ → τ1 30 o = scM σ 0 (σ 0 1009) o := fun o h0 h1 => τ1h o h0 (by omega)
  have hn1 : 0 ≤ τ1 0 1000 ∧ τ1 0 1000 ≤ 8 := by rw [τ10]; exact h1000
  have hs1 : ∀ o, 0 ≤ o → o < τ1 0 1000 → 0 ≤ τ1 30 o ∧ τ1 30 o ≤ 1584 := fun o h0 h1 => by
    rw [τ10] at h1
    rw [τ1h o h0 h1]
    exact scM_r hr hli h0 h1
  refine g_aload_n hΓ rfl dX3_margin_13 ?_
  refine m_callV (As := []) (rest := []) hok hΓ (m_marginOf hok τ1  (by first | assumption | omega) (by first | assumption | omega)) rfl q1802 q1804 qs104 q131 q1805 ndX3_marginOf rfl (by decide) (by decide) rfl rfl (Nat.le_of_ble_eq_true rfl) dX3_margin_14 rfl (fun v2 τ2 τ2h => ?_)
  obtain ⟨rfl, τ2h⟩ := τ2h
  rw [τ2h]
  clear τ2h
  show gW Γ E (mM E h ad τ1) 0 0 _ _ (.int (iI (mgn (τ1 30) (nMod τ1))) :: _)
  exact m_iret hΓ dX3_margin_17 ⟨ri (by rw [sp_margin, τ1N]; exact mgn_congr hk), trivial, (fun k j hk => (τ1f k j (fun e => hk ((show ∀ x ∈ [22, 23, 24, 25, 26, 27, 28, 29, 30], x ∈ [22, 23, 24, 25, 26, 27, 28, 29, 30] by decide) k e))))⟩
set_option maxHeartbeats 4000000 in
theorem m_sure {l : Launch} {E : gE} {h : Nat} {ad : Nat → Nat} (hok : mOK E h ad) (σ : mS)   (hr : rowOK (σ 0)) : mC l E h ad yX3_sure cX3_sure 1 (some .int) 9 [.ref h] σ (fun rv σ' => rv = some (.int (iI (sp_sure σ))) ∧ (True) ∧ ∀ (k : Nat) (j : Int), k ∉ [22, 23, 24, 25, 26, 27, 28, 29, 30] → σ' k j = σ k j) := by
  refine mC.of (by decide) [some (.ref h)] (Nat.le_of_ble_eq_true rfl) rfl rfl (fun Γ hΓ => ?_)
  obtain ⟨h1000, h1009, h1042, h1043, h1044, h1045, h1046, h1047, hms, hsi, hsm, hnm⟩ := id hr
  have hli := inkS hr
  refine g_aload_n hΓ rfl dX3_sure_0 ?_
  refine m_geta hok hΓ 0 (by decide) rfl rfl q1357 rfl dX3_sure_1 ?_
  refine g_sipush hΓ (by decide) dX3_sure_4 ?_
  refine m_ald hok hΓ 0 (by decide) rfl (n := 1048) rfl (by omega) (by decide) dX3_sure_7 ?_
  refine g_if_ne (tgt := 13) hΓ (by omega) dX3_sure_8 (by decide) (fun c1 => ?_) (fun c1 => ?_)
  · refine g_aload_n hΓ rfl dX3_sure_13 ?_
    refine g_iconst hΓ dX3_sure_14 ?_
    refine g_aload_n hΓ rfl dX3_sure_15 ?_
    refine m_geta hok hΓ 0 (by decide) rfl rfl q1357 rfl dX3_sure_16 ?_
    refine g_sipush hΓ (by decide) dX3_sure_19 ?_
    refine m_ald hok hΓ 0 (by decide) rfl (n := 1048) rfl (by omega) (by decide) dX3_sure_22 ?_
    refine m_callV (As := [.int (iI 0), .int (iI (σ 0 1009))]) (rest := []) hok hΓ (m_laysScores hok σ 0 (σ 0 1009) (by first | assumption | omega) (by first | assumption | omega)) rfl q1786 q1788 qs101 q131 q1789 ndX3_laysScores rfl (by decide) (by decide) rfl rfl (Nat.le_of_ble_eq_true rfl) dX3_sure_23 rfl (fun v2 τ2 τ2h => ?_)
    obtain ⟨rfl, τ2h, τ2f⟩ := τ2h
    have τ20 : τ2 0 = σ 0 := funext fun j => τ2f 0 j (by decide)
    have τ27 : τ2 7 = σ 7 := funext fun j => τ2f 7 j (by decide)
    have τ28 : τ2 8 = σ 8 := funext fun j => τ2f 8 j (by decide)
    have τ2N : nMod τ2 = nMod σ := by rw [nMod, nMod, τ20]
    have hnm : ((nMod σ : Nat) : Int) = σ 0 1000 := by rw [nMod]; omega
    have hk : ∀ o : Int, 0 ≤ o → o < nMod σ → τ2 30 o = scM σ 0 (σ 0 1009) o := fun o h0 h1 => τ2h o h0 (by omega)
    have hn1 : 0 ≤ τ2 0 1000 ∧ τ2 0 1000 ≤ 8 := by rw [τ20]; exact h1000
    have hs1 : ∀ o, 0 ≤ o → o < τ2 0 1000 → 0 ≤ τ2 30 o ∧ τ2 30 o ≤ 1584 := fun o h0 h1 => by
      rw [τ20] at h1
      rw [τ2h o h0 h1]
      exact scM_r hr hli h0 h1
    have hmg : mgn (τ2 30) (nMod τ2) = sp_margin σ := by rw [sp_margin, τ2N]; exact mgn_congr hk
    have hmr : -1000000 ≤ sp_margin σ ∧ sp_margin σ ≤ 1584 := mgn_r (fun o h0 h1 => scM_r hr hli h0 (by omega))
    refine g_aload_n hΓ rfl dX3_sure_26 ?_
    refine m_geta hok hΓ 0 (by decide) rfl rfl q1357 rfl dX3_sure_27 ?_
    refine g_sipush hΓ (by decide) dX3_sure_30 ?_
    refine m_ald hok hΓ 0 (by decide) rfl (n := 1048) rfl (by omega) (by decide) dX3_sure_33 ?_
    refine g_topi ((τ2f 0 1000 (by decide))) ?_
    refine g_iconst hΓ dX3_sure_34 ?_
    refine g_icmp_eq (tgt := 53) hΓ (by omega) (by omega) dX3_sure_35 (by decide) (fun c3 => ?_) (fun c3 => ?_)
    · refine g_iconst hΓ dX3_sure_53 ?_
      refine g_goto (tgt := 58) hΓ dX3_sure_54 (by decide) ?_
      exact m_iret hΓ dX3_sure_58 ⟨ri (by rw [sp_sure]; (repeat' split) <;> omega), trivial, (fun k j hk => (τ2f k j (fun e => hk ((show ∀ x ∈ [22, 23, 24, 25, 26, 27, 28, 29, 30], x ∈ [22, 23, 24, 25, 26, 27, 28, 29, 30] by decide) k e))))⟩
    · refine g_aload_n hΓ rfl dX3_sure_38 ?_
      refine m_callV (As := []) (rest := []) hok hΓ (m_marginOf hok τ2  (by first | assumption | omega) (by first | assumption | omega)) rfl q1802 q1804 qs104 q131 q1805 ndX3_marginOf rfl (by decide) (by decide) rfl rfl (Nat.le_of_ble_eq_true rfl) dX3_sure_39 rfl (fun v4 τ4 τ4h => ?_)
      obtain ⟨rfl, τ4h⟩ := τ4h
      rw [τ4h]
      clear τ4h
      show gW Γ E (mM E h ad τ2) 0 0 _ _ (.int (iI (mgn (τ2 30) (nMod τ2))) :: _)
      refine g_aload_n hΓ rfl dX3_sure_42 ?_
      refine m_geta hok hΓ 0 (by decide) rfl rfl q1357 rfl dX3_sure_43 ?_
      refine g_sipush hΓ (by decide) dX3_sure_46 ?_
      refine m_ald hok hΓ 0 (by decide) rfl (n := 1048) rfl (by omega) (by decide) dX3_sure_49 ?_
      refine g_topi ((τ2f 0 1046 (by decide))) ?_
      refine g_icmp_lt (tgt := 57) hΓ (by omega) (by omega) dX3_sure_50 (by decide) (fun c5 => ?_) (fun c5 => ?_)
      · refine g_iconst hΓ dX3_sure_57 ?_
        exact m_iret hΓ dX3_sure_58 ⟨ri (by rw [sp_sure]; (repeat' split) <;> omega), trivial, (fun k j hk => (τ2f k j (fun e => hk ((show ∀ x ∈ [22, 23, 24, 25, 26, 27, 28, 29, 30], x ∈ [22, 23, 24, 25, 26, 27, 28, 29, 30] by decide) k e))))⟩
      · refine g_iconst hΓ dX3_sure_53 ?_
        refine g_goto (tgt := 58) hΓ dX3_sure_54 (by decide) ?_
        exact m_iret hΓ dX3_sure_58 ⟨ri (by rw [sp_sure]; (repeat' split) <;> omega), trivial, (fun k j hk => (τ2f k j (fun e => hk ((show ∀ x ∈ [22, 23, 24, 25, 26, 27, 28, 29, 30], x ∈ [22, 23, 24, 25, 26, 27, 28, 29, 30] by decide) k e))))⟩
  · refine g_iconst hΓ dX3_sure_11 ?_
    exact m_iret hΓ dX3_sure_12 ⟨ri (by rw [sp_sure]; (repeat' split) <;> omega), trivial, (fun k j hk => rfl)⟩
