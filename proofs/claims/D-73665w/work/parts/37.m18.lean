set_option maxRecDepth 100000
set_option maxHeartbeats 4000000 in
theorem m_forgetTold {l : Launch} {E : gE} {h : Nat} {ad : Nat → Nat} (hok : mOK E h ad) (σ : mS)    : mC l E h ad yX3_forgetTold cX3_forgetTold 2 (some .int) 0 [.ref h] σ (fun rv σ' => rv = some (.int (iI (σ 6 0))) ∧ (σ' 6 0 = 0) ∧ ∀ (k : Nat) (j : Int), k ∉ [6] → σ' k j = σ k j) := by
  refine mC.of (by decide) [some (.ref h), none] (Nat.le_of_ble_eq_true rfl) rfl rfl (fun Γ hΓ => ?_)
  refine g_aload_n hΓ rfl dX3_forgetTold_0 ?_
  refine m_geti hok hΓ 6 (by decide) rfl rfl q1363 rfl dX3_forgetTold_1 ?_
  obtain ⟨x1, ex1⟩ : ∃ z9 : Int, z9 = σ 6 0 := ⟨_, rfl⟩
  refine g_topi ex1.symm ?_
  refine g_istore_n hΓ dX3_forgetTold_4 rfl (Nat.le_of_ble_eq_true rfl) (lv' := [some (.ref h), some (.int (iI x1))]) rfl ?_
  refine g_aload_n hΓ rfl dX3_forgetTold_5 ?_
  refine g_iconst hΓ dX3_forgetTold_6 ?_
  refine m_puti hok hΓ 6 (by decide) rfl rfl q1363 rfl rfl rfl dX3_forgetTold_7 (fun τ2 τ2e => ?_)
  have τ2r : τ2 6 0 = 0 := by rw [τ2e]; exact us_s _ _ _ _
  have τ2f : ∀ (k9 : Nat) (j9 : Int), (k9 ≠ 6 ∨ j9 ≠ 0) → τ2 k9 j9 = σ k9 j9 := fun k9 j9 hh => by rw [τ2e]; exact us_n hh
  refine g_iload_n hΓ rfl dX3_forgetTold_10 ?_
  exact m_iret hΓ dX3_forgetTold_11 ⟨ri (by omega), τ2r, (fun k j hk => (τ2f k j (Or.inl (fun e => hk (by rw [e]; decide)))))⟩
set_option maxHeartbeats 4000000 in
theorem m_valuesOf {l : Launch} {E : gE} {h : Nat} {ad : Nat → Nat} (hok : mOK E h ad) (σ : mS)  (w : Int) (hw : r32 w) : mC l E h ad yX3_valuesOf cX3_valuesOf 1 (some .int) 0 [.int (iI w)] σ (fun rv σ' => rv = some (.int (iI (vlN w))) ∧ σ' = σ) := by
  refine mC.of (by decide) [some (.int (iI w))] (Nat.le_of_ble_eq_true rfl) rfl rfl (fun Γ hΓ => ?_)
  refine g_iload_n hΓ rfl dX3_valuesOf_0 ?_
  refine g_iconst hΓ dX3_valuesOf_1 ?_
  refine g_icmp_ne (tgt := 10) hΓ (by omega) (by omega) dX3_valuesOf_2 (by decide) (fun c1 => ?_) (fun c1 => ?_)
  · refine g_bipush hΓ (by decide) dX3_valuesOf_10 ?_
    exact m_iret hΓ dX3_valuesOf_12 ⟨ri (by rw [vlN]; first | rw [if_pos (by omega)] | rw [if_neg (by omega)]), rfl⟩
  · refine g_bipush hΓ (by decide) dX3_valuesOf_5 ?_
    refine g_goto (tgt := 12) hΓ dX3_valuesOf_7 (by decide) ?_
    exact m_iret hΓ dX3_valuesOf_12 ⟨ri (by rw [vlN]; first | rw [if_pos (by omega)] | rw [if_neg (by omega)]), rfl⟩
set_option maxHeartbeats 4000000 in
theorem m_toldAs {l : Launch} {E : gE} {h : Nat} {ad : Nat → Nat} (hok : mOK E h ad) (σ : mS)  (k : Int) (w : Int) (hk : r32 k) (hw : r32 w) (hr : rowOK (σ 0)) (ht : tolOK σ) : mC l E h ad yX3_toldAs cX3_toldAs 3 (some .int) 9 [.ref h, .int (iI k), .int (iI w)] σ (fun rv σ' => rv = some (.int (iI (sp_toldAs σ k w))) ∧ (True) ∧ ∀ (k : Nat) (j : Int), k ∉ [22, 23, 24, 25, 26, 27, 28, 29, 30] → σ' k j = σ k j) := by
  refine mC.of (by decide) [some (.ref h), some (.int (iI k)), some (.int (iI w))] (Nat.le_of_ble_eq_true rfl) rfl rfl (fun Γ hΓ => ?_)
  obtain ⟨h1000, h1009, h1042, h1043, h1044, h1045, h1046, h1047, hms, hsi, hsm, hnm⟩ := id hr
  have ht6 := ht.1
  refine g_iload_n hΓ rfl dX3_toldAs_0 ?_
  refine g_iconst hΓ dX3_toldAs_1 ?_
  refine g_aload_n hΓ rfl dX3_toldAs_2 ?_
  refine m_geti hok hΓ 6 (by decide) rfl rfl q1363 rfl dX3_toldAs_3 ?_
  refine g_iconst hΓ dX3_toldAs_6 ?_
  refine g_isub hΓ dX3_toldAs_7 ?_
  refine m_callS (As := [.int (iI k), .int (iI 0), .int (iI ((σ 6 0) - 1))]) (rest := []) hok hΓ (m_isIn hok σ k 0 ((σ 6 0) - 1) (by first | assumption | omega) (by first | assumption | omega) (by first | assumption | omega)) rfl q1549 q1550 q131 q1551 ndX3_isIn rfl (by decide) (by decide) rfl (Nat.le_of_ble_eq_true rfl) dX3_toldAs_8 rfl (fun v1 τ1 τ1h => ?_)
  obtain ⟨rfl, τ1h⟩ := τ1h
  rw [τ1h]
  clear τ1h
  show gW Γ E (mM E h ad σ) 0 0 _ _ (.int (iI (if 0 ≤ k ∧ k ≤ ((σ 6 0) - 1) then 1 else 0)) :: _)
  refine g_ifB_eq (tgt := 23) hΓ  dX3_toldAs_11 (by decide) (fun c2 => ?_) (fun c2 => ?_)
  · refine g_iconst hΓ dX3_toldAs_23 ?_
    exact m_iret hΓ dX3_toldAs_24 ⟨ri (by rw [sp_toldAs]; rw [if_neg (by omega)]), trivial, (fun k j hk => rfl)⟩
  · refine g_iload_n hΓ rfl dX3_toldAs_14 ?_
    refine g_iconst hΓ dX3_toldAs_15 ?_
    refine g_iconst hΓ dX3_toldAs_16 ?_
    refine m_callS (As := [.int (iI w), .int (iI 0), .int (iI 2)]) (rest := []) hok hΓ (m_isIn hok σ w 0 2 (by first | assumption | omega) (by first | assumption | omega) (by first | assumption | omega)) rfl q1549 q1550 q131 q1551 ndX3_isIn rfl (by decide) (by decide) rfl (Nat.le_of_ble_eq_true rfl) dX3_toldAs_17 rfl (fun v3 τ3 τ3h => ?_)
    obtain ⟨rfl, τ3h⟩ := τ3h
    rw [τ3h]
    clear τ3h
    show gW Γ E (mM E h ad σ) 0 0 _ _ (.int (iI (if 0 ≤ w ∧ w ≤ 2 then 1 else 0)) :: _)
    refine g_ifB_ne (tgt := 25) hΓ  dX3_toldAs_20 (by decide) (fun c4 => ?_) (fun c4 => ?_)
    · have htk := ht.2 k (by omega) (by omega)
      have htl := htk.2.2
      refine g_iload_n hΓ rfl dX3_toldAs_25 ?_
      refine g_iconst hΓ dX3_toldAs_26 ?_
      refine g_icmp_ge (tgt := 50) hΓ (by omega) (by omega) dX3_toldAs_27 (by decide) (fun c5 => ?_) (fun c5 => ?_)
      · refine g_aload_n hΓ rfl dX3_toldAs_50 ?_
        refine g_aload_n hΓ rfl dX3_toldAs_51 ?_
        refine m_geta hok hΓ 10 (by decide) rfl rfl q1367 rfl dX3_toldAs_52 ?_
        refine g_iload_n hΓ rfl dX3_toldAs_55 ?_
        refine m_ald hok hΓ 10 (by decide) rfl (n := 8) rfl (by omega) (by decide) dX3_toldAs_56 ?_
        refine m_callV (As := [.int (iI (σ 10 k))]) (rest := []) hok hΓ (m_isModel hok σ (σ 10 k) (by first | assumption | omega) (by first | assumption | omega)) rfl q1594 q1596 qs76 q131 q1597 ndX3_isModel rfl (by decide) (by decide) rfl rfl (Nat.le_of_ble_eq_true rfl) dX3_toldAs_57 rfl (fun v6 τ6 τ6h => ?_)
        obtain ⟨rfl, τ6h⟩ := τ6h
        rw [τ6h]
        clear τ6h
        show gW Γ E (mM E h ad σ) 0 0 _ _ (.int (iI (if 0 ≤ (σ 10 k) ∧ (σ 10 k) < σ 0 1000 then 1 else 0)) :: _)
        refine g_ifB_ne (tgt := 65) hΓ  dX3_toldAs_60 (by decide) (fun c7 => ?_) (fun c7 => ?_)
        · refine g_aload_n hΓ rfl dX3_toldAs_65 ?_
          refine g_bipush hΓ (by decide) dX3_toldAs_66 ?_
          refine g_bipush hΓ (by decide) dX3_toldAs_68 ?_
          refine g_iload_n hΓ rfl dX3_toldAs_70 ?_
          refine g_imul hΓ dX3_toldAs_71 ?_
          refine g_iadd hΓ dX3_toldAs_72 ?_
          refine g_aload_n hΓ rfl dX3_toldAs_73 ?_
          refine m_geta hok hΓ 9 (by decide) rfl rfl q1366 rfl dX3_toldAs_74 ?_
          refine g_iload_n hΓ rfl dX3_toldAs_77 ?_
          refine m_ald hok hΓ 9 (by decide) rfl (n := 8) rfl (by omega) (by decide) dX3_toldAs_78 ?_
          refine m_callV (As := [.int (iI (40 + (8 * k))), .int (iI (σ 9 k))]) (rest := []) hok hΓ (m_laysScores hok σ (40 + (8 * k)) (σ 9 k) (by first | assumption | omega) (by first | assumption | omega)) rfl q1786 q1788 qs101 q131 q1789 ndX3_laysScores rfl (by decide) (by decide) rfl rfl (Nat.le_of_ble_eq_true rfl) dX3_toldAs_79 rfl (fun v8 τ8 τ8h => ?_)
          obtain ⟨rfl, τ8h, τ8f⟩ := τ8h
          have τ80 : τ8 0 = σ 0 := funext fun j => τ8f 0 j (by decide)
          have τ87 : τ8 7 = σ 7 := funext fun j => τ8f 7 j (by decide)
          have τ88 : τ8 8 = σ 8 := funext fun j => τ8f 8 j (by decide)
          have τ8N : nMod τ8 = nMod σ := by rw [nMod, nMod, τ80]
          have hnm : ((nMod σ : Nat) : Int) = σ 0 1000 := by rw [nMod]; omega
          have hk9 : ∀ o : Int, 0 ≤ o → o < nMod σ → τ8 30 o = scM σ (40 + 8 * k) (σ 9 k) o := fun o h0 h1 => τ8h o h0 (by omega)
          have hn1 : 0 ≤ τ8 0 1000 ∧ τ8 0 1000 ≤ 8 := by rw [τ80]; exact h1000
          have hs1 : ∀ o, 0 ≤ o → o < τ8 0 1000 → 0 ≤ τ8 30 o ∧ τ8 30 o ≤ 1584 := fun o h0 h1 => by
            rw [τ80] at h1
            rw [τ8h o h0 h1]
            exact scM_r hr htk.2.2 h0 h1
          have hm1 : 0 ≤ σ 10 k ∧ σ 10 k < τ8 0 1000 := by rw [τ80]; omega
          refine g_aload_n hΓ rfl dX3_toldAs_82 ?_
          refine g_aload_n hΓ rfl dX3_toldAs_83 ?_
          refine m_geta hok hΓ 10 (by decide) rfl rfl q1367 rfl dX3_toldAs_84 ?_
          refine g_iload_n hΓ rfl dX3_toldAs_87 ?_
          refine m_ald hok hΓ 10 (by decide) rfl (n := 8) rfl (by omega) (by decide) dX3_toldAs_88 ?_
          refine g_topi ((τ8f 10 k (by decide))) ?_
          refine m_callV (As := [.int (iI (σ 10 k))]) (rest := []) hok hΓ (m_placeOf hok τ8 (σ 10 k) (by first | assumption | omega) (by first | assumption | omega) (by first | assumption | omega)) rfl q1794 q1796 qs103 q131 q1797 ndX3_placeOf rfl (by decide) (by decide) rfl rfl (Nat.le_of_ble_eq_true rfl) dX3_toldAs_89 rfl (fun v9 τ9 τ9h => ?_)
          obtain ⟨rfl, τ9h⟩ := τ9h
          rw [τ9h]
          clear τ9h
          show gW Γ E (mM E h ad τ8) 0 0 _ _ (.int (iI (plF (τ8 30) (σ 10 k) (nMod τ8))) :: _)
          exact m_iret hΓ dX3_toldAs_92 ⟨ri (by rw [sp_toldAs]; rw [if_pos (by omega)]; rw [if_neg (by omega), if_pos (by omega), τ8N]; exact plF_congr hk9 (by omega) (by omega) _ (Nat.le_refl _)), trivial, (fun k j hk => (τ8f k j (fun e => hk ((show ∀ x ∈ [22, 23, 24, 25, 26, 27, 28, 29, 30], x ∈ [22, 23, 24, 25, 26, 27, 28, 29, 30] by decide) k e))))⟩
        · refine g_iconst hΓ dX3_toldAs_63 ?_
          exact m_iret hΓ dX3_toldAs_64 ⟨ri (by rw [sp_toldAs]; rw [if_pos (by omega)]; rw [if_neg (by omega), if_neg (by omega)]), trivial, (fun k j hk => rfl)⟩
      · refine g_iload_n hΓ rfl dX3_toldAs_30 ?_
        refine g_if_ne (tgt := 43) hΓ (by omega) dX3_toldAs_31 (by decide) (fun c10 => ?_) (fun c10 => ?_)
        · refine g_aload_n hΓ rfl dX3_toldAs_43 ?_
          refine m_geta hok hΓ 9 (by decide) rfl rfl q1366 rfl dX3_toldAs_44 ?_
          refine g_iload_n hΓ rfl dX3_toldAs_47 ?_
          refine m_ald hok hΓ 9 (by decide) rfl (n := 8) rfl (by omega) (by decide) dX3_toldAs_48 ?_
          exact m_iret hΓ dX3_toldAs_49 ⟨ri (by rw [sp_toldAs]; rw [if_pos (by omega)]; rw [if_pos (by omega)]; first | rw [if_pos (by omega)] | rw [if_neg (by omega)]), trivial, (fun k j hk => rfl)⟩
        · refine g_aload_n hΓ rfl dX3_toldAs_34 ?_
          refine m_geta hok hΓ 10 (by decide) rfl rfl q1367 rfl dX3_toldAs_35 ?_
          refine g_iload_n hΓ rfl dX3_toldAs_38 ?_
          refine m_ald hok hΓ 10 (by decide) rfl (n := 8) rfl (by omega) (by decide) dX3_toldAs_39 ?_
          refine g_goto (tgt := 49) hΓ dX3_toldAs_40 (by decide) ?_
          exact m_iret hΓ dX3_toldAs_49 ⟨ri (by rw [sp_toldAs]; rw [if_pos (by omega)]; rw [if_pos (by omega)]; first | rw [if_pos (by omega)] | rw [if_neg (by omega)]), trivial, (fun k j hk => rfl)⟩
    · refine g_iconst hΓ dX3_toldAs_23 ?_
      exact m_iret hΓ dX3_toldAs_24 ⟨ri (by rw [sp_toldAs]; rw [if_neg (by omega)]), trivial, (fun k j hk => rfl)⟩
set_option maxHeartbeats 4000000 in
theorem m_areModelsThere {l : Launch} {E : gE} {h : Nat} {ad : Nat → Nat} (hok : mOK E h ad) (σ : mS)   (hr : rowOK (σ 0)) (ht : tolOK σ) : mC l E h ad yX3_areModelsThere cX3_areModelsThere 2 (some .boolean) 2 [.ref h] σ (fun rv σ' => rv = some (.int (iI (if allM σ (σ 6 0).toNat = true ∧ 0 < σ 6 0 ∧ 1 < σ 0 1000 then 1 else 0))) ∧ σ' = σ) := by
  refine mC.of (by decide) [some (.ref h), none] (Nat.le_of_ble_eq_true rfl) rfl rfl (fun Γ hΓ => ?_)
  obtain ⟨h1000, h1009, h1042, h1043, h1044, h1045, h1046, h1047, hms, hsi, hsm, hnm⟩ := id hr
  have ht6 := ht.1
  refine g_iconst hΓ dX3_areModelsThere_0 ?_
  refine g_istore_n hΓ dX3_areModelsThere_1 rfl (Nat.le_of_ble_eq_true rfl) (lv' := [some (.ref h), some (.int (iI 0))]) rfl ?_
  have loop : ∀ (fu : Nat) (k : Int), (σ 6 0 - k).toNat < fu → (0 ≤ k ∧ k ≤ σ 6 0) → (allM σ k.toNat = true) → gW Γ E (mM E h ad σ) 0 0 2 [some (.ref h), some (.int (iI k))] [] := by
    intro fu
    induction fu with
    | zero => intro k hn; exact absurd hn (Nat.not_lt_zero _)
    | succ fu ih_loop =>
      intro k hn hk hA
      refine g_iload_n hΓ rfl dX3_areModelsThere_2 ?_
      refine g_aload_n hΓ rfl dX3_areModelsThere_3 ?_
      refine m_geti hok hΓ 6 (by decide) rfl rfl q1363 rfl dX3_areModelsThere_4 ?_
      refine g_icmp_ge (tgt := 31) hΓ (by omega) (by omega) dX3_areModelsThere_7 (by decide) (fun c1 => ?_) (fun c1 => ?_)
      · refine g_aload_n hΓ rfl dX3_areModelsThere_31 ?_
        refine m_geti hok hΓ 6 (by decide) rfl rfl q1363 rfl dX3_areModelsThere_32 ?_
        refine g_if_le (tgt := 54) hΓ (by omega) dX3_areModelsThere_35 (by decide) (fun c2 => ?_) (fun c2 => ?_)
        · refine g_iconst hΓ dX3_areModelsThere_54 ?_
          exact m_zret hΓ (by omega) dX3_areModelsThere_55 ⟨ri (by first | (rw [if_pos ⟨by rw [show (σ 6 0).toNat = k.toNat by omega]; exact hA, by omega, by omega⟩]; done) | (rw [if_neg (by omega)]; done) | (rw [if_neg (fun q => by have z := allM_at q.1 (k := k) (by omega) (by omega); omega)])), rfl⟩
        · refine g_aload_n hΓ rfl dX3_areModelsThere_38 ?_
          refine m_geta hok hΓ 0 (by decide) rfl rfl q1357 rfl dX3_areModelsThere_39 ?_
          refine g_sipush hΓ (by decide) dX3_areModelsThere_42 ?_
          refine m_ald hok hΓ 0 (by decide) rfl (n := 1048) rfl (by omega) (by decide) dX3_areModelsThere_45 ?_
          refine g_iconst hΓ dX3_areModelsThere_46 ?_
          refine g_icmp_le (tgt := 54) hΓ (by omega) (by omega) dX3_areModelsThere_47 (by decide) (fun c3 => ?_) (fun c3 => ?_)
          · refine g_iconst hΓ dX3_areModelsThere_54 ?_
            exact m_zret hΓ (by omega) dX3_areModelsThere_55 ⟨ri (by first | (rw [if_pos ⟨by rw [show (σ 6 0).toNat = k.toNat by omega]; exact hA, by omega, by omega⟩]; done) | (rw [if_neg (by omega)]; done) | (rw [if_neg (fun q => by have z := allM_at q.1 (k := k) (by omega) (by omega); omega)])), rfl⟩
          · refine g_iconst hΓ dX3_areModelsThere_50 ?_
            refine g_goto (tgt := 55) hΓ dX3_areModelsThere_51 (by decide) ?_
            exact m_zret hΓ (by omega) dX3_areModelsThere_55 ⟨ri (by first | (rw [if_pos ⟨by rw [show (σ 6 0).toNat = k.toNat by omega]; exact hA, by omega, by omega⟩]; done) | (rw [if_neg (by omega)]; done) | (rw [if_neg (fun q => by have z := allM_at q.1 (k := k) (by omega) (by omega); omega)])), rfl⟩
      · have htk := ht.2 k (by omega) (by omega)
        refine g_aload_n hΓ rfl dX3_areModelsThere_10 ?_
        refine g_aload_n hΓ rfl dX3_areModelsThere_11 ?_
        refine m_geta hok hΓ 10 (by decide) rfl rfl q1367 rfl dX3_areModelsThere_12 ?_
        refine g_iload_n hΓ rfl dX3_areModelsThere_15 ?_
        refine m_ald hok hΓ 10 (by decide) rfl (n := 8) rfl (by omega) (by decide) dX3_areModelsThere_16 ?_
        refine m_callV (As := [.int (iI (σ 10 k))]) (rest := []) hok hΓ (m_isModel hok σ (σ 10 k) (by first | assumption | omega) (by first | assumption | omega)) rfl q1594 q1596 qs76 q131 q1597 ndX3_isModel rfl (by decide) (by decide) rfl rfl (Nat.le_of_ble_eq_true rfl) dX3_areModelsThere_17 rfl (fun v4 τ4 τ4h => ?_)
        obtain ⟨rfl, τ4h⟩ := τ4h
        rw [τ4h]
        clear τ4h
        show gW Γ E (mM E h ad σ) 0 0 _ _ (.int (iI (if 0 ≤ (σ 10 k) ∧ (σ 10 k) < σ 0 1000 then 1 else 0)) :: _)
        refine g_ifB_ne (tgt := 25) hΓ  dX3_areModelsThere_20 (by decide) (fun c5 => ?_) (fun c5 => ?_)
        · obtain ⟨x6, ex6⟩ : ∃ z9 : Int, z9 = k + 1 := ⟨_, rfl⟩
          refine g_iinc hΓ dX3_areModelsThere_25 rfl rfl (lv' := [some (.ref h), some (.int (iI x6))]) (by rw [ex6]; rfl) ?_
          refine g_goto (tgt := 2) hΓ dX3_areModelsThere_28 (by decide) ?_
          exact ih_loop x6 (by omega) (by omega) (by rw [show x6.toNat = k.toNat + 1 by omega, allM, hA, Bool.true_and, show ((k.toNat : Nat) : Int) = k by omega]; exact decide_eq_true (by omega))
        · refine g_iconst hΓ dX3_areModelsThere_23 ?_
          exact m_zret hΓ (by omega) dX3_areModelsThere_24 ⟨ri (by first | (rw [if_pos ⟨by rw [show (σ 6 0).toNat = k.toNat by omega]; exact hA, by omega, by omega⟩]; done) | (rw [if_neg (by omega)]; done) | (rw [if_neg (fun q => by have z := allM_at q.1 (k := k) (by omega) (by omega); omega)])), rfl⟩
  exact loop 9 0 (by omega) (by omega) rfl
