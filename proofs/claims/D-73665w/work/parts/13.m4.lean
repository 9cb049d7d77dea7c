set_option maxRecDepth 100000
set_option maxHeartbeats 4000000 in
theorem m_length {l : Launch} {E : gE} {h : Nat} {ad : Nat → Nat} (hok : mOK E h ad) (σ : mS)  (m : Int) (k : Int) (hm : r32 m) (hk : r32 k) (hr : rowOK (σ 0)) : mC l E h ad yX3_length cX3_length 4 (some .int) 4 [.ref h, .int (iI m), .int (iI k)] σ (fun rv σ' => rv = some (.int (iI (sp_length σ m k))) ∧ σ' = σ) := by
  refine mC.of (by decide) [some (.ref h), some (.int (iI m)), some (.int (iI k)), none] (Nat.le_of_ble_eq_true rfl) rfl rfl (fun Γ hΓ => ?_)
  obtain ⟨h1000, h1009, h1042, h1043, h1044, h1045, h1046, h1047, hms, hsi, hsm, hnm⟩ := id hr
  have hst := stO_ok hr m k
  refine g_aload_n hΓ rfl dX3_length_0 ?_
  refine g_iload_n hΓ rfl dX3_length_1 ?_
  refine g_iload_n hΓ rfl dX3_length_2 ?_
  refine m_callV (As := [.int (iI m), .int (iI k)]) (rest := []) hok hΓ (m_strokeOf hok σ m k (by first | assumption | omega) (by first | assumption | omega) (by first | assumption | omega)) rfl q1614 q1616 qs79 q131 q1617 ndX3_strokeOf rfl (by decide) (by decide) rfl rfl (Nat.le_of_ble_eq_true rfl) dX3_length_3 rfl (fun v1 τ1 τ1h => ?_)
  obtain ⟨rfl, τ1h⟩ := τ1h
  rw [τ1h]
  clear τ1h
  show gW Γ E (mM E h ad σ) 0 0 _ _ (.int (iI (stO σ m k)) :: _)
  obtain ⟨x2, ex2⟩ : ∃ z9 : Int, z9 = stO σ m k := ⟨_, rfl⟩
  refine g_topi ex2.symm ?_
  refine g_istore_n hΓ dX3_length_6 rfl (Nat.le_of_ble_eq_true rfl) (lv' := [some (.ref h), some (.int (iI m)), some (.int (iI k)), some (.int (iI x2))]) rfl ?_
  refine g_iload_n hΓ rfl dX3_length_7 ?_
  refine g_iconst hΓ dX3_length_8 ?_
  refine g_icmp_ne (tgt := 16) hΓ (by omega) (by omega) dX3_length_9 (by decide) (fun c3 => ?_) (fun c3 => ?_)
  · rcases hst with hst | ⟨hl, hk0, hk1, hs2, hs0, hs1, hsk⟩
    · exact absurd hst (by omega)
    rw [← ex2] at hsk hs2 hs0 hs1
    refine g_aload_n hΓ rfl dX3_length_16 ?_
    refine g_iload_n hΓ rfl dX3_length_17 ?_
    refine m_callV (As := [.int (iI x2)]) (rest := []) hok hΓ (m_lengthOf hok σ x2 (by first | assumption | omega) (by first | assumption | omega)) rfl q1634 q1636 qs83 q131 q1637 ndX3_lengthOf rfl (by decide) (by decide) rfl rfl (Nat.le_of_ble_eq_true rfl) dX3_length_18 rfl (fun v4 τ4 τ4h => ?_)
    obtain ⟨rfl, τ4h⟩ := τ4h
    rw [τ4h]
    clear τ4h
    show gW Γ E (mM E h ad σ) 0 0 _ _ (.int (iI (lnS (np σ x2) (nu σ x2))) :: _)
    exact m_iret hΓ dX3_length_21 ⟨ri (by rw [sp_length, ← ex2]; first | rw [if_pos (by omega)] | rw [if_neg (by omega)]), rfl⟩
  · refine g_iconst hΓ dX3_length_12 ?_
    refine g_goto (tgt := 21) hΓ dX3_length_13 (by decide) ?_
    exact m_iret hΓ dX3_length_21 ⟨ri (by rw [sp_length, ← ex2]; first | rw [if_pos (by omega)] | rw [if_neg (by omega)]), rfl⟩
set_option maxHeartbeats 4000000 in
theorem m_point {l : Launch} {E : gE} {h : Nat} {ad : Nat → Nat} (hok : mOK E h ad) (σ : mS)  (m : Int) (k : Int) (i : Int) (w : Int) (hm : r32 m) (hk : r32 k) (hi : r32 i) (hw : r32 w) (hr : rowOK (σ 0)) : mC l E h ad yX3_point cX3_point 6 (some .int) 4 [.ref h, .int (iI m), .int (iI k), .int (iI i), .int (iI w)] σ (fun rv σ' => rv = some (.int (iI (sp_point σ m k i w))) ∧ σ' = σ) := by
  refine mC.of (by decide) [some (.ref h), some (.int (iI m)), some (.int (iI k)), some (.int (iI i)), some (.int (iI w)), none] (Nat.le_of_ble_eq_true rfl) rfl rfl (fun Γ hΓ => ?_)
  obtain ⟨h1000, h1009, h1042, h1043, h1044, h1045, h1046, h1047, hms, hsi, hsm, hnm⟩ := id hr
  have hst := stO_ok hr m k
  refine g_aload_n hΓ rfl dX3_point_0 ?_
  refine g_iload_n hΓ rfl dX3_point_1 ?_
  refine g_iload_n hΓ rfl dX3_point_2 ?_
  refine m_callV (As := [.int (iI m), .int (iI k)]) (rest := []) hok hΓ (m_strokeOf hok σ m k (by first | assumption | omega) (by first | assumption | omega) (by first | assumption | omega)) rfl q1614 q1616 qs79 q131 q1617 ndX3_strokeOf rfl (by decide) (by decide) rfl rfl (Nat.le_of_ble_eq_true rfl) dX3_point_3 rfl (fun v1 τ1 τ1h => ?_)
  obtain ⟨rfl, τ1h⟩ := τ1h
  rw [τ1h]
  clear τ1h
  show gW Γ E (mM E h ad σ) 0 0 _ _ (.int (iI (stO σ m k)) :: _)
  obtain ⟨x2, ex2⟩ : ∃ z9 : Int, z9 = stO σ m k := ⟨_, rfl⟩
  refine g_topi ex2.symm ?_
  refine g_istore hΓ dX3_point_6 rfl (Nat.le_of_ble_eq_true rfl) (lv' := [some (.ref h), some (.int (iI m)), some (.int (iI k)), some (.int (iI i)), some (.int (iI w)), some (.int (iI x2))]) rfl ?_
  refine g_iload hΓ rfl dX3_point_8 ?_
  refine g_iconst hΓ dX3_point_10 ?_
  refine g_icmp_ne (tgt := 16) hΓ (by omega) (by omega) dX3_point_11 (by decide) (fun c3 => ?_) (fun c3 => ?_)
  · rcases hst with hst | ⟨hl, hk0, hk1, hs2, hs0, hs1, hsk⟩
    · exact absurd hst (by omega)
    rw [← ex2] at hsk hs2 hs0 hs1
    refine g_iload_n hΓ rfl dX3_point_16 ?_
    refine g_iconst hΓ dX3_point_17 ?_
    refine g_icmp_ne (tgt := 28) hΓ (by omega) (by omega) dX3_point_18 (by decide) (fun c4 => ?_) (fun c4 => ?_)
    · have hn1 := hsk.1
      have hn2 := hsk.2.1
      refine g_iload_n hΓ rfl dX3_point_28 ?_
      refine g_iconst hΓ dX3_point_29 ?_
      refine g_aload_n hΓ rfl dX3_point_30 ?_
      refine g_iload hΓ rfl dX3_point_31 ?_
      refine m_callV (As := [.int (iI x2)]) (rest := [.int (iI 0), .int (iI i)]) hok hΓ (m_pointsOf hok σ x2 (by first | assumption | omega)) rfl q1622 q1624 qs81 q131 q1625 ndX3_pointsOf rfl (by decide) (by decide) rfl rfl (Nat.le_of_ble_eq_true rfl) dX3_point_33 rfl (fun v5 τ5 τ5h => ?_)
      obtain ⟨rfl, τ5h⟩ := τ5h
      rw [τ5h]
      clear τ5h
      show gW Γ E (mM E h ad σ) 0 0 _ _ (.int (iI (np σ x2)) :: _)
      refine g_iconst hΓ dX3_point_36 ?_
      refine g_isub hΓ dX3_point_37 ?_
      refine m_callS (As := [.int (iI i), .int (iI 0), .int (iI ((np σ x2) - 1))]) (rest := []) hok hΓ (m_isIn hok σ i 0 ((np σ x2) - 1) (by first | assumption | omega) (by first | assumption | omega) (by first | assumption | omega)) rfl q1549 q1550 q131 q1551 ndX3_isIn rfl (by decide) (by decide) rfl (Nat.le_of_ble_eq_true rfl) dX3_point_38 rfl (fun v6 τ6 τ6h => ?_)
      obtain ⟨rfl, τ6h⟩ := τ6h
      rw [τ6h]
      clear τ6h
      show gW Γ E (mM E h ad σ) 0 0 _ _ (.int (iI (if 0 ≤ i ∧ i ≤ ((np σ x2) - 1) then 1 else 0)) :: _)
      refine g_ifB_eq (tgt := 66) hΓ  dX3_point_41 (by decide) (fun c7 => ?_) (fun c7 => ?_)
      · refine g_iconst hΓ dX3_point_66 ?_
        exact m_iret hΓ dX3_point_67 ⟨ri (by rw [sp_point, ← ex2]; first | rfl | omega | ((repeat' split) <;> first | rfl | omega | contradiction | (simp_all; done) | (exfalso; omega))), rfl⟩
      · refine g_iload hΓ rfl dX3_point_44 ?_
        refine g_iconst hΓ dX3_point_46 ?_
        refine g_iconst hΓ dX3_point_47 ?_
        refine m_callS (As := [.int (iI w), .int (iI 0), .int (iI 1)]) (rest := []) hok hΓ (m_isIn hok σ w 0 1 (by first | assumption | omega) (by first | assumption | omega) (by first | assumption | omega)) rfl q1549 q1550 q131 q1551 ndX3_isIn rfl (by decide) (by decide) rfl (Nat.le_of_ble_eq_true rfl) dX3_point_48 rfl (fun v8 τ8 τ8h => ?_)
        obtain ⟨rfl, τ8h⟩ := τ8h
        rw [τ8h]
        clear τ8h
        show gW Γ E (mM E h ad σ) 0 0 _ _ (.int (iI (if 0 ≤ w ∧ w ≤ 1 then 1 else 0)) :: _)
        refine g_ifB_eq (tgt := 66) hΓ  dX3_point_51 (by decide) (fun c9 => ?_) (fun c9 => ?_)
        · refine g_iconst hΓ dX3_point_66 ?_
          exact m_iret hΓ dX3_point_67 ⟨ri (by rw [sp_point, ← ex2]; first | rfl | omega | ((repeat' split) <;> first | rfl | omega | contradiction | (simp_all; done) | (exfalso; omega))), rfl⟩
        · refine g_aload_n hΓ rfl dX3_point_54 ?_
          refine g_iload hΓ rfl dX3_point_55 ?_
          refine g_iload_n hΓ rfl dX3_point_57 ?_
          refine g_iload hΓ rfl dX3_point_58 ?_
          refine m_callV (As := [.int (iI x2), .int (iI i), .int (iI w)]) (rest := []) hok hΓ (m_numberOf hok σ x2 i w (by first | assumption | omega) (by first | assumption | omega) (by first | assumption | omega)) rfl q1626 q1628 qs82 q131 q1629 ndX3_numberOf rfl (by decide) (by decide) rfl rfl (Nat.le_of_ble_eq_true rfl) dX3_point_60 rfl (fun v10 τ10 τ10h => ?_)
          obtain ⟨rfl, τ10h⟩ := τ10h
          rw [τ10h]
          clear τ10h
          show gW Γ E (mM E h ad σ) 0 0 _ _ (.int (iI (nu σ x2 (2 * i + w))) :: _)
          refine g_goto (tgt := 67) hΓ dX3_point_63 (by decide) ?_
          exact m_iret hΓ dX3_point_67 ⟨ri (by rw [sp_point, ← ex2]; first | rfl | omega | ((repeat' split) <;> first | rfl | omega | contradiction | (simp_all; done) | (exfalso; omega))), rfl⟩
    · refine g_aload_n hΓ rfl dX3_point_21 ?_
      refine g_iload hΓ rfl dX3_point_22 ?_
      refine m_callV (As := [.int (iI x2)]) (rest := []) hok hΓ (m_pointsOf hok σ x2 (by first | assumption | omega)) rfl q1622 q1624 qs81 q131 q1625 ndX3_pointsOf rfl (by decide) (by decide) rfl rfl (Nat.le_of_ble_eq_true rfl) dX3_point_24 rfl (fun v11 τ11 τ11h => ?_)
      obtain ⟨rfl, τ11h⟩ := τ11h
      rw [τ11h]
      clear τ11h
      show gW Γ E (mM E h ad σ) 0 0 _ _ (.int (iI (np σ x2)) :: _)
      exact m_iret hΓ dX3_point_27 ⟨ri (by rw [sp_point, ← ex2]; first | rfl | omega | ((repeat' split) <;> first | rfl | omega | contradiction | (simp_all; done) | (exfalso; omega))), rfl⟩
  · refine g_iconst hΓ dX3_point_14 ?_
    exact m_iret hΓ dX3_point_15 ⟨ri (by rw [sp_point, ← ex2]; first | rfl | omega | ((repeat' split) <;> first | rfl | omega | contradiction | (simp_all; done) | (exfalso; omega))), rfl⟩
set_option maxHeartbeats 4000000 in
theorem m_sampleOf {l : Launch} {E : gE} {h : Nat} {ad : Nat → Nat} (hok : mOK E h ad) (σ : mS)  (s : Int) (k : Int) (x : Int) (hs : 0 ≤ s ∧ s < 104) (hsk : skOK (np σ s) (nu σ s)) (hk : 0 ≤ k ∧ k ≤ σ 0 1042) (hx : x = 0 ∨ x = 1) (he : 4 ≤ σ 0 1042 ∧ σ 0 1042 ≤ 16) : mC l E h ad yX3_sampleOf cX3_sampleOf 8 (some .int) 3 [.ref h, .int (iI s), .int (iI k), .int (iI x)] σ (fun rv σ' => rv = some (.int (iI (smp (np σ s) (nu σ s) (σ 0 1042) k x))) ∧ σ' = σ) := by
  refine mC.of (by decide) [some (.ref h), some (.int (iI s)), some (.int (iI k)), some (.int (iI x)), none, none, none, none] (Nat.le_of_ble_eq_true rfl) rfl rfl (fun Γ hΓ => ?_)
  have hn := hsk.1
  have hn2 := hsk.2.1
  have hL := smL_r hsk he hk
  have hln := lnS_r hsk
  have loop : ∀ (fu : Nat) (u : Int) (p : Int), (np σ s - p).toNat < fu → (0 ≤ p ∧ p + 2 ≤ np σ s) → (0 ≤ u) → (u ≤ lnS (np σ s) (nu σ s) - lenF (nu σ s) p.toNat) → (smP (nu σ s) (np σ s - 2 - p).toNat p u = smQ (np σ s) (nu σ s) (σ 0 1042) k) → gW Γ E (mM E h ad σ) 0 0 21 [some (.ref h), some (.int (iI s)), some (.int (iI k)), some (.int (iI x)), some (.int (iI u)), some (.int (iI p)), none, none] [] := by
    intro fu
    induction fu with
    | zero => intro u p hn; exact absurd hn (Nat.not_lt_zero _)
    | succ fu ih_loop =>
      intro u p hn hp hu hrem hq
      have hpr := pcs_r hsk (k := p) (by omega) (by omega)
      have hlf := lenF_r hsk p.toNat (by omega)
      refine g_iload hΓ rfl dX3_sampleOf_21 ?_
      refine g_aload_n hΓ rfl dX3_sampleOf_23 ?_
      refine g_iload_n hΓ rfl dX3_sampleOf_24 ?_
      refine g_iload hΓ rfl dX3_sampleOf_25 ?_
      refine m_callV (As := [.int (iI s), .int (iI p)]) (rest := [.int (iI u)]) hok hΓ (m_pieceOf hok σ s p (by first | assumption | omega) (by first | assumption | omega) (by first | assumption | omega)) rfl q1638 q1640 qs84 q131 q1641 ndX3_pieceOf rfl (by decide) (by decide) rfl rfl (Nat.le_of_ble_eq_true rfl) dX3_sampleOf_27 rfl (fun v1 τ1 τ1h => ?_)
      obtain ⟨rfl, τ1h⟩ := τ1h
      rw [τ1h]
      clear τ1h
      show gW Γ E (mM E h ad σ) 0 0 _ _ (.int (iI (pcs (nu σ s) p)) :: _)
      refine g_icmp_le (tgt := 51) hΓ (by omega) (by omega) dX3_sampleOf_30 (by decide) (fun c2 => ?_) (fun c2 => ?_)
      · have hq2 : smQ (np σ s) (nu σ s) (σ 0 1042) k = (p, u) := by rw [← hq]; exact smP_stop (by omega) _
        have hpa := hsk.pt (j := 2 * p + x) (by omega) (by omega)
        have hpb := hsk.pt (j := 2 * (p + 1) + x) (by omega) (by omega)
        refine g_aload_n hΓ rfl dX3_sampleOf_51 ?_
        refine g_iload_n hΓ rfl dX3_sampleOf_52 ?_
        refine g_iload hΓ rfl dX3_sampleOf_53 ?_
        refine m_callV (As := [.int (iI s), .int (iI p)]) (rest := []) hok hΓ (m_pieceOf hok σ s p (by first | assumption | omega) (by first | assumption | omega) (by first | assumption | omega)) rfl q1638 q1640 qs84 q131 q1641 ndX3_pieceOf rfl (by decide) (by decide) rfl rfl (Nat.le_of_ble_eq_true rfl) dX3_sampleOf_55 rfl (fun v3 τ3 τ3h => ?_)
        obtain ⟨rfl, τ3h⟩ := τ3h
        rw [τ3h]
        clear τ3h
        show gW Γ E (mM E h ad σ) 0 0 _ _ (.int (iI (pcs (nu σ s) p)) :: _)
        obtain ⟨x4, ex4⟩ : ∃ z9 : Int, z9 = pcs (nu σ s) p := ⟨_, rfl⟩
        refine g_topi ex4.symm ?_
        refine g_istore hΓ dX3_sampleOf_58 rfl (Nat.le_of_ble_eq_true rfl) (lv' := [some (.ref h), some (.int (iI s)), some (.int (iI k)), some (.int (iI x)), some (.int (iI u)), some (.int (iI p)), some (.int (iI x4)), none]) rfl ?_
        refine g_bipush hΓ (by decide) dX3_sampleOf_60 ?_
        refine g_aload_n hΓ rfl dX3_sampleOf_62 ?_
        refine g_iload_n hΓ rfl dX3_sampleOf_63 ?_
        refine g_iload hΓ rfl dX3_sampleOf_64 ?_
        refine g_iconst hΓ dX3_sampleOf_66 ?_
        refine g_iadd hΓ dX3_sampleOf_67 ?_
        refine g_iload_n hΓ rfl dX3_sampleOf_68 ?_
        refine m_callV (As := [.int (iI s), .int (iI (p + 1)), .int (iI x)]) (rest := [.int (iI 100)]) hok hΓ (m_numberOf hok σ s (p + 1) x (by first | assumption | omega) (by first | assumption | omega) (by first | assumption | omega)) rfl q1626 q1628 qs82 q131 q1629 ndX3_numberOf rfl (by decide) (by decide) rfl rfl (Nat.le_of_ble_eq_true rfl) dX3_sampleOf_69 rfl (fun v5 τ5 τ5h => ?_)
        obtain ⟨rfl, τ5h⟩ := τ5h
        rw [τ5h]
        clear τ5h
        show gW Γ E (mM E h ad σ) 0 0 _ _ (.int (iI (nu σ s (2 * (p + 1) + x))) :: _)
        refine g_aload_n hΓ rfl dX3_sampleOf_72 ?_
        refine g_iload_n hΓ rfl dX3_sampleOf_73 ?_
        refine g_iload hΓ rfl dX3_sampleOf_74 ?_
        refine g_iload_n hΓ rfl dX3_sampleOf_76 ?_
        refine m_callV (As := [.int (iI s), .int (iI p), .int (iI x)]) (rest := [.int (iI (nu σ s (2 * (p + 1) + x))), .int (iI 100)]) hok hΓ (m_numberOf hok σ s p x (by first | assumption | omega) (by first | assumption | omega) (by first | assumption | omega)) rfl q1626 q1628 qs82 q131 q1629 ndX3_numberOf rfl (by decide) (by decide) rfl rfl (Nat.le_of_ble_eq_true rfl) dX3_sampleOf_77 rfl (fun v6 τ6 τ6h => ?_)
        obtain ⟨rfl, τ6h⟩ := τ6h
        rw [τ6h]
        clear τ6h
        show gW Γ E (mM E h ad σ) 0 0 _ _ (.int (iI (nu σ s (2 * p + x))) :: _)
        refine g_isub hΓ dX3_sampleOf_80 ?_
        refine g_imul hΓ dX3_sampleOf_81 ?_
        obtain ⟨x7, ex7⟩ : ∃ z9 : Int, z9 = 100 * ((nu σ s (2 * (p + 1) + x)) - (nu σ s (2 * p + x))) := ⟨_, rfl⟩
        refine g_topi ex7.symm ?_
        refine g_istore hΓ dX3_sampleOf_82 rfl (Nat.le_of_ble_eq_true rfl) (lv' := [some (.ref h), some (.int (iI s)), some (.int (iI k)), some (.int (iI x)), some (.int (iI u)), some (.int (iI p)), some (.int (iI x4)), some (.int (iI x7))]) rfl ?_
        refine g_bipush hΓ (by decide) dX3_sampleOf_84 ?_
        refine g_aload_n hΓ rfl dX3_sampleOf_86 ?_
        refine g_iload_n hΓ rfl dX3_sampleOf_87 ?_
        refine g_iload hΓ rfl dX3_sampleOf_88 ?_
        refine g_iload_n hΓ rfl dX3_sampleOf_90 ?_
        refine m_callV (As := [.int (iI s), .int (iI p), .int (iI x)]) (rest := [.int (iI 100)]) hok hΓ (m_numberOf hok σ s p x (by first | assumption | omega) (by first | assumption | omega) (by first | assumption | omega)) rfl q1626 q1628 qs82 q131 q1629 ndX3_numberOf rfl (by decide) (by decide) rfl rfl (Nat.le_of_ble_eq_true rfl) dX3_sampleOf_91 rfl (fun v8 τ8 τ8h => ?_)
        obtain ⟨rfl, τ8h⟩ := τ8h
        rw [τ8h]
        clear τ8h
        show gW Γ E (mM E h ad σ) 0 0 _ _ (.int (iI (nu σ s (2 * p + x))) :: _)
        refine g_imul hΓ dX3_sampleOf_94 ?_
        refine g_iload hΓ rfl dX3_sampleOf_95 ?_
        refine g_if_ne (tgt := 104) hΓ (by omega) dX3_sampleOf_97 (by decide) (fun c9 => ?_) (fun c9 => ?_)
        · have hmul := mul_b (a := x7) (b := u) (A := 9900) (B := 14000) (by omega) (by omega) (by omega) (by omega)
          refine g_iload hΓ rfl dX3_sampleOf_104 ?_
          refine g_iload hΓ rfl dX3_sampleOf_106 ?_
          refine g_imul hΓ dX3_sampleOf_108 ?_
          refine g_iload hΓ rfl dX3_sampleOf_109 ?_
          refine g_idiv hΓ (by omega) (by omega) (by omega) dX3_sampleOf_111 ?_
          refine g_iadd hΓ dX3_sampleOf_112 ?_
          exact m_iret hΓ dX3_sampleOf_113 ⟨ri (by rw [smp, hq2, smV]; simp only; first | (rw [if_pos (by omega)]; done) | (rw [if_neg (by omega), ← ex4, ← ex7])), rfl⟩
        · refine g_iconst hΓ dX3_sampleOf_100 ?_
          refine g_goto (tgt := 112) hΓ dX3_sampleOf_101 (by decide) ?_
          refine g_iadd hΓ dX3_sampleOf_112 ?_
          exact m_iret hΓ dX3_sampleOf_113 ⟨ri (by rw [smp, hq2, smV]; simp only; first | (rw [if_pos (by omega)]; done) | (rw [if_neg (by omega), ← ex4, ← ex7])), rfl⟩
      · have hlt : p + 3 ≤ np σ s := by
          by_cases q : p + 3 ≤ np σ s
          · exact q
          · exfalso
            rw [lnS, show (np σ s - 1).toNat = p.toNat + 1 by omega, lenF, show ((p.toNat : Nat) : Int) = p by omega] at hrem
            omega
        refine g_iload hΓ rfl dX3_sampleOf_33 ?_
        refine g_aload_n hΓ rfl dX3_sampleOf_35 ?_
        refine g_iload_n hΓ rfl dX3_sampleOf_36 ?_
        refine g_iload hΓ rfl dX3_sampleOf_37 ?_
        refine m_callV (As := [.int (iI s), .int (iI p)]) (rest := [.int (iI u)]) hok hΓ (m_pieceOf hok σ s p (by first | assumption | omega) (by first | assumption | omega) (by first | assumption | omega)) rfl q1638 q1640 qs84 q131 q1641 ndX3_pieceOf rfl (by decide) (by decide) rfl rfl (Nat.le_of_ble_eq_true rfl) dX3_sampleOf_39 rfl (fun v10 τ10 τ10h => ?_)
        obtain ⟨rfl, τ10h⟩ := τ10h
        rw [τ10h]
        clear τ10h
        show gW Γ E (mM E h ad σ) 0 0 _ _ (.int (iI (pcs (nu σ s) p)) :: _)
        refine g_isub hΓ dX3_sampleOf_42 ?_
        obtain ⟨x11, ex11⟩ : ∃ z9 : Int, z9 = u - (pcs (nu σ s) p) := ⟨_, rfl⟩
        refine g_topi ex11.symm ?_
        refine g_istore hΓ dX3_sampleOf_43 rfl (Nat.le_of_ble_eq_true rfl) (lv' := [some (.ref h), some (.int (iI s)), some (.int (iI k)), some (.int (iI x)), some (.int (iI x11)), some (.int (iI p)), none, none]) rfl ?_
        obtain ⟨x12, ex12⟩ : ∃ z9 : Int, z9 = p + 1 := ⟨_, rfl⟩
        refine g_iinc hΓ dX3_sampleOf_45 rfl rfl (lv' := [some (.ref h), some (.int (iI s)), some (.int (iI k)), some (.int (iI x)), some (.int (iI x11)), some (.int (iI x12)), none, none]) (by rw [ex12]; rfl) ?_
        refine g_goto (tgt := 21) hΓ dX3_sampleOf_48 (by decide) ?_
        exact ih_loop x11 x12 (by omega) (by omega) (by omega) (by rw [show x12.toNat = p.toNat + 1 by omega, lenF, show ((p.toNat : Nat) : Int) = p by omega]; omega) (by rw [← hq, show (np σ s - 2 - p).toNat = (np σ s - 2 - x12).toNat + 1 by omega, smP, if_pos (by omega), ex11, ex12])
  refine g_iload_n hΓ rfl dX3_sampleOf_0 ?_
  refine g_aload_n hΓ rfl dX3_sampleOf_1 ?_
  refine g_iload_n hΓ rfl dX3_sampleOf_2 ?_
  refine m_callV (As := [.int (iI s)]) (rest := [.int (iI k)]) hok hΓ (m_lengthOf hok σ s (by first | assumption | omega) (by first | assumption | omega)) rfl q1634 q1636 qs83 q131 q1637 ndX3_lengthOf rfl (by decide) (by decide) rfl rfl (Nat.le_of_ble_eq_true rfl) dX3_sampleOf_3 rfl (fun v13 τ13 τ13h => ?_)
  obtain ⟨rfl, τ13h⟩ := τ13h
  rw [τ13h]
  clear τ13h
  show gW Γ E (mM E h ad σ) 0 0 _ _ (.int (iI (lnS (np σ s) (nu σ s))) :: _)
  refine g_imul hΓ dX3_sampleOf_6 ?_
  refine g_aload_n hΓ rfl dX3_sampleOf_7 ?_
  refine m_geta hok hΓ 0 (by decide) rfl rfl q1357 rfl dX3_sampleOf_8 ?_
  refine g_sipush hΓ (by decide) dX3_sampleOf_11 ?_
  refine m_ald hok hΓ 0 (by decide) rfl (n := 1048) rfl (by omega) (by decide) dX3_sampleOf_14 ?_
  refine g_idivN hΓ (by omega) (by omega) (by omega) dX3_sampleOf_15 ?_
  obtain ⟨x14, ex14⟩ : ∃ z9 : Int, z9 = (k * (lnS (np σ s) (nu σ s))) / (σ 0 1042) := ⟨_, rfl⟩
  refine g_topi ex14.symm ?_
  refine g_istore hΓ dX3_sampleOf_16 rfl (Nat.le_of_ble_eq_true rfl) (lv' := [some (.ref h), some (.int (iI s)), some (.int (iI k)), some (.int (iI x)), some (.int (iI x14)), none, none, none]) rfl ?_
  refine g_iconst hΓ dX3_sampleOf_18 ?_
  refine g_istore hΓ dX3_sampleOf_19 rfl (Nat.le_of_ble_eq_true rfl) (lv' := [some (.ref h), some (.int (iI s)), some (.int (iI k)), some (.int (iI x)), some (.int (iI x14)), some (.int (iI 0)), none, none]) rfl ?_
  exact loop 13 x14 0 (by omega) (by omega) (by omega) (by have e0 : lenF (nu σ s) (0 : Int).toNat = 0 := rfl; omega) (by rw [smQ, ex14, Int.sub_zero])
set_option maxHeartbeats 4000000 in
theorem m_sample {l : Launch} {E : gE} {h : Nat} {ad : Nat → Nat} (hok : mOK E h ad) (σ : mS)  (m : Int) (k : Int) (i : Int) (w : Int) (hm : r32 m) (hk : r32 k) (hi : r32 i) (hw : r32 w) (hr : rowOK (σ 0)) : mC l E h ad yX3_sample cX3_sample 6 (some .int) 4 [.ref h, .int (iI m), .int (iI k), .int (iI i), .int (iI w)] σ (fun rv σ' => rv = some (.int (iI (sp_sample σ m k i w))) ∧ σ' = σ) := by
  refine mC.of (by decide) [some (.ref h), some (.int (iI m)), some (.int (iI k)), some (.int (iI i)), some (.int (iI w)), none] (Nat.le_of_ble_eq_true rfl) rfl rfl (fun Γ hΓ => ?_)
  obtain ⟨h1000, h1009, h1042, h1043, h1044, h1045, h1046, h1047, hms, hsi, hsm, hnm⟩ := id hr
  have hst := stO_ok hr m k
  refine g_aload_n hΓ rfl dX3_sample_0 ?_
  refine g_iload_n hΓ rfl dX3_sample_1 ?_
  refine g_iload_n hΓ rfl dX3_sample_2 ?_
  refine m_callV (As := [.int (iI m), .int (iI k)]) (rest := []) hok hΓ (m_strokeOf hok σ m k (by first | assumption | omega) (by first | assumption | omega) (by first | assumption | omega)) rfl q1614 q1616 qs79 q131 q1617 ndX3_strokeOf rfl (by decide) (by decide) rfl rfl (Nat.le_of_ble_eq_true rfl) dX3_sample_3 rfl (fun v1 τ1 τ1h => ?_)
  obtain ⟨rfl, τ1h⟩ := τ1h
  rw [τ1h]
  clear τ1h
  show gW Γ E (mM E h ad σ) 0 0 _ _ (.int (iI (stO σ m k)) :: _)
  obtain ⟨x2, ex2⟩ : ∃ z9 : Int, z9 = stO σ m k := ⟨_, rfl⟩
  refine g_topi ex2.symm ?_
  refine g_istore hΓ dX3_sample_6 rfl (Nat.le_of_ble_eq_true rfl) (lv' := [some (.ref h), some (.int (iI m)), some (.int (iI k)), some (.int (iI i)), some (.int (iI w)), some (.int (iI x2))]) rfl ?_
  refine g_iload hΓ rfl dX3_sample_8 ?_
  refine g_iconst hΓ dX3_sample_10 ?_
  refine g_icmp_eq (tgt := 52) hΓ (by omega) (by omega) dX3_sample_11 (by decide) (fun c3 => ?_) (fun c3 => ?_)
  · refine g_iconst hΓ dX3_sample_52 ?_
    exact m_iret hΓ dX3_sample_53 ⟨ri (by rw [sp_sample, ← ex2]; first | rw [if_pos (by omega)] | rw [if_neg (by omega)]), rfl⟩
  · rcases hst with hst | ⟨hl, hk0, hk1, hs2, hs0, hs1, hsk⟩
    · exact absurd hst (by omega)
    rw [← ex2] at hsk hs2 hs0 hs1
    refine g_iload_n hΓ rfl dX3_sample_14 ?_
    refine g_iconst hΓ dX3_sample_15 ?_
    refine g_aload_n hΓ rfl dX3_sample_16 ?_
    refine m_geta hok hΓ 0 (by decide) rfl rfl q1357 rfl dX3_sample_17 ?_
    refine g_sipush hΓ (by decide) dX3_sample_20 ?_
    refine m_ald hok hΓ 0 (by decide) rfl (n := 1048) rfl (by omega) (by decide) dX3_sample_23 ?_
    refine m_callS (As := [.int (iI i), .int (iI 0), .int (iI (σ 0 1042))]) (rest := []) hok hΓ (m_isIn hok σ i 0 (σ 0 1042) (by first | assumption | omega) (by first | assumption | omega) (by first | assumption | omega)) rfl q1549 q1550 q131 q1551 ndX3_isIn rfl (by decide) (by decide) rfl (Nat.le_of_ble_eq_true rfl) dX3_sample_24 rfl (fun v4 τ4 τ4h => ?_)
    obtain ⟨rfl, τ4h⟩ := τ4h
    rw [τ4h]
    clear τ4h
    show gW Γ E (mM E h ad σ) 0 0 _ _ (.int (iI (if 0 ≤ i ∧ i ≤ (σ 0 1042) then 1 else 0)) :: _)
    refine g_ifB_eq (tgt := 52) hΓ  dX3_sample_27 (by decide) (fun c5 => ?_) (fun c5 => ?_)
    · refine g_iconst hΓ dX3_sample_52 ?_
      exact m_iret hΓ dX3_sample_53 ⟨ri (by rw [sp_sample, ← ex2]; first | rw [if_pos (by omega)] | rw [if_neg (by omega)]), rfl⟩
    · refine g_iload hΓ rfl dX3_sample_30 ?_
      refine g_iconst hΓ dX3_sample_32 ?_
      refine g_iconst hΓ dX3_sample_33 ?_
      refine m_callS (As := [.int (iI w), .int (iI 0), .int (iI 1)]) (rest := []) hok hΓ (m_isIn hok σ w 0 1 (by first | assumption | omega) (by first | assumption | omega) (by first | assumption | omega)) rfl q1549 q1550 q131 q1551 ndX3_isIn rfl (by decide) (by decide) rfl (Nat.le_of_ble_eq_true rfl) dX3_sample_34 rfl (fun v6 τ6 τ6h => ?_)
      obtain ⟨rfl, τ6h⟩ := τ6h
      rw [τ6h]
      clear τ6h
      show gW Γ E (mM E h ad σ) 0 0 _ _ (.int (iI (if 0 ≤ w ∧ w ≤ 1 then 1 else 0)) :: _)
      refine g_ifB_eq (tgt := 52) hΓ  dX3_sample_37 (by decide) (fun c7 => ?_) (fun c7 => ?_)
      · refine g_iconst hΓ dX3_sample_52 ?_
        exact m_iret hΓ dX3_sample_53 ⟨ri (by rw [sp_sample, ← ex2]; first | rw [if_pos (by omega)] | rw [if_neg (by omega)]), rfl⟩
      · refine g_aload_n hΓ rfl dX3_sample_40 ?_
        refine g_iload hΓ rfl dX3_sample_41 ?_
        refine g_iload_n hΓ rfl dX3_sample_43 ?_
        refine g_iload hΓ rfl dX3_sample_44 ?_
        refine m_callV (As := [.int (iI x2), .int (iI i), .int (iI w)]) (rest := []) hok hΓ (m_sampleOf hok σ x2 i w (by first | assumption | omega) (by first | assumption | omega) (by first | assumption | omega) (by first | assumption | omega) (by first | assumption | omega)) rfl q1649 q1651 qs85 q131 q1652 ndX3_sampleOf rfl (by decide) (by decide) rfl rfl (Nat.le_of_ble_eq_true rfl) dX3_sample_46 rfl (fun v8 τ8 τ8h => ?_)
        obtain ⟨rfl, τ8h⟩ := τ8h
        rw [τ8h]
        clear τ8h
        show gW Γ E (mM E h ad σ) 0 0 _ _ (.int (iI (smp (np σ x2) (nu σ x2) (σ 0 1042) i w)) :: _)
        refine g_goto (tgt := 53) hΓ dX3_sample_49 (by decide) ?_
        exact m_iret hΓ dX3_sample_53 ⟨ri (by rw [sp_sample, ← ex2]; first | rw [if_pos (by omega)] | rw [if_neg (by omega)]), rfl⟩
set_option maxHeartbeats 4000000 in
theorem m_codeOf {l : Launch} {E : gE} {h : Nat} {ad : Nat → Nat} (hok : mOK E h ad) (σ : mS)  (a : Int) (b : Int) (c : Int) (ha : -100000 ≤ a ∧ a ≤ 100000) (hb : -100000 ≤ b ∧ b ≤ 100000) : mC l E h ad yX3_codeOf cX3_codeOf 3 (some .int) 1 [.int (iI a), .int (iI b), .int (iI c)] σ (fun rv σ' => rv = some (.int (iI (cdv a b c))) ∧ σ' = σ) := by
  refine mC.of (by decide) [some (.int (iI a)), some (.int (iI b)), some (.int (iI c))] (Nat.le_of_ble_eq_true rfl) rfl rfl (fun Γ hΓ => ?_)
  refine g_iload_n hΓ rfl dX3_codeOf_0 ?_
  refine g_if_ne (tgt := 10) hΓ (by first | omega | (split <;> omega) | (refine ⟨?_, ?_⟩ <;> (repeat' split) <;> omega)) dX3_codeOf_1 (by decide) (fun c1 => ?_) (fun c1 => ?_)
  · refine g_bipush hΓ (by decide) dX3_codeOf_10 ?_
    refine g_iload_n hΓ rfl dX3_codeOf_12 ?_
    refine m_callS (As := [.int (iI b)]) (rest := [.int (iI 70)]) hok hΓ (m_plain hok σ b (by first | assumption | omega)) rfl q1664 q1665 q131 q1666 ndX3_plain rfl (by decide) (by decide) rfl (Nat.le_of_ble_eq_true rfl) dX3_codeOf_13 rfl (fun v2 τ2 τ2h => ?_)
    obtain ⟨rfl, τ2h⟩ := τ2h
    rw [τ2h]
    clear τ2h
    show gW Γ E (mM E h ad σ) 0 0 _ _ (.int (iI (if b < 0 then -b else b)) :: _)
    refine g_imul hΓ dX3_codeOf_16 ?_
    refine g_bipush hΓ (by decide) dX3_codeOf_17 ?_
    refine g_iload_n hΓ rfl dX3_codeOf_19 ?_
    refine m_callS (As := [.int (iI a)]) (rest := [.int (iI 29), .int (iI (70 * (if b < 0 then -b else b)))]) hok hΓ (m_plain hok σ a (by first | assumption | omega)) rfl q1664 q1665 q131 q1666 ndX3_plain rfl (by decide) (by decide) rfl (Nat.le_of_ble_eq_true rfl) dX3_codeOf_20 rfl (fun v3 τ3 τ3h => ?_)
    obtain ⟨rfl, τ3h⟩ := τ3h
    rw [τ3h]
    clear τ3h
    show gW Γ E (mM E h ad σ) 0 0 _ _ (.int (iI (if a < 0 then -a else a)) :: _)
    refine g_imul hΓ dX3_codeOf_23 ?_
    refine g_icmp_gt (tgt := 37) hΓ (by first | omega | (split <;> omega) | (refine ⟨?_, ?_⟩ <;> (repeat' split) <;> omega)) (by first | omega | (split <;> omega) | (refine ⟨?_, ?_⟩ <;> (repeat' split) <;> omega)) dX3_codeOf_24 (by decide) (fun c4 => ?_) (fun c4 => ?_)
    · refine g_bipush hΓ (by decide) dX3_codeOf_37 ?_
      refine g_iload_n hΓ rfl dX3_codeOf_39 ?_
      refine m_callS (As := [.int (iI a)]) (rest := [.int (iI 70)]) hok hΓ (m_plain hok σ a (by first | assumption | omega)) rfl q1664 q1665 q131 q1666 ndX3_plain rfl (by decide) (by decide) rfl (Nat.le_of_ble_eq_true rfl) dX3_codeOf_40 rfl (fun v5 τ5 τ5h => ?_)
      obtain ⟨rfl, τ5h⟩ := τ5h
      rw [τ5h]
      clear τ5h
      show gW Γ E (mM E h ad σ) 0 0 _ _ (.int (iI (if a < 0 then -a else a)) :: _)
      refine g_imul hΓ dX3_codeOf_43 ?_
      refine g_bipush hΓ (by decide) dX3_codeOf_44 ?_
      refine g_iload_n hΓ rfl dX3_codeOf_46 ?_
      refine m_callS (As := [.int (iI b)]) (rest := [.int (iI 29), .int (iI (70 * (if a < 0 then -a else a)))]) hok hΓ (m_plain hok σ b (by first | assumption | omega)) rfl q1664 q1665 q131 q1666 ndX3_plain rfl (by decide) (by decide) rfl (Nat.le_of_ble_eq_true rfl) dX3_codeOf_47 rfl (fun v6 τ6 τ6h => ?_)
      obtain ⟨rfl, τ6h⟩ := τ6h
      rw [τ6h]
      clear τ6h
      show gW Γ E (mM E h ad σ) 0 0 _ _ (.int (iI (if b < 0 then -b else b)) :: _)
      refine g_imul hΓ dX3_codeOf_50 ?_
      refine g_icmp_gt (tgt := 65) hΓ (by first | omega | (split <;> omega) | (refine ⟨?_, ?_⟩ <;> (repeat' split) <;> omega)) (by first | omega | (split <;> omega) | (refine ⟨?_, ?_⟩ <;> (repeat' split) <;> omega)) dX3_codeOf_51 (by decide) (fun c7 => ?_) (fun c7 => ?_)
      · refine g_iload_n hΓ rfl dX3_codeOf_65 ?_
        refine g_if_le (tgt := 81) hΓ (by first | omega | (split <;> omega) | (refine ⟨?_, ?_⟩ <;> (repeat' split) <;> omega)) dX3_codeOf_66 (by decide) (fun c8 => ?_) (fun c8 => ?_)
        · refine g_iload_n hΓ rfl dX3_codeOf_81 ?_
          refine g_if_ge (tgt := 89) hΓ (by first | omega | (split <;> omega) | (refine ⟨?_, ?_⟩ <;> (repeat' split) <;> omega)) dX3_codeOf_82 (by decide) (fun c9 => ?_) (fun c9 => ?_)
          · refine g_bipush hΓ (by decide) dX3_codeOf_89 ?_
            exact m_iret hΓ dX3_codeOf_91 ⟨ri (by rw [cdv]; (repeat' split) <;> first | rfl | omega), rfl⟩
          · refine g_iconst hΓ dX3_codeOf_85 ?_
            refine g_goto (tgt := 91) hΓ dX3_codeOf_86 (by decide) ?_
            exact m_iret hΓ dX3_codeOf_91 ⟨ri (by rw [cdv]; (repeat' split) <;> first | rfl | omega), rfl⟩
        · refine g_iload_n hΓ rfl dX3_codeOf_69 ?_
          refine g_if_le (tgt := 77) hΓ (by first | omega | (split <;> omega) | (refine ⟨?_, ?_⟩ <;> (repeat' split) <;> omega)) dX3_codeOf_70 (by decide) (fun c10 => ?_) (fun c10 => ?_)
          · refine g_iconst hΓ dX3_codeOf_77 ?_
            refine g_goto (tgt := 91) hΓ dX3_codeOf_78 (by decide) ?_
            exact m_iret hΓ dX3_codeOf_91 ⟨ri (by rw [cdv]; (repeat' split) <;> first | rfl | omega), rfl⟩
          · refine g_iconst hΓ dX3_codeOf_73 ?_
            refine g_goto (tgt := 91) hΓ dX3_codeOf_74 (by decide) ?_
            exact m_iret hΓ dX3_codeOf_91 ⟨ri (by rw [cdv]; (repeat' split) <;> first | rfl | omega), rfl⟩
      · refine g_iload_n hΓ rfl dX3_codeOf_54 ?_
        refine g_if_le (tgt := 62) hΓ (by first | omega | (split <;> omega) | (refine ⟨?_, ?_⟩ <;> (repeat' split) <;> omega)) dX3_codeOf_55 (by decide) (fun c11 => ?_) (fun c11 => ?_)
        · refine g_bipush hΓ (by decide) dX3_codeOf_62 ?_
          exact m_iret hΓ dX3_codeOf_64 ⟨ri (by rw [cdv]; (repeat' split) <;> first | rfl | omega), rfl⟩
        · refine g_iconst hΓ dX3_codeOf_58 ?_
          refine g_goto (tgt := 64) hΓ dX3_codeOf_59 (by decide) ?_
          exact m_iret hΓ dX3_codeOf_64 ⟨ri (by rw [cdv]; (repeat' split) <;> first | rfl | omega), rfl⟩
    · refine g_iload_n hΓ rfl dX3_codeOf_27 ?_
      refine g_if_le (tgt := 35) hΓ (by first | omega | (split <;> omega) | (refine ⟨?_, ?_⟩ <;> (repeat' split) <;> omega)) dX3_codeOf_28 (by decide) (fun c12 => ?_) (fun c12 => ?_)
      · refine g_iconst hΓ dX3_codeOf_35 ?_
        exact m_iret hΓ dX3_codeOf_36 ⟨ri (by rw [cdv]; (repeat' split) <;> first | rfl | omega), rfl⟩
      · refine g_iconst hΓ dX3_codeOf_31 ?_
        refine g_goto (tgt := 36) hΓ dX3_codeOf_32 (by decide) ?_
        exact m_iret hΓ dX3_codeOf_36 ⟨ri (by rw [cdv]; (repeat' split) <;> first | rfl | omega), rfl⟩
  · refine g_iload_n hΓ rfl dX3_codeOf_4 ?_
    refine g_if_ne (tgt := 10) hΓ (by first | omega | (split <;> omega) | (refine ⟨?_, ?_⟩ <;> (repeat' split) <;> omega)) dX3_codeOf_5 (by decide) (fun c13 => ?_) (fun c13 => ?_)
    · refine g_bipush hΓ (by decide) dX3_codeOf_10 ?_
      refine g_iload_n hΓ rfl dX3_codeOf_12 ?_
      refine m_callS (As := [.int (iI b)]) (rest := [.int (iI 70)]) hok hΓ (m_plain hok σ b (by first | assumption | omega)) rfl q1664 q1665 q131 q1666 ndX3_plain rfl (by decide) (by decide) rfl (Nat.le_of_ble_eq_true rfl) dX3_codeOf_13 rfl (fun v14 τ14 τ14h => ?_)
      obtain ⟨rfl, τ14h⟩ := τ14h
      rw [τ14h]
      clear τ14h
      show gW Γ E (mM E h ad σ) 0 0 _ _ (.int (iI (if b < 0 then -b else b)) :: _)
      refine g_imul hΓ dX3_codeOf_16 ?_
      refine g_bipush hΓ (by decide) dX3_codeOf_17 ?_
      refine g_iload_n hΓ rfl dX3_codeOf_19 ?_
      refine m_callS (As := [.int (iI a)]) (rest := [.int (iI 29), .int (iI (70 * (if b < 0 then -b else b)))]) hok hΓ (m_plain hok σ a (by first | assumption | omega)) rfl q1664 q1665 q131 q1666 ndX3_plain rfl (by decide) (by decide) rfl (Nat.le_of_ble_eq_true rfl) dX3_codeOf_20 rfl (fun v15 τ15 τ15h => ?_)
      obtain ⟨rfl, τ15h⟩ := τ15h
      rw [τ15h]
      clear τ15h
      show gW Γ E (mM E h ad σ) 0 0 _ _ (.int (iI (if a < 0 then -a else a)) :: _)
      refine g_imul hΓ dX3_codeOf_23 ?_
      refine g_icmp_gt (tgt := 37) hΓ (by first | omega | (split <;> omega) | (refine ⟨?_, ?_⟩ <;> (repeat' split) <;> omega)) (by first | omega | (split <;> omega) | (refine ⟨?_, ?_⟩ <;> (repeat' split) <;> omega)) dX3_codeOf_24 (by decide) (fun c16 => ?_) (fun c16 => ?_)
      · refine g_bipush hΓ (by decide) dX3_codeOf_37 ?_
        refine g_iload_n hΓ rfl dX3_codeOf_39 ?_
        refine m_callS (As := [.int (iI a)]) (rest := [.int (iI 70)]) hok hΓ (m_plain hok σ a (by first | assumption | omega)) rfl q1664 q1665 q131 q1666 ndX3_plain rfl (by decide) (by decide) rfl (Nat.le_of_ble_eq_true rfl) dX3_codeOf_40 rfl (fun v17 τ17 τ17h => ?_)
        obtain ⟨rfl, τ17h⟩ := τ17h
        rw [τ17h]
        clear τ17h
        show gW Γ E (mM E h ad σ) 0 0 _ _ (.int (iI (if a < 0 then -a else a)) :: _)
        refine g_imul hΓ dX3_codeOf_43 ?_
        refine g_bipush hΓ (by decide) dX3_codeOf_44 ?_
        refine g_iload_n hΓ rfl dX3_codeOf_46 ?_
        refine m_callS (As := [.int (iI b)]) (rest := [.int (iI 29), .int (iI (70 * (if a < 0 then -a else a)))]) hok hΓ (m_plain hok σ b (by first | assumption | omega)) rfl q1664 q1665 q131 q1666 ndX3_plain rfl (by decide) (by decide) rfl (Nat.le_of_ble_eq_true rfl) dX3_codeOf_47 rfl (fun v18 τ18 τ18h => ?_)
        obtain ⟨rfl, τ18h⟩ := τ18h
        rw [τ18h]
        clear τ18h
        show gW Γ E (mM E h ad σ) 0 0 _ _ (.int (iI (if b < 0 then -b else b)) :: _)
        refine g_imul hΓ dX3_codeOf_50 ?_
        refine g_icmp_gt (tgt := 65) hΓ (by first | omega | (split <;> omega) | (refine ⟨?_, ?_⟩ <;> (repeat' split) <;> omega)) (by first | omega | (split <;> omega) | (refine ⟨?_, ?_⟩ <;> (repeat' split) <;> omega)) dX3_codeOf_51 (by decide) (fun c19 => ?_) (fun c19 => ?_)
        · refine g_iload_n hΓ rfl dX3_codeOf_65 ?_
          refine g_if_le (tgt := 81) hΓ (by first | omega | (split <;> omega) | (refine ⟨?_, ?_⟩ <;> (repeat' split) <;> omega)) dX3_codeOf_66 (by decide) (fun c20 => ?_) (fun c20 => ?_)
          · refine g_iload_n hΓ rfl dX3_codeOf_81 ?_
            refine g_if_ge (tgt := 89) hΓ (by first | omega | (split <;> omega) | (refine ⟨?_, ?_⟩ <;> (repeat' split) <;> omega)) dX3_codeOf_82 (by decide) (fun c21 => ?_) (fun c21 => ?_)
            · refine g_bipush hΓ (by decide) dX3_codeOf_89 ?_
              exact m_iret hΓ dX3_codeOf_91 ⟨ri (by rw [cdv]; (repeat' split) <;> first | rfl | omega), rfl⟩
            · refine g_iconst hΓ dX3_codeOf_85 ?_
              refine g_goto (tgt := 91) hΓ dX3_codeOf_86 (by decide) ?_
              exact m_iret hΓ dX3_codeOf_91 ⟨ri (by rw [cdv]; (repeat' split) <;> first | rfl | omega), rfl⟩
          · refine g_iload_n hΓ rfl dX3_codeOf_69 ?_
            refine g_if_le (tgt := 77) hΓ (by first | omega | (split <;> omega) | (refine ⟨?_, ?_⟩ <;> (repeat' split) <;> omega)) dX3_codeOf_70 (by decide) (fun c22 => ?_) (fun c22 => ?_)
            · refine g_iconst hΓ dX3_codeOf_77 ?_
              refine g_goto (tgt := 91) hΓ dX3_codeOf_78 (by decide) ?_
              exact m_iret hΓ dX3_codeOf_91 ⟨ri (by rw [cdv]; (repeat' split) <;> first | rfl | omega), rfl⟩
            · refine g_iconst hΓ dX3_codeOf_73 ?_
              refine g_goto (tgt := 91) hΓ dX3_codeOf_74 (by decide) ?_
              exact m_iret hΓ dX3_codeOf_91 ⟨ri (by rw [cdv]; (repeat' split) <;> first | rfl | omega), rfl⟩
        · refine g_iload_n hΓ rfl dX3_codeOf_54 ?_
          refine g_if_le (tgt := 62) hΓ (by first | omega | (split <;> omega) | (refine ⟨?_, ?_⟩ <;> (repeat' split) <;> omega)) dX3_codeOf_55 (by decide) (fun c23 => ?_) (fun c23 => ?_)
          · refine g_bipush hΓ (by decide) dX3_codeOf_62 ?_
            exact m_iret hΓ dX3_codeOf_64 ⟨ri (by rw [cdv]; (repeat' split) <;> first | rfl | omega), rfl⟩
          · refine g_iconst hΓ dX3_codeOf_58 ?_
            refine g_goto (tgt := 64) hΓ dX3_codeOf_59 (by decide) ?_
            exact m_iret hΓ dX3_codeOf_64 ⟨ri (by rw [cdv]; (repeat' split) <;> first | rfl | omega), rfl⟩
      · refine g_iload_n hΓ rfl dX3_codeOf_27 ?_
        refine g_if_le (tgt := 35) hΓ (by first | omega | (split <;> omega) | (refine ⟨?_, ?_⟩ <;> (repeat' split) <;> omega)) dX3_codeOf_28 (by decide) (fun c24 => ?_) (fun c24 => ?_)
        · refine g_iconst hΓ dX3_codeOf_35 ?_
          exact m_iret hΓ dX3_codeOf_36 ⟨ri (by rw [cdv]; (repeat' split) <;> first | rfl | omega), rfl⟩
        · refine g_iconst hΓ dX3_codeOf_31 ?_
          refine g_goto (tgt := 36) hΓ dX3_codeOf_32 (by decide) ?_
          exact m_iret hΓ dX3_codeOf_36 ⟨ri (by rw [cdv]; (repeat' split) <;> first | rfl | omega), rfl⟩
    · refine g_iload_n hΓ rfl dX3_codeOf_8 ?_
      exact m_iret hΓ dX3_codeOf_9 ⟨ri (by rw [cdv]; (repeat' split) <;> first | rfl | omega), rfl⟩
set_option maxHeartbeats 4000000 in
theorem m_apart {l : Launch} {E : gE} {h : Nat} {ad : Nat → Nat} (hok : mOK E h ad) (σ : mS)  (a : Int) (b : Int) (ha : 0 ≤ a ∧ a ≤ 7) (hb : 0 ≤ b ∧ b ≤ 7) : mC l E h ad yX3_apart cX3_apart 3 (some .int) 1 [.int (iI a), .int (iI b)] σ (fun rv σ' => rv = some (.int (iI (apt a b))) ∧ σ' = σ) := by
  refine mC.of (by decide) [some (.int (iI a)), some (.int (iI b)), none] (Nat.le_of_ble_eq_true rfl) rfl rfl (fun Γ hΓ => ?_)
  refine g_iload_n hΓ rfl dX3_apart_0 ?_
  refine g_iload_n hΓ rfl dX3_apart_1 ?_
  refine g_isub hΓ dX3_apart_2 ?_
  refine m_callS (As := [.int (iI (a - b))]) (rest := []) hok hΓ (m_plain hok σ (a - b) (by first | assumption | omega)) rfl q1664 q1665 q131 q1666 ndX3_plain rfl (by decide) (by decide) rfl (Nat.le_of_ble_eq_true rfl) dX3_apart_3 rfl (fun v1 τ1 τ1h => ?_)
  obtain ⟨rfl, τ1h⟩ := τ1h
  rw [τ1h]
  clear τ1h
  show gW Γ E (mM E h ad σ) 0 0 _ _ (.int (iI (if (a - b) < 0 then -(a - b) else (a - b))) :: _)
  obtain ⟨x2, ex2⟩ : ∃ z9 : Int, z9 = if (a - b) < 0 then -(a - b) else (a - b) := ⟨_, rfl⟩
  refine g_topi ex2.symm ?_
  refine g_istore_n hΓ dX3_apart_6 rfl (Nat.le_of_ble_eq_true rfl) (lv' := [some (.int (iI a)), some (.int (iI b)), some (.int (iI x2))]) rfl ?_
  have hx : 0 ≤ x2 ∧ x2 ≤ 7 := by rw [ex2]; split <;> omega
  refine g_iload_n hΓ rfl dX3_apart_7 ?_
  refine g_bipush hΓ (by decide) dX3_apart_8 ?_
  refine g_iload_n hΓ rfl dX3_apart_10 ?_
  refine g_isub hΓ dX3_apart_11 ?_
  refine m_callS (As := [.int (iI x2), .int (iI (8 - x2))]) (rest := []) hok hΓ (m_lesser hok σ x2 (8 - x2) (by first | assumption | omega) (by first | assumption | omega)) rfl q1674 q1675 q131 q1676 ndX3_lesser rfl (by decide) (by decide) rfl (Nat.le_of_ble_eq_true rfl) dX3_apart_12 rfl (fun v3 τ3 τ3h => ?_)
  obtain ⟨rfl, τ3h⟩ := τ3h
  rw [τ3h]
  clear τ3h
  show gW Γ E (mM E h ad σ) 0 0 _ _ (.int (iI (min x2 (8 - x2))) :: _)
  exact m_iret hΓ dX3_apart_15 ⟨ri (by rw [apt, ex2]), rfl⟩
