set_option maxRecDepth 100000
set_option maxHeartbeats 4000000 in
theorem m_number {l : Launch} {E : gE} {h : Nat} {ad : Nat → Nat} (hok : mOK E h ad) (σ : mS)  (lo : Int) (hi : Int) (hlo : r32 lo) (hhi : r32 hi) (hz : 0 ≤ σ 16 0 ∧ σ 16 0 ≤ 1600) (htp : ∀ j, 0 ≤ j → j < 1600 → 0 ≤ σ 11 j ∧ σ 11 j < 256) (hat : 0 ≤ σ 17 0 ∧ σ 17 0 ≤ σ 16 0) (hw : r32 (σ 19 0)) : mC l E h ad yX3_number cX3_number 4 (some .int) 2 [.ref h, .int (iI lo), .int (iI hi)] σ (fun rv σ' => rv = some (.int (iI (if nuK σ lo hi = 4 then nuV σ (hrS σ) else 0))) ∧ (nuR σ' σ lo hi) ∧ ∀ (k : Nat) (j : Int), k ∉ [17, 18, 19, 20] → σ' k j = σ k j) := by
  refine mC.of (by decide) [some (.ref h), some (.int (iI lo)), some (.int (iI hi)), none] (Nat.le_of_ble_eq_true rfl) rfl rfl (fun Γ hΓ => ?_)
  refine g_aload_n hΓ rfl dX3_number_0 ?_
  refine m_callV (As := []) (rest := []) hok hΓ (m_goesWell hok σ  (by first | assumption | omega)) rfl q1513 q1515 qs61 q131 q1516 ndX3_goesWell rfl (by decide) (by decide) rfl rfl (Nat.le_of_ble_eq_true rfl) dX3_number_1 rfl (fun v1 τ1 τ1h => ?_)
  obtain ⟨rfl, τ1h⟩ := τ1h
  rw [τ1h]
  clear τ1h
  show gW Γ E (mM E h ad σ) 0 0 _ _ (.int (iI (if σ 19 0 = 0 then 1 else 0)) :: _)
  refine g_ifB_ne (tgt := 9) hΓ  dX3_number_4 (by decide) (fun c2 => ?_) (fun c2 => ?_)
  · refine g_aload_n hΓ rfl dX3_number_9 ?_
    refine m_callV (As := []) (rest := []) hok hΓ (m_here hok σ  (by first | assumption | omega) (by first | assumption | omega) (by first | assumption | omega)) rfl q1517 q1519 qs62 q131 q1520 ndX3_here rfl (by decide) (by decide) rfl rfl (Nat.le_of_ble_eq_true rfl) dX3_number_10 rfl (fun v3 τ3 τ3h => ?_)
    obtain ⟨rfl, τ3h, τ3f⟩ := τ3h
    show gW Γ E (mM E h ad τ3) 0 0 _ _ (.int (iI (bya σ (hrS σ))) :: _)
    refine g_pop hΓ rfl dX3_number_13 ?_
    refine g_aload_n hΓ rfl dX3_number_14 ?_
    refine g_aload_n hΓ rfl dX3_number_15 ?_
    refine m_geti hok hΓ 17 (by decide) rfl rfl q1374 rfl dX3_number_16 ?_
    refine m_puti hok hΓ 18 (by decide) rfl rfl q1375 rfl rfl rfl dX3_number_19 (fun τ4 τ4e => ?_)
    have τ4r : τ4 18 0 = τ3 17 0 := by rw [τ4e]; exact us_s _ _ _ _
    have τ4f : ∀ (k9 : Nat) (j9 : Int), (k9 ≠ 18 ∨ j9 ≠ 0) → τ4 k9 j9 = τ3 k9 j9 := fun k9 j9 hh => by rw [τ4e]; exact us_n hh
    have hhr := hrS_r hat.2
    have hq : τ3 17 0 = hrS σ := τ3h
    have τ411 : τ4 11 = σ 11 := funext fun j => ((τ4f 11 j (Or.inl (by decide))).trans (τ3f 11 j (by decide)))
    have τ416 : τ4 16 0 = σ 16 0 := ((τ4f 16 0 (Or.inl (by decide))).trans (τ3f 16 0 (by decide)))
    have τ419 : τ4 19 0 = σ 19 0 := ((τ4f 19 0 (Or.inl (by decide))).trans (τ3f 19 0 (by decide)))
    have τ4b := bya_of τ411 τ416
    have τ4z : 0 ≤ τ4 16 0 ∧ τ4 16 0 ≤ 1600 := by rw [τ416]; exact hz
    have τ4t : ∀ j, 0 ≤ j → j < 1600 → 0 ≤ τ4 11 j ∧ τ4 11 j < 256 := by rw [τ411]; exact htp
    have τ4b0 : bya τ4 (τ3 17 0) = bya σ (hrS σ) := by first | (rw [τ4b, hq]; done) | (rw [τ4b]; done)
    have τ4r0 := bya_r σ (hrS σ) htp hz
    have τ4b1 : bya τ4 (τ3 17 0 - 1) = bya σ (hrS σ - 1) := by first | (rw [τ4b, hq]; done) | (rw [τ4b]; done)
    have τ4r1 := bya_r σ (hrS σ - 1) htp hz
    refine g_aload_n hΓ rfl dX3_number_22 ?_
    refine g_aload_n hΓ rfl dX3_number_23 ?_
    refine m_geti hok hΓ 17 (by decide) rfl rfl q1374 rfl dX3_number_24 ?_
    refine g_topi ((τ4f 17 0 (Or.inl (by decide)))) ?_
    refine m_callV (As := [.int (iI (τ3 17 0))]) (rest := []) hok hΓ (m_isDigit hok τ4 (τ3 17 0) (by first | assumption | omega) (by first | assumption | omega) (by first | assumption | omega)) rfl q1537 q1539 qs67 q131 q1540 ndX3_isDigit rfl (by decide) (by decide) rfl rfl (Nat.le_of_ble_eq_true rfl) dX3_number_27 rfl (fun v5 τ5 τ5h => ?_)
    obtain ⟨rfl, τ5h⟩ := τ5h
    rw [τ5h]
    clear τ5h
    show gW Γ E (mM E h ad τ4) 0 0 _ _ (.int (iI (if 48 ≤ bya τ4 (τ3 17 0) ∧ bya τ4 (τ3 17 0) ≤ 57 then 1 else 0)) :: _)
    refine g_ifB_eq (tgt := 59) hΓ  dX3_number_30 (by decide) (fun c6 => ?_) (fun c6 => ?_)
    · refine g_aload_n hΓ rfl dX3_number_59 ?_
      refine g_iconst hΓ dX3_number_60 ?_
      refine g_aload_n hΓ rfl dX3_number_61 ?_
      refine m_geti hok hΓ 17 (by decide) rfl rfl q1374 rfl dX3_number_62 ?_
      refine g_topi ((τ4f 17 0 (Or.inl (by decide)))) ?_
      refine m_callV (As := [.int (iI 1), .int (iI (τ3 17 0))]) (rest := []) hok hΓ (m_faults hok τ4 1 (τ3 17 0) (by first | assumption | omega)) rfl q1525 q1527 qs64 q131 q1528 ndX3_faults rfl (by decide) (by decide) rfl rfl (Nat.le_of_ble_eq_true rfl) dX3_number_65 rfl (fun v7 τ7 τ7h => ?_)
      obtain ⟨rfl, τ7h, τ7f⟩ := τ7h
      refine g_iconst hΓ dX3_number_68 ?_
      exact m_iret hΓ dX3_number_69 (by
        have hbe : ¬ beW isDg σ (hrS σ) := by rw [beW, isDg, isSl, isDg]; omega
        have hK : nuK σ lo hi = 1 := by rw [nuK, if_neg (by omega), if_pos hbe]
        have y3 := τ7h.1
        have y4 := τ7h.2
        have y1 : τ7 17 0 = τ3 17 0 := ((τ7f 17 0 (by decide)).trans (τ4f 17 0 (Or.inl (by decide))))
        have y2 : τ7 18 0 = τ3 17 0 := (τ7f 18 0 (by decide)).trans τ4r
        exact ⟨ri (by omega), (by rw [nuR]; omega), (fun k j hk => (((τ7f k j (fun e => hk ((show ∀ x ∈ [19, 20], x ∈ [17, 18, 19, 20] by decide) k e))).trans (τ4f k j (Or.inl (fun e => hk (by rw [e]; decide))))).trans (τ3f k j (fun e => hk ((show ∀ x ∈ [17], x ∈ [17, 18, 19, 20] by decide) k e)))))⟩)
    · refine g_aload_n hΓ rfl dX3_number_33 ?_
      refine g_aload_n hΓ rfl dX3_number_34 ?_
      refine m_geti hok hΓ 17 (by decide) rfl rfl q1374 rfl dX3_number_35 ?_
      refine g_topi ((τ4f 17 0 (Or.inl (by decide)))) ?_
      refine g_iconst hΓ dX3_number_38 ?_
      refine g_isub hΓ dX3_number_39 ?_
      refine m_callV (As := [.int (iI ((τ3 17 0) - 1))]) (rest := []) hok hΓ (m_isSmall hok τ4 ((τ3 17 0) - 1) (by first | assumption | omega) (by first | assumption | omega) (by first | assumption | omega)) rfl q1533 q1535 qs66 q131 q1536 ndX3_isSmall rfl (by decide) (by decide) rfl rfl (Nat.le_of_ble_eq_true rfl) dX3_number_40 rfl (fun v8 τ8 τ8h => ?_)
      obtain ⟨rfl, τ8h⟩ := τ8h
      rw [τ8h]
      clear τ8h
      show gW Γ E (mM E h ad τ4) 0 0 _ _ (.int (iI (if 97 ≤ bya τ4 ((τ3 17 0) - 1) ∧ bya τ4 ((τ3 17 0) - 1) ≤ 122 then 1 else 0)) :: _)
      refine g_ifB_ne (tgt := 59) hΓ  dX3_number_43 (by decide) (fun c9 => ?_) (fun c9 => ?_)
      · refine g_aload_n hΓ rfl dX3_number_59 ?_
        refine g_iconst hΓ dX3_number_60 ?_
        refine g_aload_n hΓ rfl dX3_number_61 ?_
        refine m_geti hok hΓ 17 (by decide) rfl rfl q1374 rfl dX3_number_62 ?_
        refine g_topi ((τ4f 17 0 (Or.inl (by decide)))) ?_
        refine m_callV (As := [.int (iI 1), .int (iI (τ3 17 0))]) (rest := []) hok hΓ (m_faults hok τ4 1 (τ3 17 0) (by first | assumption | omega)) rfl q1525 q1527 qs64 q131 q1528 ndX3_faults rfl (by decide) (by decide) rfl rfl (Nat.le_of_ble_eq_true rfl) dX3_number_65 rfl (fun v10 τ10 τ10h => ?_)
        obtain ⟨rfl, τ10h, τ10f⟩ := τ10h
        refine g_iconst hΓ dX3_number_68 ?_
        exact m_iret hΓ dX3_number_69 (by
          have hbe : ¬ beW isDg σ (hrS σ) := by rw [beW, isDg, isSl, isDg]; omega
          have hK : nuK σ lo hi = 1 := by rw [nuK, if_neg (by omega), if_pos hbe]
          have y3 := τ10h.1
          have y4 := τ10h.2
          have y1 : τ10 17 0 = τ3 17 0 := ((τ10f 17 0 (by decide)).trans (τ4f 17 0 (Or.inl (by decide))))
          have y2 : τ10 18 0 = τ3 17 0 := (τ10f 18 0 (by decide)).trans τ4r
          exact ⟨ri (by omega), (by rw [nuR]; omega), (fun k j hk => (((τ10f k j (fun e => hk ((show ∀ x ∈ [19, 20], x ∈ [17, 18, 19, 20] by decide) k e))).trans (τ4f k j (Or.inl (fun e => hk (by rw [e]; decide))))).trans (τ3f k j (fun e => hk ((show ∀ x ∈ [17], x ∈ [17, 18, 19, 20] by decide) k e)))))⟩)
      · refine g_aload_n hΓ rfl dX3_number_46 ?_
        refine g_aload_n hΓ rfl dX3_number_47 ?_
        refine m_geti hok hΓ 17 (by decide) rfl rfl q1374 rfl dX3_number_48 ?_
        refine g_topi ((τ4f 17 0 (Or.inl (by decide)))) ?_
        refine g_iconst hΓ dX3_number_51 ?_
        refine g_isub hΓ dX3_number_52 ?_
        refine m_callV (As := [.int (iI ((τ3 17 0) - 1))]) (rest := []) hok hΓ (m_isDigit hok τ4 ((τ3 17 0) - 1) (by first | assumption | omega) (by first | assumption | omega) (by first | assumption | omega)) rfl q1537 q1539 qs67 q131 q1540 ndX3_isDigit rfl (by decide) (by decide) rfl rfl (Nat.le_of_ble_eq_true rfl) dX3_number_53 rfl (fun v11 τ11 τ11h => ?_)
        obtain ⟨rfl, τ11h⟩ := τ11h
        rw [τ11h]
        clear τ11h
        show gW Γ E (mM E h ad τ4) 0 0 _ _ (.int (iI (if 48 ≤ bya τ4 ((τ3 17 0) - 1) ∧ bya τ4 ((τ3 17 0) - 1) ≤ 57 then 1 else 0)) :: _)
        refine g_ifB_eq (tgt := 70) hΓ  dX3_number_56 (by decide) (fun c12 => ?_) (fun c12 => ?_)
        · refine g_iconst hΓ dX3_number_70 ?_
          refine g_istore_n hΓ dX3_number_71 rfl (Nat.le_of_ble_eq_true rfl) (lv' := [some (.ref h), some (.int (iI lo)), some (.int (iI hi)), some (.int (iI 0))]) rfl ?_
          have h417 : τ4 17 0 = hrS σ := (τ4f 17 0 (Or.inl (by decide))).trans hq
          have h418 : τ4 18 0 = hrS σ := τ4r.trans hq
          have h420 : τ4 20 0 = σ 20 0 := ((τ4f 20 0 (Or.inl (by decide))).trans (τ3f 20 0 (by decide)))
          have hB1 := bya_r σ (hrS σ + 1) htp hz
          have hB2 := bya_r σ (hrS σ + 2) htp hz
          have hbe : beW isDg σ (hrS σ) := by rw [beW, isDg, isSl, isDg]; omega
          have hz0 : σ 19 0 = 0 := by omega
          have loop : ∀ (fu : Nat) (v : Int) (k : Int) (t : mS), (3 - k).toNat < fu → (t 17 0 = hrS σ + k) → (t 18 0 = hrS σ) → (nu2 t σ k) → (nuI σ k v) → (∀ (k : Nat) (j : Int), k ∉ [17,19,20] → t k j = τ4 k j) → gW Γ E (mM E h ad t) 0 0 72 [some (.ref h), some (.int (iI lo)), some (.int (iI hi)), some (.int (iI v))] [] := by
            intro fu
            induction fu with
            | zero => intro v k t hn; exact absurd hn (Nat.not_lt_zero _)
            | succ fu ih_loop =>
              intro v k t hn h17 h18 hN hI tf
              have hNr := nu2_r hN
              have hIr := nuI_r hI hbe.1
              have t11 : t 11 = σ 11 := funext fun j => (((tf 11 j (by decide)).trans (τ4f 11 j (Or.inl (by decide)))).trans (τ3f 11 j (by decide)))
              have t16 : t 16 0 = σ 16 0 := (((tf 16 0 (by decide)).trans (τ4f 16 0 (Or.inl (by decide)))).trans (τ3f 16 0 (by decide)))
              have tb := bya_of t11 t16
              have tz : 0 ≤ t 16 0 ∧ t 16 0 ≤ 1600 := by rw [t16]; exact hz
              have tt : ∀ j, 0 ≤ j → j < 1600 → 0 ≤ t 11 j ∧ t 11 j < 256 := by rw [t11]; exact htp
              have tb0 : bya t (t 17 0) = bya σ (hrS σ + k) := by rw [tb, h17]
              have tr0 := bya_r σ (hrS σ + k) htp hz
              refine g_aload_n hΓ rfl dX3_number_72 ?_
              refine g_aload_n hΓ rfl dX3_number_73 ?_
              refine m_geti hok hΓ 17 (by decide) rfl rfl q1374 rfl dX3_number_74 ?_
              refine m_callV (As := [.int (iI (t 17 0))]) (rest := []) hok hΓ (m_isDigit hok t (t 17 0) (by first | assumption | omega) (by first | assumption | omega) (by first | assumption | omega)) rfl q1537 q1539 qs67 q131 q1540 ndX3_isDigit rfl (by decide) (by decide) rfl rfl (Nat.le_of_ble_eq_true rfl) dX3_number_77 rfl (fun v13 τ13 τ13h => ?_)
              obtain ⟨rfl, τ13h⟩ := τ13h
              rw [τ13h]
              clear τ13h
              show gW Γ E (mM E h ad t) 0 0 _ _ (.int (iI (if 48 ≤ bya t (t 17 0) ∧ bya t (t 17 0) ≤ 57 then 1 else 0)) :: _)
              refine g_ifB_eq (tgt := 142) hΓ  dX3_number_80 (by decide) (fun c14 => ?_) (fun c14 => ?_)
              · refine g_iload_n hΓ rfl dX3_number_142 ?_
                refine g_iload_n hΓ rfl dX3_number_143 ?_
                refine g_iload_n hΓ rfl dX3_number_144 ?_
                refine m_callS (As := [.int (iI v), .int (iI lo), .int (iI hi)]) (rest := []) hok hΓ (m_isIn hok t v lo hi (by first | assumption | omega) (by first | assumption | omega) (by first | assumption | omega)) rfl q1549 q1550 q131 q1551 ndX3_isIn rfl (by decide) (by decide) rfl (Nat.le_of_ble_eq_true rfl) dX3_number_145 rfl (fun v15 τ15 τ15h => ?_)
                obtain ⟨rfl, τ15h⟩ := τ15h
                rw [τ15h]
                clear τ15h
                show gW Γ E (mM E h ad t) 0 0 _ _ (.int (iI (if lo ≤ v ∧ v ≤ hi then 1 else 0)) :: _)
                refine g_ifB_ne (tgt := 160) hΓ  dX3_number_148 (by decide) (fun c16 => ?_) (fun c16 => ?_)
                · refine g_aload_n hΓ rfl dX3_number_160 ?_
                  refine m_callV (As := []) (rest := []) hok hΓ (m_goesWell hok t  (by first | assumption | omega)) rfl q1513 q1515 qs61 q131 q1516 ndX3_goesWell rfl (by decide) (by decide) rfl rfl (Nat.le_of_ble_eq_true rfl) dX3_number_161 rfl (fun v17 τ17 τ17h => ?_)
                  obtain ⟨rfl, τ17h⟩ := τ17h
                  rw [τ17h]
                  clear τ17h
                  show gW Γ E (mM E h ad t) 0 0 _ _ (.int (iI (if t 19 0 = 0 then 1 else 0)) :: _)
                  refine g_ifB_eq (tgt := 171) hΓ  dX3_number_164 (by decide) (fun c18 => ?_) (fun c18 => ?_)
                  · refine g_iconst hΓ dX3_number_171 ?_
                    exact m_iret hΓ dX3_number_172 (by
                      have y1 : t 17 0 = t 17 0 := rfl
                      have y2 : t 18 0 = t 18 0 := rfl
                      rcases hN with z | z <;> rcases nuK_fin (lo := lo) (hi := hi) hz0 hbe hI (by rw [isDg]; omega) with ⟨z1, z2, z3⟩ | ⟨z1, z2, z3, z4⟩
                      · exact ⟨ri (by omega), (by rw [nuR]; omega), (fun k j hk => (((tf k j (fun e => hk ((show ∀ x ∈ [17, 19, 20], x ∈ [17, 18, 19, 20] by decide) k e))).trans (τ4f k j (Or.inl (fun e => hk (by rw [e]; decide))))).trans (τ3f k j (fun e => hk ((show ∀ x ∈ [17], x ∈ [17, 18, 19, 20] by decide) k e)))))⟩
                      · omega
                      · omega
                      · exact ⟨ri (by omega), (by rw [nuR]; omega), (fun k j hk => (((tf k j (fun e => hk ((show ∀ x ∈ [17, 19, 20], x ∈ [17, 18, 19, 20] by decide) k e))).trans (τ4f k j (Or.inl (fun e => hk (by rw [e]; decide))))).trans (τ3f k j (fun e => hk ((show ∀ x ∈ [17], x ∈ [17, 18, 19, 20] by decide) k e)))))⟩)
                  · refine g_iload_n hΓ rfl dX3_number_167 ?_
                    refine g_goto (tgt := 172) hΓ dX3_number_168 (by decide) ?_
                    exact m_iret hΓ dX3_number_172 (by
                      have y1 : t 17 0 = t 17 0 := rfl
                      have y2 : t 18 0 = t 18 0 := rfl
                      rcases hN with z | z <;> rcases nuK_fin (lo := lo) (hi := hi) hz0 hbe hI (by rw [isDg]; omega) with ⟨z1, z2, z3⟩ | ⟨z1, z2, z3, z4⟩
                      · exact ⟨ri (by omega), (by rw [nuR]; omega), (fun k j hk => (((tf k j (fun e => hk ((show ∀ x ∈ [17, 19, 20], x ∈ [17, 18, 19, 20] by decide) k e))).trans (τ4f k j (Or.inl (fun e => hk (by rw [e]; decide))))).trans (τ3f k j (fun e => hk ((show ∀ x ∈ [17], x ∈ [17, 18, 19, 20] by decide) k e)))))⟩
                      · omega
                      · omega
                      · exact ⟨ri (by omega), (by rw [nuR]; omega), (fun k j hk => (((tf k j (fun e => hk ((show ∀ x ∈ [17, 19, 20], x ∈ [17, 18, 19, 20] by decide) k e))).trans (τ4f k j (Or.inl (fun e => hk (by rw [e]; decide))))).trans (τ3f k j (fun e => hk ((show ∀ x ∈ [17], x ∈ [17, 18, 19, 20] by decide) k e)))))⟩)
                · refine g_aload_n hΓ rfl dX3_number_151 ?_
                  refine g_iconst hΓ dX3_number_152 ?_
                  refine g_aload_n hΓ rfl dX3_number_153 ?_
                  refine m_geti hok hΓ 18 (by decide) rfl rfl q1375 rfl dX3_number_154 ?_
                  refine g_topi (((tf 18 0 (by decide)).trans τ4r)) ?_
                  refine m_callV (As := [.int (iI 2), .int (iI (τ3 17 0))]) (rest := []) hok hΓ (m_faults hok t 2 (τ3 17 0) (by first | assumption | omega)) rfl q1525 q1527 qs64 q131 q1528 ndX3_faults rfl (by decide) (by decide) rfl rfl (Nat.le_of_ble_eq_true rfl) dX3_number_157 rfl (fun v19 τ19 τ19h => ?_)
                  obtain ⟨rfl, τ19h, τ19f⟩ := τ19h
                  refine g_aload_n hΓ rfl dX3_number_160 ?_
                  refine m_callV (As := []) (rest := []) hok hΓ (m_goesWell hok τ19  (by first | assumption | omega)) rfl q1513 q1515 qs61 q131 q1516 ndX3_goesWell rfl (by decide) (by decide) rfl rfl (Nat.le_of_ble_eq_true rfl) dX3_number_161 rfl (fun v20 τ20 τ20h => ?_)
                  obtain ⟨rfl, τ20h⟩ := τ20h
                  rw [τ20h]
                  clear τ20h
                  show gW Γ E (mM E h ad τ19) 0 0 _ _ (.int (iI (if τ19 19 0 = 0 then 1 else 0)) :: _)
                  refine g_ifB_eq (tgt := 171) hΓ  dX3_number_164 (by decide) (fun c21 => ?_) (fun c21 => ?_)
                  · refine g_iconst hΓ dX3_number_171 ?_
                    exact m_iret hΓ dX3_number_172 (by
                      have y1 : τ19 17 0 = t 17 0 := (τ19f 17 0 (by decide))
                      have y2 : τ19 18 0 = t 18 0 := (τ19f 18 0 (by decide))
                      have y3 := τ19h.1
                      have y4 := τ19h.2
                      rcases hN with z | z <;> rcases nuK_fin (lo := lo) (hi := hi) hz0 hbe hI (by rw [isDg]; omega) with ⟨z1, z2, z3⟩ | ⟨z1, z2, z3, z4⟩
                      · exact ⟨ri (by omega), (by rw [nuR]; omega), (fun k j hk => ((((τ19f k j (fun e => hk ((show ∀ x ∈ [19, 20], x ∈ [17, 18, 19, 20] by decide) k e))).trans (tf k j (fun e => hk ((show ∀ x ∈ [17, 19, 20], x ∈ [17, 18, 19, 20] by decide) k e)))).trans (τ4f k j (Or.inl (fun e => hk (by rw [e]; decide))))).trans (τ3f k j (fun e => hk ((show ∀ x ∈ [17], x ∈ [17, 18, 19, 20] by decide) k e)))))⟩
                      · omega
                      · omega
                      · exact ⟨ri (by omega), (by rw [nuR]; omega), (fun k j hk => ((((τ19f k j (fun e => hk ((show ∀ x ∈ [19, 20], x ∈ [17, 18, 19, 20] by decide) k e))).trans (tf k j (fun e => hk ((show ∀ x ∈ [17, 19, 20], x ∈ [17, 18, 19, 20] by decide) k e)))).trans (τ4f k j (Or.inl (fun e => hk (by rw [e]; decide))))).trans (τ3f k j (fun e => hk ((show ∀ x ∈ [17], x ∈ [17, 18, 19, 20] by decide) k e)))))⟩)
                  · refine g_iload_n hΓ rfl dX3_number_167 ?_
                    refine g_goto (tgt := 172) hΓ dX3_number_168 (by decide) ?_
                    exact m_iret hΓ dX3_number_172 (by
                      have y1 : τ19 17 0 = t 17 0 := (τ19f 17 0 (by decide))
                      have y2 : τ19 18 0 = t 18 0 := (τ19f 18 0 (by decide))
                      have y3 := τ19h.1
                      have y4 := τ19h.2
                      rcases hN with z | z <;> rcases nuK_fin (lo := lo) (hi := hi) hz0 hbe hI (by rw [isDg]; omega) with ⟨z1, z2, z3⟩ | ⟨z1, z2, z3, z4⟩
                      · exact ⟨ri (by omega), (by rw [nuR]; omega), (fun k j hk => ((((τ19f k j (fun e => hk ((show ∀ x ∈ [19, 20], x ∈ [17, 18, 19, 20] by decide) k e))).trans (tf k j (fun e => hk ((show ∀ x ∈ [17, 19, 20], x ∈ [17, 18, 19, 20] by decide) k e)))).trans (τ4f k j (Or.inl (fun e => hk (by rw [e]; decide))))).trans (τ3f k j (fun e => hk ((show ∀ x ∈ [17], x ∈ [17, 18, 19, 20] by decide) k e)))))⟩
                      · omega
                      · omega
                      · exact ⟨ri (by omega), (by rw [nuR]; omega), (fun k j hk => ((((τ19f k j (fun e => hk ((show ∀ x ∈ [19, 20], x ∈ [17, 18, 19, 20] by decide) k e))).trans (tf k j (fun e => hk ((show ∀ x ∈ [17, 19, 20], x ∈ [17, 18, 19, 20] by decide) k e)))).trans (τ4f k j (Or.inl (fun e => hk (by rw [e]; decide))))).trans (τ3f k j (fun e => hk ((show ∀ x ∈ [17], x ∈ [17, 18, 19, 20] by decide) k e)))))⟩)
              · refine g_aload_n hΓ rfl dX3_number_83 ?_
                refine m_callV (As := []) (rest := []) hok hΓ (m_goesWell hok t  (by first | assumption | omega)) rfl q1513 q1515 qs61 q131 q1516 ndX3_goesWell rfl (by decide) (by decide) rfl rfl (Nat.le_of_ble_eq_true rfl) dX3_number_84 rfl (fun v22 τ22 τ22h => ?_)
                obtain ⟨rfl, τ22h⟩ := τ22h
                rw [τ22h]
                clear τ22h
                show gW Γ E (mM E h ad t) 0 0 _ _ (.int (iI (if t 19 0 = 0 then 1 else 0)) :: _)
                refine g_ifB_eq (tgt := 142) hΓ  dX3_number_87 (by decide) (fun c23 => ?_) (fun c23 => ?_)
                · refine g_iload_n hΓ rfl dX3_number_142 ?_
                  refine g_iload_n hΓ rfl dX3_number_143 ?_
                  refine g_iload_n hΓ rfl dX3_number_144 ?_
                  refine m_callS (As := [.int (iI v), .int (iI lo), .int (iI hi)]) (rest := []) hok hΓ (m_isIn hok t v lo hi (by first | assumption | omega) (by first | assumption | omega) (by first | assumption | omega)) rfl q1549 q1550 q131 q1551 ndX3_isIn rfl (by decide) (by decide) rfl (Nat.le_of_ble_eq_true rfl) dX3_number_145 rfl (fun v24 τ24 τ24h => ?_)
                  obtain ⟨rfl, τ24h⟩ := τ24h
                  rw [τ24h]
                  clear τ24h
                  show gW Γ E (mM E h ad t) 0 0 _ _ (.int (iI (if lo ≤ v ∧ v ≤ hi then 1 else 0)) :: _)
                  refine g_ifB_ne (tgt := 160) hΓ  dX3_number_148 (by decide) (fun c25 => ?_) (fun c25 => ?_)
                  · refine g_aload_n hΓ rfl dX3_number_160 ?_
                    refine m_callV (As := []) (rest := []) hok hΓ (m_goesWell hok t  (by first | assumption | omega)) rfl q1513 q1515 qs61 q131 q1516 ndX3_goesWell rfl (by decide) (by decide) rfl rfl (Nat.le_of_ble_eq_true rfl) dX3_number_161 rfl (fun v26 τ26 τ26h => ?_)
                    obtain ⟨rfl, τ26h⟩ := τ26h
                    rw [τ26h]
                    clear τ26h
                    show gW Γ E (mM E h ad t) 0 0 _ _ (.int (iI (if t 19 0 = 0 then 1 else 0)) :: _)
                    refine g_ifB_eq (tgt := 171) hΓ  dX3_number_164 (by decide) (fun c27 => ?_) (fun c27 => ?_)
                    · refine g_iconst hΓ dX3_number_171 ?_
                      exact m_iret hΓ dX3_number_172 (by
                        have y1 : t 17 0 = t 17 0 := rfl
                        have y2 : t 18 0 = t 18 0 := rfl
                        rcases hN with z | z <;> rcases nuK_fin (lo := lo) (hi := hi) hz0 hbe hI (by rw [isDg]; omega) with ⟨z1, z2, z3⟩ | ⟨z1, z2, z3, z4⟩
                        · exact ⟨ri (by omega), (by rw [nuR]; omega), (fun k j hk => (((tf k j (fun e => hk ((show ∀ x ∈ [17, 19, 20], x ∈ [17, 18, 19, 20] by decide) k e))).trans (τ4f k j (Or.inl (fun e => hk (by rw [e]; decide))))).trans (τ3f k j (fun e => hk ((show ∀ x ∈ [17], x ∈ [17, 18, 19, 20] by decide) k e)))))⟩
                        · omega
                        · omega
                        · exact ⟨ri (by omega), (by rw [nuR]; omega), (fun k j hk => (((tf k j (fun e => hk ((show ∀ x ∈ [17, 19, 20], x ∈ [17, 18, 19, 20] by decide) k e))).trans (τ4f k j (Or.inl (fun e => hk (by rw [e]; decide))))).trans (τ3f k j (fun e => hk ((show ∀ x ∈ [17], x ∈ [17, 18, 19, 20] by decide) k e)))))⟩)
                    · refine g_iload_n hΓ rfl dX3_number_167 ?_
                      refine g_goto (tgt := 172) hΓ dX3_number_168 (by decide) ?_
                      exact m_iret hΓ dX3_number_172 (by
                        have y1 : t 17 0 = t 17 0 := rfl
                        have y2 : t 18 0 = t 18 0 := rfl
                        rcases hN with z | z <;> rcases nuK_fin (lo := lo) (hi := hi) hz0 hbe hI (by rw [isDg]; omega) with ⟨z1, z2, z3⟩ | ⟨z1, z2, z3, z4⟩
                        · exact ⟨ri (by omega), (by rw [nuR]; omega), (fun k j hk => (((tf k j (fun e => hk ((show ∀ x ∈ [17, 19, 20], x ∈ [17, 18, 19, 20] by decide) k e))).trans (τ4f k j (Or.inl (fun e => hk (by rw [e]; decide))))).trans (τ3f k j (fun e => hk ((show ∀ x ∈ [17], x ∈ [17, 18, 19, 20] by decide) k e)))))⟩
                        · omega
                        · omega
                        · exact ⟨ri (by omega), (by rw [nuR]; omega), (fun k j hk => (((tf k j (fun e => hk ((show ∀ x ∈ [17, 19, 20], x ∈ [17, 18, 19, 20] by decide) k e))).trans (τ4f k j (Or.inl (fun e => hk (by rw [e]; decide))))).trans (τ3f k j (fun e => hk ((show ∀ x ∈ [17], x ∈ [17, 18, 19, 20] by decide) k e)))))⟩)
                  · refine g_aload_n hΓ rfl dX3_number_151 ?_
                    refine g_iconst hΓ dX3_number_152 ?_
                    refine g_aload_n hΓ rfl dX3_number_153 ?_
                    refine m_geti hok hΓ 18 (by decide) rfl rfl q1375 rfl dX3_number_154 ?_
                    refine g_topi (((tf 18 0 (by decide)).trans τ4r)) ?_
                    refine m_callV (As := [.int (iI 2), .int (iI (τ3 17 0))]) (rest := []) hok hΓ (m_faults hok t 2 (τ3 17 0) (by first | assumption | omega)) rfl q1525 q1527 qs64 q131 q1528 ndX3_faults rfl (by decide) (by decide) rfl rfl (Nat.le_of_ble_eq_true rfl) dX3_number_157 rfl (fun v28 τ28 τ28h => ?_)
                    obtain ⟨rfl, τ28h, τ28f⟩ := τ28h
                    refine g_aload_n hΓ rfl dX3_number_160 ?_
                    refine m_callV (As := []) (rest := []) hok hΓ (m_goesWell hok τ28  (by first | assumption | omega)) rfl q1513 q1515 qs61 q131 q1516 ndX3_goesWell rfl (by decide) (by decide) rfl rfl (Nat.le_of_ble_eq_true rfl) dX3_number_161 rfl (fun v29 τ29 τ29h => ?_)
                    obtain ⟨rfl, τ29h⟩ := τ29h
                    rw [τ29h]
                    clear τ29h
                    show gW Γ E (mM E h ad τ28) 0 0 _ _ (.int (iI (if τ28 19 0 = 0 then 1 else 0)) :: _)
                    refine g_ifB_eq (tgt := 171) hΓ  dX3_number_164 (by decide) (fun c30 => ?_) (fun c30 => ?_)
                    · refine g_iconst hΓ dX3_number_171 ?_
                      exact m_iret hΓ dX3_number_172 (by
                        have y1 : τ28 17 0 = t 17 0 := (τ28f 17 0 (by decide))
                        have y2 : τ28 18 0 = t 18 0 := (τ28f 18 0 (by decide))
                        have y3 := τ28h.1
                        have y4 := τ28h.2
                        rcases hN with z | z <;> rcases nuK_fin (lo := lo) (hi := hi) hz0 hbe hI (by rw [isDg]; omega) with ⟨z1, z2, z3⟩ | ⟨z1, z2, z3, z4⟩
                        · exact ⟨ri (by omega), (by rw [nuR]; omega), (fun k j hk => ((((τ28f k j (fun e => hk ((show ∀ x ∈ [19, 20], x ∈ [17, 18, 19, 20] by decide) k e))).trans (tf k j (fun e => hk ((show ∀ x ∈ [17, 19, 20], x ∈ [17, 18, 19, 20] by decide) k e)))).trans (τ4f k j (Or.inl (fun e => hk (by rw [e]; decide))))).trans (τ3f k j (fun e => hk ((show ∀ x ∈ [17], x ∈ [17, 18, 19, 20] by decide) k e)))))⟩
                        · omega
                        · omega
                        · exact ⟨ri (by omega), (by rw [nuR]; omega), (fun k j hk => ((((τ28f k j (fun e => hk ((show ∀ x ∈ [19, 20], x ∈ [17, 18, 19, 20] by decide) k e))).trans (tf k j (fun e => hk ((show ∀ x ∈ [17, 19, 20], x ∈ [17, 18, 19, 20] by decide) k e)))).trans (τ4f k j (Or.inl (fun e => hk (by rw [e]; decide))))).trans (τ3f k j (fun e => hk ((show ∀ x ∈ [17], x ∈ [17, 18, 19, 20] by decide) k e)))))⟩)
                    · refine g_iload_n hΓ rfl dX3_number_167 ?_
                      refine g_goto (tgt := 172) hΓ dX3_number_168 (by decide) ?_
                      exact m_iret hΓ dX3_number_172 (by
                        have y1 : τ28 17 0 = t 17 0 := (τ28f 17 0 (by decide))
                        have y2 : τ28 18 0 = t 18 0 := (τ28f 18 0 (by decide))
                        have y3 := τ28h.1
                        have y4 := τ28h.2
                        rcases hN with z | z <;> rcases nuK_fin (lo := lo) (hi := hi) hz0 hbe hI (by rw [isDg]; omega) with ⟨z1, z2, z3⟩ | ⟨z1, z2, z3, z4⟩
                        · exact ⟨ri (by omega), (by rw [nuR]; omega), (fun k j hk => ((((τ28f k j (fun e => hk ((show ∀ x ∈ [19, 20], x ∈ [17, 18, 19, 20] by decide) k e))).trans (tf k j (fun e => hk ((show ∀ x ∈ [17, 19, 20], x ∈ [17, 18, 19, 20] by decide) k e)))).trans (τ4f k j (Or.inl (fun e => hk (by rw [e]; decide))))).trans (τ3f k j (fun e => hk ((show ∀ x ∈ [17], x ∈ [17, 18, 19, 20] by decide) k e)))))⟩
                        · omega
                        · omega
                        · exact ⟨ri (by omega), (by rw [nuR]; omega), (fun k j hk => ((((τ28f k j (fun e => hk ((show ∀ x ∈ [19, 20], x ∈ [17, 18, 19, 20] by decide) k e))).trans (tf k j (fun e => hk ((show ∀ x ∈ [17, 19, 20], x ∈ [17, 18, 19, 20] by decide) k e)))).trans (τ4f k j (Or.inl (fun e => hk (by rw [e]; decide))))).trans (τ3f k j (fun e => hk ((show ∀ x ∈ [17], x ∈ [17, 18, 19, 20] by decide) k e)))))⟩)
                · refine g_aload_n hΓ rfl dX3_number_90 ?_
                  refine m_geti hok hΓ 17 (by decide) rfl rfl q1374 rfl dX3_number_91 ?_
                  refine g_aload_n hΓ rfl dX3_number_94 ?_
                  refine m_geti hok hΓ 18 (by decide) rfl rfl q1375 rfl dX3_number_95 ?_
                  refine g_topi (((tf 18 0 (by decide)).trans τ4r)) ?_
                  refine g_isub hΓ dX3_number_98 ?_
                  refine g_iconst hΓ dX3_number_99 ?_
                  refine g_icmp_ne (tgt := 112) hΓ (by omega) (by omega) dX3_number_100 (by decide) (fun c31 => ?_) (fun c31 => ?_)
                  · refine g_bipush hΓ (by decide) dX3_number_112 ?_
                    refine g_iload_n hΓ rfl dX3_number_114 ?_
                    refine g_imul hΓ dX3_number_115 ?_
                    refine g_aload_n hΓ rfl dX3_number_116 ?_
                    refine g_aload_n hΓ rfl dX3_number_117 ?_
                    refine m_geti hok hΓ 17 (by decide) rfl rfl q1374 rfl dX3_number_118 ?_
                    refine m_callV (As := [.int (iI (t 17 0))]) (rest := [.int (iI (10 * v))]) hok hΓ (m_byteAt hok t (t 17 0) (by first | assumption | omega) (by first | assumption | omega)) rfl q1521 q1523 qs63 q131 q1524 ndX3_byteAt rfl (by decide) (by decide) rfl rfl (Nat.le_of_ble_eq_true rfl) dX3_number_121 rfl (fun v32 τ32 τ32h => ?_)
                    obtain ⟨rfl, τ32h⟩ := τ32h
                    rw [τ32h]
                    clear τ32h
                    show gW Γ E (mM E h ad t) 0 0 _ _ (.int (iI (bya t (t 17 0))) :: _)
                    refine g_iadd hΓ dX3_number_124 ?_
                    refine g_bipush hΓ (by decide) dX3_number_125 ?_
                    refine g_isub hΓ dX3_number_127 ?_
                    obtain ⟨x33, ex33⟩ : ∃ z9 : Int, z9 = ((10 * v) + (bya t (t 17 0))) - 48 := ⟨_, rfl⟩
                    refine g_topi ex33.symm ?_
                    refine g_istore_n hΓ dX3_number_128 rfl (Nat.le_of_ble_eq_true rfl) (lv' := [some (.ref h), some (.int (iI lo)), some (.int (iI hi)), some (.int (iI x33))]) rfl ?_
                    refine g_aload_n hΓ rfl dX3_number_129 ?_
                    refine g_dup hΓ rfl dX3_number_130 ?_
                    refine m_geti hok hΓ 17 (by decide) rfl rfl q1374 rfl dX3_number_131 ?_
                    refine g_iconst hΓ dX3_number_134 ?_
                    refine g_iadd hΓ dX3_number_135 ?_
                    refine m_puti hok hΓ 17 (by decide) rfl rfl q1374 rfl rfl rfl dX3_number_136 (fun τ34 τ34e => ?_)
                    have τ34r : τ34 17 0 = (t 17 0) + 1 := by rw [τ34e]; exact us_s _ _ _ _
                    have τ34f : ∀ (k9 : Nat) (j9 : Int), (k9 ≠ 17 ∨ j9 ≠ 0) → τ34 k9 j9 = t k9 j9 := fun k9 j9 hh => by rw [τ34e]; exact us_n hh
                    refine g_goto (tgt := 72) hΓ dX3_number_139 (by decide) ?_
                    exact ih_loop x33 (k + 1) τ34 (by omega) (by rw [τ34r]; omega) (((τ34f 18 0 (Or.inl (by decide)))).trans h18) (by
                        have y1 := (τ34f 19 0 (Or.inl (by decide)))
                        have y2 := (τ34f 20 0 (Or.inl (by decide)))
                        rcases hN with z | z
                        · omega
                        · right; omega) (by have z := nuI_s hI hbe.1 (by omega) (by rw [isDg]; omega); rw [show x33 = 10 * v + bya σ (hrS σ + k) - 48 by omega]; exact z) (fun k j hk => ((τ34f k j (Or.inl (fun e => hk (by rw [e]; decide))))).trans (tf k j hk))
                  · refine g_aload_n hΓ rfl dX3_number_103 ?_
                    refine g_iconst hΓ dX3_number_104 ?_
                    refine g_aload_n hΓ rfl dX3_number_105 ?_
                    refine m_geti hok hΓ 17 (by decide) rfl rfl q1374 rfl dX3_number_106 ?_
                    refine m_callV (As := [.int (iI 1), .int (iI (t 17 0))]) (rest := []) hok hΓ (m_faults hok t 1 (t 17 0) (by first | assumption | omega)) rfl q1525 q1527 qs64 q131 q1528 ndX3_faults rfl (by decide) (by decide) rfl rfl (Nat.le_of_ble_eq_true rfl) dX3_number_109 rfl (fun v35 τ35 τ35h => ?_)
                    obtain ⟨rfl, τ35h, τ35f⟩ := τ35h
                    have τ3511 : τ35 11 = σ 11 := funext fun j => ((((τ35f 11 j (by decide)).trans (tf 11 j (by decide))).trans (τ4f 11 j (Or.inl (by decide)))).trans (τ3f 11 j (by decide)))
                    have τ3516 : τ35 16 0 = σ 16 0 := ((((τ35f 16 0 (by decide)).trans (tf 16 0 (by decide))).trans (τ4f 16 0 (Or.inl (by decide)))).trans (τ3f 16 0 (by decide)))
                    have τ35b := bya_of τ3511 τ3516
                    have τ35z : 0 ≤ τ35 16 0 ∧ τ35 16 0 ≤ 1600 := by rw [τ3516]; exact hz
                    have τ35t : ∀ j, 0 ≤ j → j < 1600 → 0 ≤ τ35 11 j ∧ τ35 11 j < 256 := by rw [τ3511]; exact htp
                    have τ35b0 : bya τ35 (t 17 0) = bya σ (hrS σ + k) := by rw [τ35b, h17]
                    refine g_bipush hΓ (by decide) dX3_number_112 ?_
                    refine g_iload_n hΓ rfl dX3_number_114 ?_
                    refine g_imul hΓ dX3_number_115 ?_
                    refine g_aload_n hΓ rfl dX3_number_116 ?_
                    refine g_aload_n hΓ rfl dX3_number_117 ?_
                    refine m_geti hok hΓ 17 (by decide) rfl rfl q1374 rfl dX3_number_118 ?_
                    refine g_topi ((τ35f 17 0 (by decide))) ?_
                    refine m_callV (As := [.int (iI (t 17 0))]) (rest := [.int (iI (10 * v))]) hok hΓ (m_byteAt hok τ35 (t 17 0) (by first | assumption | omega) (by first | assumption | omega)) rfl q1521 q1523 qs63 q131 q1524 ndX3_byteAt rfl (by decide) (by decide) rfl rfl (Nat.le_of_ble_eq_true rfl) dX3_number_121 rfl (fun v36 τ36 τ36h => ?_)
                    obtain ⟨rfl, τ36h⟩ := τ36h
                    rw [τ36h]
                    clear τ36h
                    show gW Γ E (mM E h ad τ35) 0 0 _ _ (.int (iI (bya τ35 (t 17 0))) :: _)
                    refine g_iadd hΓ dX3_number_124 ?_
                    refine g_bipush hΓ (by decide) dX3_number_125 ?_
                    refine g_isub hΓ dX3_number_127 ?_
                    obtain ⟨x37, ex37⟩ : ∃ z9 : Int, z9 = ((10 * v) + (bya τ35 (t 17 0))) - 48 := ⟨_, rfl⟩
                    refine g_topi ex37.symm ?_
                    refine g_istore_n hΓ dX3_number_128 rfl (Nat.le_of_ble_eq_true rfl) (lv' := [some (.ref h), some (.int (iI lo)), some (.int (iI hi)), some (.int (iI x37))]) rfl ?_
                    refine g_aload_n hΓ rfl dX3_number_129 ?_
                    refine g_dup hΓ rfl dX3_number_130 ?_
                    refine m_geti hok hΓ 17 (by decide) rfl rfl q1374 rfl dX3_number_131 ?_
                    refine g_topi ((τ35f 17 0 (by decide))) ?_
                    refine g_iconst hΓ dX3_number_134 ?_
                    refine g_iadd hΓ dX3_number_135 ?_
                    refine m_puti hok hΓ 17 (by decide) rfl rfl q1374 rfl rfl rfl dX3_number_136 (fun τ38 τ38e => ?_)
                    have τ38r : τ38 17 0 = (t 17 0) + 1 := by rw [τ38e]; exact us_s _ _ _ _
                    have τ38f : ∀ (k9 : Nat) (j9 : Int), (k9 ≠ 17 ∨ j9 ≠ 0) → τ38 k9 j9 = τ35 k9 j9 := fun k9 j9 hh => by rw [τ38e]; exact us_n hh
                    refine g_goto (tgt := 72) hΓ dX3_number_139 (by decide) ?_
                    exact ih_loop x37 (k + 1) τ38 (by omega) (by rw [τ38r]; omega) ((((τ38f 18 0 (Or.inl (by decide))).trans (τ35f 18 0 (by decide)))).trans h18) (by
                        have y1 := τ38f 19 0 (Or.inl (by decide))
                        have y2 := τ38f 20 0 (Or.inl (by decide))
                        rcases hN with z | z
                        · omega
                        · have y3 := τ35h.1
                          have y4 := τ35h.2
                          rw [if_pos (by omega)] at y3 y4
                          left; omega) (by have z := nuI_s hI hbe.1 (by omega) (by rw [isDg]; omega); rw [show x37 = 10 * v + bya σ (hrS σ + k) - 48 by omega]; exact z) (fun k j hk => (((τ38f k j (Or.inl (fun e => hk (by rw [e]; decide)))).trans (τ35f k j (fun e => hk ((show ∀ x ∈ [19, 20], x ∈ [17, 19, 20] by decide) k e))))).trans (tf k j hk))
          exact loop 4 0 0 τ4 (by omega) (by omega) h418 (Or.inr (by omega)) (Or.inl ⟨rfl, rfl⟩) (fun k j _ => rfl)
        · refine g_aload_n hΓ rfl dX3_number_59 ?_
          refine g_iconst hΓ dX3_number_60 ?_
          refine g_aload_n hΓ rfl dX3_number_61 ?_
          refine m_geti hok hΓ 17 (by decide) rfl rfl q1374 rfl dX3_number_62 ?_
          refine g_topi ((τ4f 17 0 (Or.inl (by decide)))) ?_
          refine m_callV (As := [.int (iI 1), .int (iI (τ3 17 0))]) (rest := []) hok hΓ (m_faults hok τ4 1 (τ3 17 0) (by first | assumption | omega)) rfl q1525 q1527 qs64 q131 q1528 ndX3_faults rfl (by decide) (by decide) rfl rfl (Nat.le_of_ble_eq_true rfl) dX3_number_65 rfl (fun v39 τ39 τ39h => ?_)
          obtain ⟨rfl, τ39h, τ39f⟩ := τ39h
          refine g_iconst hΓ dX3_number_68 ?_
          exact m_iret hΓ dX3_number_69 (by
            have hbe : ¬ beW isDg σ (hrS σ) := by rw [beW, isDg, isSl, isDg]; omega
            have hK : nuK σ lo hi = 1 := by rw [nuK, if_neg (by omega), if_pos hbe]
            have y3 := τ39h.1
            have y4 := τ39h.2
            have y1 : τ39 17 0 = τ3 17 0 := ((τ39f 17 0 (by decide)).trans (τ4f 17 0 (Or.inl (by decide))))
            have y2 : τ39 18 0 = τ3 17 0 := (τ39f 18 0 (by decide)).trans τ4r
            exact ⟨ri (by omega), (by rw [nuR]; omega), (fun k j hk => (((τ39f k j (fun e => hk ((show ∀ x ∈ [19, 20], x ∈ [17, 18, 19, 20] by decide) k e))).trans (τ4f k j (Or.inl (fun e => hk (by rw [e]; decide))))).trans (τ3f k j (fun e => hk ((show ∀ x ∈ [17], x ∈ [17, 18, 19, 20] by decide) k e)))))⟩)
  · refine g_iconst hΓ dX3_number_7 ?_
    exact m_iret hΓ dX3_number_8 (by
      have hK : nuK σ lo hi = 0 := by rw [nuK, if_pos (by assumption)]
      exact ⟨ri (by omega), (by rw [nuR]; omega), (fun k j hk => rfl)⟩)
