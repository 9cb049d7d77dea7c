set_option maxRecDepth 100000
set_option maxHeartbeats 4000000 in
theorem m_readsSet {l : Launch} {E : gE} {h : Nat} {ad : Nat → Nat} (hok : mOK E h ad) (σ : mS)   (hz : 0 ≤ σ 16 0 ∧ σ 16 0 ≤ 1600) (htp : ∀ j, 0 ≤ j → j < 1600 → 0 ≤ σ 11 j ∧ σ 11 j < 256) (hat : 0 ≤ σ 17 0 ∧ σ 17 0 ≤ σ 16 0) (hf : 0 ≤ σ 18 0 ∧ σ 18 0 ≤ σ 17 0) (hw : 0 ≤ σ 19 0 ∧ σ 19 0 ≤ 5) (ho : ownOK σ) : mC l E h ad yX3_readsSet cX3_readsSet 3 none 3 [.ref h] σ (fun rv σ' => rv = none ∧ (pEq σ' (rsT σ)) ∧ ∀ (k : Nat) (j : Int), k ∉ [1, 17, 18, 19, 20] → σ' k j = σ k j) := by
  refine mC.of (by decide) [some (.ref h), none, none] (Nat.le_of_ble_eq_true rfl) rfl rfl (fun Γ hΓ => ?_)
  refine g_aload_n hΓ rfl dX3_readsSet_0 ?_
  refine m_callV (As := []) (rest := []) hok hΓ (m_word hok σ  (by first | assumption | omega) (by first | assumption | omega) (by first | assumption | omega) (by first | assumption | omega)) rfl q1529 q1531 qs65 q131 q1532 ndX3_word rfl (by decide) (by decide) rfl rfl (Nat.le_of_ble_eq_true rfl) dX3_readsSet_1 rfl (fun v1 τ1 τ1h => ?_)
  obtain ⟨rfl, τ1h, τ1f⟩ := τ1h
  have τ111 : τ1 11 = σ 11 := funext fun j => (τ1f 11 j (by decide))
  have τ116 : τ1 16 0 = σ 16 0 := (τ1f 16 0 (by decide))
  have τ1b := bya_of τ111 τ116
  have τ1z : 0 ≤ τ1 16 0 ∧ τ1 16 0 ≤ 1600 := by rw [τ116]; exact hz
  have τ1t : ∀ j, 0 ≤ j → j < 1600 → 0 ≤ τ1 11 j ∧ τ1 11 j < 256 := by rw [τ111]; exact htp
  have τ1o : ownOK τ1 := by
    have z : τ1 21 = σ 21 := funext fun j => (τ1f 21 j (by decide))
    rw [ownOK, z]; exact ho
  have hwr := wdS_r hat hf hw
  obtain ⟨τ117, τ118, τ119, τ120⟩ := τ1h
  have hE : pEq τ1 (wdT σ) := pzT_eq τ111 (funext fun j => (τ1f 21 j (by decide))) (funext fun j => (τ1f 1 j (by decide))) τ116 ⟨τ117, τ118, τ119, τ120⟩
  have hso := sp_own_of hE
  have hsr := sp_own_r (wdT σ)
  refine g_aload_n hΓ rfl dX3_readsSet_4 ?_
  refine m_callV (As := []) (rest := []) hok hΓ (m_goesWell hok τ1  (by first | assumption | omega)) rfl q1513 q1515 qs61 q131 q1516 ndX3_goesWell rfl (by decide) (by decide) rfl rfl (Nat.le_of_ble_eq_true rfl) dX3_readsSet_5 rfl (fun v2 τ2 τ2h => ?_)
  obtain ⟨rfl, τ2h⟩ := τ2h
  rw [τ2h]
  clear τ2h
  show gW Γ E (mM E h ad τ1) 0 0 _ _ (.int (iI (if τ1 19 0 = 0 then 1 else 0)) :: _)
  refine g_ifB_eq (tgt := 18) hΓ  dX3_readsSet_8 (by decide) (fun c3 => ?_) (fun c3 => ?_)
  · refine g_iconst hΓ dX3_readsSet_18 ?_
    refine g_istore_n hΓ dX3_readsSet_19 rfl (Nat.le_of_ble_eq_true rfl) (lv' := [some (.ref h), some (.int (iI (-1))), none]) rfl ?_
    refine g_aload_n hΓ rfl dX3_readsSet_20 ?_
    refine m_callV (As := []) (rest := []) hok hΓ (m_goesWell hok τ1  (by first | assumption | omega)) rfl q1513 q1515 qs61 q131 q1516 ndX3_goesWell rfl (by decide) (by decide) rfl rfl (Nat.le_of_ble_eq_true rfl) dX3_readsSet_21 rfl (fun v4 τ4 τ4h => ?_)
    obtain ⟨rfl, τ4h⟩ := τ4h
    rw [τ4h]
    clear τ4h
    show gW Γ E (mM E h ad τ1) 0 0 _ _ (.int (iI (if τ1 19 0 = 0 then 1 else 0)) :: _)
    refine g_ifB_eq (tgt := 46) hΓ  dX3_readsSet_24 (by decide) (fun c5 => ?_) (fun c5 => ?_)
    · refine g_aload_n hΓ rfl dX3_readsSet_46 ?_
      refine m_callV (As := []) (rest := []) hok hΓ (m_goesWell hok τ1  (by first | assumption | omega)) rfl q1513 q1515 qs61 q131 q1516 ndX3_goesWell rfl (by decide) (by decide) rfl rfl (Nat.le_of_ble_eq_true rfl) dX3_readsSet_47 rfl (fun v6 τ6 τ6h => ?_)
      obtain ⟨rfl, τ6h⟩ := τ6h
      rw [τ6h]
      clear τ6h
      show gW Γ E (mM E h ad τ1) 0 0 _ _ (.int (iI (if τ1 19 0 = 0 then 1 else 0)) :: _)
      refine g_ifB_ne (tgt := 54) hΓ  dX3_readsSet_50 (by decide) (fun c7 => ?_) (fun c7 => ?_)
      · have hlo : 0 ≤ lowF ((-1) - 1) ∧ lowF ((-1) - 1) ≤ 4 := by rw [lowF]; omega
        have hhi : 0 ≤ hghF ((-1) - 1) ∧ hghF ((-1) - 1) ≤ 99 := by rw [hghF]; omega
        refine g_aload_n hΓ rfl dX3_readsSet_54 ?_
        refine g_iload_n hΓ rfl dX3_readsSet_55 ?_
        refine g_iconst hΓ dX3_readsSet_56 ?_
        refine g_isub hΓ dX3_readsSet_57 ?_
        refine g_topi (show ((-1) - 1 : Int) = (-2) by decide) ?_
        refine m_callS (As := [.int (iI (-2))]) (rest := [.ref h]) hok hΓ (m_lowOf hok τ1 (-2) (by first | assumption | omega)) rfl q1552 q1553 q131 q1554 ndX3_lowOf rfl (by decide) (by decide) rfl (Nat.le_of_ble_eq_true rfl) dX3_readsSet_58 rfl (fun v8 τ8 τ8h => ?_)
        obtain ⟨rfl, τ8h⟩ := τ8h
        rw [τ8h]
        clear τ8h
        show gW Γ E (mM E h ad τ1) 0 0 _ _ (.int (iI (lowF (-2))) :: _)
        refine g_iload_n hΓ rfl dX3_readsSet_61 ?_
        refine g_iconst hΓ dX3_readsSet_62 ?_
        refine g_isub hΓ dX3_readsSet_63 ?_
        refine g_topi (show ((-1) - 1 : Int) = (-2) by decide) ?_
        refine m_callS (As := [.int (iI (-2))]) (rest := [.int (iI (lowF (-2))), .ref h]) hok hΓ (m_highOf hok τ1 (-2) (by first | assumption | omega)) rfl q1555 q1556 q131 q1557 ndX3_highOf rfl (by decide) (by decide) rfl (Nat.le_of_ble_eq_true rfl) dX3_readsSet_64 rfl (fun v9 τ9 τ9h => ?_)
        obtain ⟨rfl, τ9h⟩ := τ9h
        rw [τ9h]
        clear τ9h
        show gW Γ E (mM E h ad τ1) 0 0 _ _ (.int (iI (hghF (-2))) :: _)
        refine m_callV (As := [.int (iI (lowF (-2))), .int (iI (hghF (-2)))]) (rest := []) hok hΓ (m_number hok τ1 (lowF (-2)) (hghF (-2)) (by first | assumption | omega) (by first | assumption | omega) (by first | assumption | omega) (by first | assumption | omega) (by first | assumption | omega) (by first | assumption | omega)) rfl q1558 q1560 qs70 q131 q1561 ndX3_number rfl (by decide) (by decide) rfl rfl (Nat.le_of_ble_eq_true rfl) dX3_readsSet_67 rfl (fun v10 τ10 τ10h => ?_)
        obtain ⟨rfl, τ10h, τ10f⟩ := τ10h
        show gW Γ E (mM E h ad τ10) 0 0 _ _ (.int (iI (if nuK τ1 (lowF (-2)) (hghF (-2)) = 4 then nuV τ1 (hrS τ1) else 0)) :: _)
        obtain ⟨x11, ex11⟩ : ∃ z9 : Int, z9 = if nuK τ1 (lowF (-2)) (hghF (-2)) = 4 then nuV τ1 (hrS τ1) else 0 := ⟨_, rfl⟩
        refine g_topi ex11.symm ?_
        refine g_istore_n hΓ dX3_readsSet_70 rfl (Nat.le_of_ble_eq_true rfl) (lv' := [some (.ref h), some (.int (iI (-1))), some (.int (iI x11))]) rfl ?_
        obtain ⟨τ1017, τ1018, τ1019, τ1020⟩ := id τ10h
        refine g_aload_n hΓ rfl dX3_readsSet_71 ?_
        refine m_callV (As := []) (rest := []) hok hΓ (m_goesWell hok τ10  (by first | assumption | omega)) rfl q1513 q1515 qs61 q131 q1516 ndX3_goesWell rfl (by decide) (by decide) rfl rfl (Nat.le_of_ble_eq_true rfl) dX3_readsSet_72 rfl (fun v12 τ12 τ12h => ?_)
        obtain ⟨rfl, τ12h⟩ := τ12h
        rw [τ12h]
        clear τ12h
        show gW Γ E (mM E h ad τ10) 0 0 _ _ (.int (iI (if τ10 19 0 = 0 then 1 else 0)) :: _)
        refine g_ifB_eq (tgt := 91) hΓ  dX3_readsSet_75 (by decide) (fun c13 => ?_) (fun c13 => ?_)
        · exact m_vret hΓ dX3_readsSet_91 (by first | (exfalso; omega) | exact ⟨rfl, (by
              have hx : (-1) = sp_own (wdT σ) := by omega
              have hK := nuK_of hE (lowF ((-1) - 1)) (hghF ((-1) - 1))
              have hP : pEq τ10 (pzT (wdT σ) (nuX (wdT σ) (lowF ((-1) - 1)) (hghF ((-1) - 1)))) := pzT_eq (by rw [show τ10 11 = τ1 11 from funext fun j => τ10f 11 j (by decide)]; exact hE.1) (by rw [show τ10 21 = τ1 21 from funext fun j => τ10f 21 j (by decide)]; exact hE.2.1) (by rw [show τ10 1 = τ1 1 from funext fun j => τ10f 1 j (by decide)]; exact hE.2.2.1) ((τ10f 16 0 (by decide)).trans hE.2.2.2.1) (by rw [← nuX_of hE]; exact nuR_X τ10h)
              have hKr := nuK_r τ1 (lowF ((-1) - 1)) (hghF ((-1) - 1))
              rw [rsT, if_pos (by omega), if_pos (by omega), loO, hiO, ← hx]
              rw [if_neg (by omega)]
              exact hP), (fun k j hk => ((τ10f k j (fun e => hk ((show ∀ x ∈ [17, 18, 19, 20], x ∈ [1, 17, 18, 19, 20] by decide) k e))).trans (τ1f k j (fun e => hk ((show ∀ x ∈ [17, 18, 19, 20], x ∈ [1, 17, 18, 19, 20] by decide) k e)))))⟩)
        · refine g_aload_n hΓ rfl dX3_readsSet_78 ?_
          refine m_geta hok hΓ 1 (by decide) rfl rfl q1358 rfl dX3_readsSet_79 ?_
          refine g_sipush hΓ (by decide) dX3_readsSet_82 ?_
          refine g_iload_n hΓ rfl dX3_readsSet_85 ?_
          refine g_iadd hΓ dX3_readsSet_86 ?_
          refine g_topi (show (1042 + (-1) : Int) = 1041 by decide) ?_
          refine g_iconst hΓ dX3_readsSet_87 ?_
          refine g_isub hΓ dX3_readsSet_88 ?_
          refine g_topi (show (1041 - 1 : Int) = 1040 by decide) ?_
          refine g_iload_n hΓ rfl dX3_readsSet_89 ?_
          refine m_ast hok hΓ 1 (by decide) rfl (n := 1048) rfl (by omega) (by decide) dX3_readsSet_90 (fun τ14 τ14e => ?_)
          have τ14r : τ14 1 1040 = x11 := by rw [τ14e]; exact us_s _ _ _ _
          have τ14f : ∀ (k9 : Nat) (j9 : Int), (k9 ≠ 1 ∨ j9 ≠ 1040) → τ14 k9 j9 = τ10 k9 j9 := fun k9 j9 hh => by rw [τ14e]; exact us_n hh
          exact m_vret hΓ dX3_readsSet_91 (by first | (exfalso; omega) | exact ⟨rfl, (by
              have hx : (-1) = sp_own (wdT σ) := by omega
              have hK := nuK_of hE (lowF ((-1) - 1)) (hghF ((-1) - 1))
              have hP : pEq τ10 (pzT (wdT σ) (nuX (wdT σ) (lowF ((-1) - 1)) (hghF ((-1) - 1)))) := pzT_eq (by rw [show τ10 11 = τ1 11 from funext fun j => τ10f 11 j (by decide)]; exact hE.1) (by rw [show τ10 21 = τ1 21 from funext fun j => τ10f 21 j (by decide)]; exact hE.2.1) (by rw [show τ10 1 = τ1 1 from funext fun j => τ10f 1 j (by decide)]; exact hE.2.2.1) ((τ10f 16 0 (by decide)).trans hE.2.2.2.1) (by rw [← nuX_of hE]; exact nuR_X τ10h)
              have hKr := nuK_r τ1 (lowF ((-1) - 1)) (hghF ((-1) - 1))
              rw [rsT, if_pos (by omega), if_pos (by omega), loO, hiO, ← hx]
              rw [if_pos (by omega), ← nuV_of hE, ← hrS_of hE, τ14e, show x11 = nuV τ1 (hrS τ1) by omega]
              exact pEq_us1 hP _ _), (fun k j hk => (((τ14f k j (Or.inl (fun e => hk (by rw [e]; decide)))).trans (τ10f k j (fun e => hk ((show ∀ x ∈ [17, 18, 19, 20], x ∈ [1, 17, 18, 19, 20] by decide) k e)))).trans (τ1f k j (fun e => hk ((show ∀ x ∈ [17, 18, 19, 20], x ∈ [1, 17, 18, 19, 20] by decide) k e)))))⟩)
      · exact m_vret hΓ dX3_readsSet_53 (by first | (exfalso; omega) | exact ⟨rfl, (by rw [rsT, if_neg (by omega)]; exact hE), (fun k j hk => (τ1f k j (fun e => hk ((show ∀ x ∈ [17, 18, 19, 20], x ∈ [1, 17, 18, 19, 20] by decide) k e))))⟩)
    · refine g_iload_n hΓ rfl dX3_readsSet_27 ?_
      refine g_iconst hΓ dX3_readsSet_28 ?_
      refine g_bipush hΓ (by decide) dX3_readsSet_29 ?_
      refine m_callS (As := [.int (iI (-1)), .int (iI 1), .int (iI 6)]) (rest := []) hok hΓ (m_isIn hok τ1 (-1) 1 6 (by first | assumption | omega) (by first | assumption | omega) (by first | assumption | omega)) rfl q1549 q1550 q131 q1551 ndX3_isIn rfl (by decide) (by decide) rfl (Nat.le_of_ble_eq_true rfl) dX3_readsSet_31 rfl (fun v15 τ15 τ15h => ?_)
      obtain ⟨rfl, τ15h⟩ := τ15h
      rw [τ15h]
      clear τ15h
      show gW Γ E (mM E h ad τ1) 0 0 _ _ (.int (iI (if 1 ≤ (-1) ∧ (-1) ≤ 6 then 1 else 0)) :: _)
      refine g_ifB_ne (tgt := 46) hΓ  dX3_readsSet_34 (by decide) (fun c16 => ?_) (fun c16 => ?_)
      · refine g_aload_n hΓ rfl dX3_readsSet_46 ?_
        refine m_callV (As := []) (rest := []) hok hΓ (m_goesWell hok τ1  (by first | assumption | omega)) rfl q1513 q1515 qs61 q131 q1516 ndX3_goesWell rfl (by decide) (by decide) rfl rfl (Nat.le_of_ble_eq_true rfl) dX3_readsSet_47 rfl (fun v17 τ17 τ17h => ?_)
        obtain ⟨rfl, τ17h⟩ := τ17h
        rw [τ17h]
        clear τ17h
        show gW Γ E (mM E h ad τ1) 0 0 _ _ (.int (iI (if τ1 19 0 = 0 then 1 else 0)) :: _)
        refine g_ifB_ne (tgt := 54) hΓ  dX3_readsSet_50 (by decide) (fun c18 => ?_) (fun c18 => ?_)
        · have hlo : 0 ≤ lowF ((-1) - 1) ∧ lowF ((-1) - 1) ≤ 4 := by rw [lowF]; omega
          have hhi : 0 ≤ hghF ((-1) - 1) ∧ hghF ((-1) - 1) ≤ 99 := by rw [hghF]; omega
          refine g_aload_n hΓ rfl dX3_readsSet_54 ?_
          refine g_iload_n hΓ rfl dX3_readsSet_55 ?_
          refine g_iconst hΓ dX3_readsSet_56 ?_
          refine g_isub hΓ dX3_readsSet_57 ?_
          refine g_topi (show ((-1) - 1 : Int) = (-2) by decide) ?_
          refine m_callS (As := [.int (iI (-2))]) (rest := [.ref h]) hok hΓ (m_lowOf hok τ1 (-2) (by first | assumption | omega)) rfl q1552 q1553 q131 q1554 ndX3_lowOf rfl (by decide) (by decide) rfl (Nat.le_of_ble_eq_true rfl) dX3_readsSet_58 rfl (fun v19 τ19 τ19h => ?_)
          obtain ⟨rfl, τ19h⟩ := τ19h
          rw [τ19h]
          clear τ19h
          show gW Γ E (mM E h ad τ1) 0 0 _ _ (.int (iI (lowF (-2))) :: _)
          refine g_iload_n hΓ rfl dX3_readsSet_61 ?_
          refine g_iconst hΓ dX3_readsSet_62 ?_
          refine g_isub hΓ dX3_readsSet_63 ?_
          refine g_topi (show ((-1) - 1 : Int) = (-2) by decide) ?_
          refine m_callS (As := [.int (iI (-2))]) (rest := [.int (iI (lowF (-2))), .ref h]) hok hΓ (m_highOf hok τ1 (-2) (by first | assumption | omega)) rfl q1555 q1556 q131 q1557 ndX3_highOf rfl (by decide) (by decide) rfl (Nat.le_of_ble_eq_true rfl) dX3_readsSet_64 rfl (fun v20 τ20 τ20h => ?_)
          obtain ⟨rfl, τ20h⟩ := τ20h
          rw [τ20h]
          clear τ20h
          show gW Γ E (mM E h ad τ1) 0 0 _ _ (.int (iI (hghF (-2))) :: _)
          refine m_callV (As := [.int (iI (lowF (-2))), .int (iI (hghF (-2)))]) (rest := []) hok hΓ (m_number hok τ1 (lowF (-2)) (hghF (-2)) (by first | assumption | omega) (by first | assumption | omega) (by first | assumption | omega) (by first | assumption | omega) (by first | assumption | omega) (by first | assumption | omega)) rfl q1558 q1560 qs70 q131 q1561 ndX3_number rfl (by decide) (by decide) rfl rfl (Nat.le_of_ble_eq_true rfl) dX3_readsSet_67 rfl (fun v21 τ21 τ21h => ?_)
          obtain ⟨rfl, τ21h, τ21f⟩ := τ21h
          show gW Γ E (mM E h ad τ21) 0 0 _ _ (.int (iI (if nuK τ1 (lowF (-2)) (hghF (-2)) = 4 then nuV τ1 (hrS τ1) else 0)) :: _)
          obtain ⟨x22, ex22⟩ : ∃ z9 : Int, z9 = if nuK τ1 (lowF (-2)) (hghF (-2)) = 4 then nuV τ1 (hrS τ1) else 0 := ⟨_, rfl⟩
          refine g_topi ex22.symm ?_
          refine g_istore_n hΓ dX3_readsSet_70 rfl (Nat.le_of_ble_eq_true rfl) (lv' := [some (.ref h), some (.int (iI (-1))), some (.int (iI x22))]) rfl ?_
          obtain ⟨τ2117, τ2118, τ2119, τ2120⟩ := id τ21h
          refine g_aload_n hΓ rfl dX3_readsSet_71 ?_
          refine m_callV (As := []) (rest := []) hok hΓ (m_goesWell hok τ21  (by first | assumption | omega)) rfl q1513 q1515 qs61 q131 q1516 ndX3_goesWell rfl (by decide) (by decide) rfl rfl (Nat.le_of_ble_eq_true rfl) dX3_readsSet_72 rfl (fun v23 τ23 τ23h => ?_)
          obtain ⟨rfl, τ23h⟩ := τ23h
          rw [τ23h]
          clear τ23h
          show gW Γ E (mM E h ad τ21) 0 0 _ _ (.int (iI (if τ21 19 0 = 0 then 1 else 0)) :: _)
          refine g_ifB_eq (tgt := 91) hΓ  dX3_readsSet_75 (by decide) (fun c24 => ?_) (fun c24 => ?_)
          · exact m_vret hΓ dX3_readsSet_91 (by first | (exfalso; omega) | exact ⟨rfl, (by
                have hx : (-1) = sp_own (wdT σ) := by omega
                have hK := nuK_of hE (lowF ((-1) - 1)) (hghF ((-1) - 1))
                have hP : pEq τ21 (pzT (wdT σ) (nuX (wdT σ) (lowF ((-1) - 1)) (hghF ((-1) - 1)))) := pzT_eq (by rw [show τ21 11 = τ1 11 from funext fun j => τ21f 11 j (by decide)]; exact hE.1) (by rw [show τ21 21 = τ1 21 from funext fun j => τ21f 21 j (by decide)]; exact hE.2.1) (by rw [show τ21 1 = τ1 1 from funext fun j => τ21f 1 j (by decide)]; exact hE.2.2.1) ((τ21f 16 0 (by decide)).trans hE.2.2.2.1) (by rw [← nuX_of hE]; exact nuR_X τ21h)
                have hKr := nuK_r τ1 (lowF ((-1) - 1)) (hghF ((-1) - 1))
                rw [rsT, if_pos (by omega), if_pos (by omega), loO, hiO, ← hx]
                rw [if_neg (by omega)]
                exact hP), (fun k j hk => ((τ21f k j (fun e => hk ((show ∀ x ∈ [17, 18, 19, 20], x ∈ [1, 17, 18, 19, 20] by decide) k e))).trans (τ1f k j (fun e => hk ((show ∀ x ∈ [17, 18, 19, 20], x ∈ [1, 17, 18, 19, 20] by decide) k e)))))⟩)
          · refine g_aload_n hΓ rfl dX3_readsSet_78 ?_
            refine m_geta hok hΓ 1 (by decide) rfl rfl q1358 rfl dX3_readsSet_79 ?_
            refine g_sipush hΓ (by decide) dX3_readsSet_82 ?_
            refine g_iload_n hΓ rfl dX3_readsSet_85 ?_
            refine g_iadd hΓ dX3_readsSet_86 ?_
            refine g_topi (show (1042 + (-1) : Int) = 1041 by decide) ?_
            refine g_iconst hΓ dX3_readsSet_87 ?_
            refine g_isub hΓ dX3_readsSet_88 ?_
            refine g_topi (show (1041 - 1 : Int) = 1040 by decide) ?_
            refine g_iload_n hΓ rfl dX3_readsSet_89 ?_
            refine m_ast hok hΓ 1 (by decide) rfl (n := 1048) rfl (by omega) (by decide) dX3_readsSet_90 (fun τ25 τ25e => ?_)
            have τ25r : τ25 1 1040 = x22 := by rw [τ25e]; exact us_s _ _ _ _
            have τ25f : ∀ (k9 : Nat) (j9 : Int), (k9 ≠ 1 ∨ j9 ≠ 1040) → τ25 k9 j9 = τ21 k9 j9 := fun k9 j9 hh => by rw [τ25e]; exact us_n hh
            exact m_vret hΓ dX3_readsSet_91 (by first | (exfalso; omega) | exact ⟨rfl, (by
                have hx : (-1) = sp_own (wdT σ) := by omega
                have hK := nuK_of hE (lowF ((-1) - 1)) (hghF ((-1) - 1))
                have hP : pEq τ21 (pzT (wdT σ) (nuX (wdT σ) (lowF ((-1) - 1)) (hghF ((-1) - 1)))) := pzT_eq (by rw [show τ21 11 = τ1 11 from funext fun j => τ21f 11 j (by decide)]; exact hE.1) (by rw [show τ21 21 = τ1 21 from funext fun j => τ21f 21 j (by decide)]; exact hE.2.1) (by rw [show τ21 1 = τ1 1 from funext fun j => τ21f 1 j (by decide)]; exact hE.2.2.1) ((τ21f 16 0 (by decide)).trans hE.2.2.2.1) (by rw [← nuX_of hE]; exact nuR_X τ21h)
                have hKr := nuK_r τ1 (lowF ((-1) - 1)) (hghF ((-1) - 1))
                rw [rsT, if_pos (by omega), if_pos (by omega), loO, hiO, ← hx]
                rw [if_pos (by omega), ← nuV_of hE, ← hrS_of hE, τ25e, show x22 = nuV τ1 (hrS τ1) by omega]
                exact pEq_us1 hP _ _), (fun k j hk => (((τ25f k j (Or.inl (fun e => hk (by rw [e]; decide)))).trans (τ21f k j (fun e => hk ((show ∀ x ∈ [17, 18, 19, 20], x ∈ [1, 17, 18, 19, 20] by decide) k e)))).trans (τ1f k j (fun e => hk ((show ∀ x ∈ [17, 18, 19, 20], x ∈ [1, 17, 18, 19, 20] by decide) k e)))))⟩)
        · exact m_vret hΓ dX3_readsSet_53 (by first | (exfalso; omega) | exact ⟨rfl, (by rw [rsT, if_neg (by omega)]; exact hE), (fun k j hk => (τ1f k j (fun e => hk ((show ∀ x ∈ [17, 18, 19, 20], x ∈ [1, 17, 18, 19, 20] by decide) k e))))⟩)
      · refine g_aload_n hΓ rfl dX3_readsSet_37 ?_
        refine g_iconst hΓ dX3_readsSet_38 ?_
        refine g_aload_n hΓ rfl dX3_readsSet_39 ?_
        refine m_geti hok hΓ 18 (by decide) rfl rfl q1375 rfl dX3_readsSet_40 ?_
        refine m_callV (As := [.int (iI 1), .int (iI (τ1 18 0))]) (rest := []) hok hΓ (m_faults hok τ1 1 (τ1 18 0) (by first | assumption | omega)) rfl q1525 q1527 qs64 q131 q1528 ndX3_faults rfl (by decide) (by decide) rfl rfl (Nat.le_of_ble_eq_true rfl) dX3_readsSet_43 rfl (fun v26 τ26 τ26h => ?_)
        obtain ⟨rfl, τ26h, τ26f⟩ := τ26h
        refine g_aload_n hΓ rfl dX3_readsSet_46 ?_
        refine m_callV (As := []) (rest := []) hok hΓ (m_goesWell hok τ26  (by first | assumption | omega)) rfl q1513 q1515 qs61 q131 q1516 ndX3_goesWell rfl (by decide) (by decide) rfl rfl (Nat.le_of_ble_eq_true rfl) dX3_readsSet_47 rfl (fun v27 τ27 τ27h => ?_)
        obtain ⟨rfl, τ27h⟩ := τ27h
        rw [τ27h]
        clear τ27h
        show gW Γ E (mM E h ad τ26) 0 0 _ _ (.int (iI (if τ26 19 0 = 0 then 1 else 0)) :: _)
        refine g_ifB_ne (tgt := 54) hΓ  dX3_readsSet_50 (by decide) (fun c28 => ?_) (fun c28 => ?_)
        · have hlo : 0 ≤ lowF ((-1) - 1) ∧ lowF ((-1) - 1) ≤ 4 := by rw [lowF]; omega
          have hhi : 0 ≤ hghF ((-1) - 1) ∧ hghF ((-1) - 1) ≤ 99 := by rw [hghF]; omega
          refine g_aload_n hΓ rfl dX3_readsSet_54 ?_
          refine g_iload_n hΓ rfl dX3_readsSet_55 ?_
          refine g_iconst hΓ dX3_readsSet_56 ?_
          refine g_isub hΓ dX3_readsSet_57 ?_
          refine g_topi (show ((-1) - 1 : Int) = (-2) by decide) ?_
          refine m_callS (As := [.int (iI (-2))]) (rest := [.ref h]) hok hΓ (m_lowOf hok τ26 (-2) (by first | assumption | omega)) rfl q1552 q1553 q131 q1554 ndX3_lowOf rfl (by decide) (by decide) rfl (Nat.le_of_ble_eq_true rfl) dX3_readsSet_58 rfl (fun v29 τ29 τ29h => ?_)
          obtain ⟨rfl, τ29h⟩ := τ29h
          rw [τ29h]
          clear τ29h
          show gW Γ E (mM E h ad τ26) 0 0 _ _ (.int (iI (lowF (-2))) :: _)
          refine g_iload_n hΓ rfl dX3_readsSet_61 ?_
          refine g_iconst hΓ dX3_readsSet_62 ?_
          refine g_isub hΓ dX3_readsSet_63 ?_
          refine g_topi (show ((-1) - 1 : Int) = (-2) by decide) ?_
          refine m_callS (As := [.int (iI (-2))]) (rest := [.int (iI (lowF (-2))), .ref h]) hok hΓ (m_highOf hok τ26 (-2) (by first | assumption | omega)) rfl q1555 q1556 q131 q1557 ndX3_highOf rfl (by decide) (by decide) rfl (Nat.le_of_ble_eq_true rfl) dX3_readsSet_64 rfl (fun v30 τ30 τ30h => ?_)
          obtain ⟨rfl, τ30h⟩ := τ30h
          rw [τ30h]
          clear τ30h
          show gW Γ E (mM E h ad τ26) 0 0 _ _ (.int (iI (hghF (-2))) :: _)
          refine m_callV (As := [.int (iI (lowF (-2))), .int (iI (hghF (-2)))]) (rest := []) hok hΓ (m_number hok τ26 (lowF (-2)) (hghF (-2)) (by first | assumption | omega) (by first | assumption | omega) (by first | assumption | omega) (by first | assumption | omega) (by first | assumption | omega) (by first | assumption | omega)) rfl q1558 q1560 qs70 q131 q1561 ndX3_number rfl (by decide) (by decide) rfl rfl (Nat.le_of_ble_eq_true rfl) dX3_readsSet_67 rfl (fun v31 τ31 τ31h => ?_)
          obtain ⟨rfl, τ31h, τ31f⟩ := τ31h
          show gW Γ E (mM E h ad τ31) 0 0 _ _ (.int (iI (if nuK τ26 (lowF (-2)) (hghF (-2)) = 4 then nuV τ26 (hrS τ26) else 0)) :: _)
          obtain ⟨x32, ex32⟩ : ∃ z9 : Int, z9 = if nuK τ26 (lowF (-2)) (hghF (-2)) = 4 then nuV τ26 (hrS τ26) else 0 := ⟨_, rfl⟩
          refine g_topi ex32.symm ?_
          refine g_istore_n hΓ dX3_readsSet_70 rfl (Nat.le_of_ble_eq_true rfl) (lv' := [some (.ref h), some (.int (iI (-1))), some (.int (iI x32))]) rfl ?_
          obtain ⟨τ3117, τ3118, τ3119, τ3120⟩ := id τ31h
          refine g_aload_n hΓ rfl dX3_readsSet_71 ?_
          refine m_callV (As := []) (rest := []) hok hΓ (m_goesWell hok τ31  (by first | assumption | omega)) rfl q1513 q1515 qs61 q131 q1516 ndX3_goesWell rfl (by decide) (by decide) rfl rfl (Nat.le_of_ble_eq_true rfl) dX3_readsSet_72 rfl (fun v33 τ33 τ33h => ?_)
          obtain ⟨rfl, τ33h⟩ := τ33h
          rw [τ33h]
          clear τ33h
          show gW Γ E (mM E h ad τ31) 0 0 _ _ (.int (iI (if τ31 19 0 = 0 then 1 else 0)) :: _)
          refine g_ifB_eq (tgt := 91) hΓ  dX3_readsSet_75 (by decide) (fun c34 => ?_) (fun c34 => ?_)
          · exact m_vret hΓ dX3_readsSet_91 (by first | (exfalso; omega) | exact ⟨rfl, (by
                have hx : (-1) = sp_own (wdT σ) := by omega
                have hK := nuK_of hE (lowF ((-1) - 1)) (hghF ((-1) - 1))
                have hP : pEq τ31 (pzT (wdT σ) (nuX (wdT σ) (lowF ((-1) - 1)) (hghF ((-1) - 1)))) := pzT_eq (by rw [show τ31 11 = τ1 11 from funext fun j => τ31f 11 j (by decide)]; exact hE.1) (by rw [show τ31 21 = τ1 21 from funext fun j => τ31f 21 j (by decide)]; exact hE.2.1) (by rw [show τ31 1 = τ1 1 from funext fun j => τ31f 1 j (by decide)]; exact hE.2.2.1) ((τ31f 16 0 (by decide)).trans hE.2.2.2.1) (by rw [← nuX_of hE]; exact nuR_X τ31h)
                have hKr := nuK_r τ1 (lowF ((-1) - 1)) (hghF ((-1) - 1))
                rw [rsT, if_pos (by omega), if_pos (by omega), loO, hiO, ← hx]
                rw [if_neg (by omega)]
                exact hP), (fun k j hk => (((τ31f k j (fun e => hk ((show ∀ x ∈ [17, 18, 19, 20], x ∈ [1, 17, 18, 19, 20] by decide) k e))).trans (τ26f k j (fun e => hk ((show ∀ x ∈ [19, 20], x ∈ [1, 17, 18, 19, 20] by decide) k e)))).trans (τ1f k j (fun e => hk ((show ∀ x ∈ [17, 18, 19, 20], x ∈ [1, 17, 18, 19, 20] by decide) k e)))))⟩)
          · refine g_aload_n hΓ rfl dX3_readsSet_78 ?_
            refine m_geta hok hΓ 1 (by decide) rfl rfl q1358 rfl dX3_readsSet_79 ?_
            refine g_sipush hΓ (by decide) dX3_readsSet_82 ?_
            refine g_iload_n hΓ rfl dX3_readsSet_85 ?_
            refine g_iadd hΓ dX3_readsSet_86 ?_
            refine g_topi (show (1042 + (-1) : Int) = 1041 by decide) ?_
            refine g_iconst hΓ dX3_readsSet_87 ?_
            refine g_isub hΓ dX3_readsSet_88 ?_
            refine g_topi (show (1041 - 1 : Int) = 1040 by decide) ?_
            refine g_iload_n hΓ rfl dX3_readsSet_89 ?_
            refine m_ast hok hΓ 1 (by decide) rfl (n := 1048) rfl (by omega) (by decide) dX3_readsSet_90 (fun τ35 τ35e => ?_)
            have τ35r : τ35 1 1040 = x32 := by rw [τ35e]; exact us_s _ _ _ _
            have τ35f : ∀ (k9 : Nat) (j9 : Int), (k9 ≠ 1 ∨ j9 ≠ 1040) → τ35 k9 j9 = τ31 k9 j9 := fun k9 j9 hh => by rw [τ35e]; exact us_n hh
            exact m_vret hΓ dX3_readsSet_91 (by first | (exfalso; omega) | exact ⟨rfl, (by
                have hx : (-1) = sp_own (wdT σ) := by omega
                have hK := nuK_of hE (lowF ((-1) - 1)) (hghF ((-1) - 1))
                have hP : pEq τ31 (pzT (wdT σ) (nuX (wdT σ) (lowF ((-1) - 1)) (hghF ((-1) - 1)))) := pzT_eq (by rw [show τ31 11 = τ1 11 from funext fun j => τ31f 11 j (by decide)]; exact hE.1) (by rw [show τ31 21 = τ1 21 from funext fun j => τ31f 21 j (by decide)]; exact hE.2.1) (by rw [show τ31 1 = τ1 1 from funext fun j => τ31f 1 j (by decide)]; exact hE.2.2.1) ((τ31f 16 0 (by decide)).trans hE.2.2.2.1) (by rw [← nuX_of hE]; exact nuR_X τ31h)
                have hKr := nuK_r τ1 (lowF ((-1) - 1)) (hghF ((-1) - 1))
                rw [rsT, if_pos (by omega), if_pos (by omega), loO, hiO, ← hx]
                rw [if_pos (by omega), ← nuV_of hE, ← hrS_of hE, τ35e, show x32 = nuV τ1 (hrS τ1) by omega]
                exact pEq_us1 hP _ _), (fun k j hk => ((((τ35f k j (Or.inl (fun e => hk (by rw [e]; decide)))).trans (τ31f k j (fun e => hk ((show ∀ x ∈ [17, 18, 19, 20], x ∈ [1, 17, 18, 19, 20] by decide) k e)))).trans (τ26f k j (fun e => hk ((show ∀ x ∈ [19, 20], x ∈ [1, 17, 18, 19, 20] by decide) k e)))).trans (τ1f k j (fun e => hk ((show ∀ x ∈ [17, 18, 19, 20], x ∈ [1, 17, 18, 19, 20] by decide) k e)))))⟩)
        · exact m_vret hΓ dX3_readsSet_53 (by first | (exfalso; omega) | exact ⟨rfl, (by
              rw [rsT, if_pos (by omega), if_neg (by omega)]
              have y3 := τ26h.1
              have y4 := τ26h.2
              rw [if_pos (by omega)] at y3 y4
              exact pzT_eq (by rw [show τ26 11 = τ1 11 from funext fun j => τ26f 11 j (by decide)]; exact hE.1) (by rw [show τ26 21 = τ1 21 from funext fun j => τ26f 21 j (by decide)]; exact hE.2.1) (by rw [show τ26 1 = τ1 1 from funext fun j => τ26f 1 j (by decide)]; exact hE.2.2.1) ((τ26f 16 0 (by decide)).trans hE.2.2.2.1) ⟨(τ26f 17 0 (by decide)).trans τ117, (τ26f 18 0 (by decide)).trans τ118, y3, y4.trans τ118⟩), (fun k j hk => ((τ26f k j (fun e => hk ((show ∀ x ∈ [19, 20], x ∈ [1, 17, 18, 19, 20] by decide) k e))).trans (τ1f k j (fun e => hk ((show ∀ x ∈ [17, 18, 19, 20], x ∈ [1, 17, 18, 19, 20] by decide) k e)))))⟩)
  · refine g_aload_n hΓ rfl dX3_readsSet_11 ?_
    refine m_callV (As := []) (rest := []) hok hΓ (m_own hok τ1  (by first | assumption | omega) (by first | assumption | omega) (by first | assumption | omega) (by first | assumption | omega)) rfl q1541 q1543 qs68 q131 q1544 ndX3_own rfl (by decide) (by decide) rfl rfl (Nat.le_of_ble_eq_true rfl) dX3_readsSet_12 rfl (fun v36 τ36 τ36h => ?_)
    obtain ⟨rfl, τ36h⟩ := τ36h
    rw [τ36h]
    clear τ36h
    show gW Γ E (mM E h ad τ1) 0 0 _ _ (.int (iI (sp_own τ1)) :: _)
    refine g_goto (tgt := 19) hΓ dX3_readsSet_15 (by decide) ?_
    obtain ⟨x37, ex37⟩ : ∃ z9 : Int, z9 = sp_own τ1 := ⟨_, rfl⟩
    refine g_topi ex37.symm ?_
    refine g_istore_n hΓ dX3_readsSet_19 rfl (Nat.le_of_ble_eq_true rfl) (lv' := [some (.ref h), some (.int (iI x37)), none]) rfl ?_
    refine g_aload_n hΓ rfl dX3_readsSet_20 ?_
    refine m_callV (As := []) (rest := []) hok hΓ (m_goesWell hok τ1  (by first | assumption | omega)) rfl q1513 q1515 qs61 q131 q1516 ndX3_goesWell rfl (by decide) (by decide) rfl rfl (Nat.le_of_ble_eq_true rfl) dX3_readsSet_21 rfl (fun v38 τ38 τ38h => ?_)
    obtain ⟨rfl, τ38h⟩ := τ38h
    rw [τ38h]
    clear τ38h
    show gW Γ E (mM E h ad τ1) 0 0 _ _ (.int (iI (if τ1 19 0 = 0 then 1 else 0)) :: _)
    refine g_ifB_eq (tgt := 46) hΓ  dX3_readsSet_24 (by decide) (fun c39 => ?_) (fun c39 => ?_)
    · refine g_aload_n hΓ rfl dX3_readsSet_46 ?_
      refine m_callV (As := []) (rest := []) hok hΓ (m_goesWell hok τ1  (by first | assumption | omega)) rfl q1513 q1515 qs61 q131 q1516 ndX3_goesWell rfl (by decide) (by decide) rfl rfl (Nat.le_of_ble_eq_true rfl) dX3_readsSet_47 rfl (fun v40 τ40 τ40h => ?_)
      obtain ⟨rfl, τ40h⟩ := τ40h
      rw [τ40h]
      clear τ40h
      show gW Γ E (mM E h ad τ1) 0 0 _ _ (.int (iI (if τ1 19 0 = 0 then 1 else 0)) :: _)
      refine g_ifB_ne (tgt := 54) hΓ  dX3_readsSet_50 (by decide) (fun c41 => ?_) (fun c41 => ?_)
      · have hlo : 0 ≤ lowF (x37 - 1) ∧ lowF (x37 - 1) ≤ 4 := by rw [lowF]; omega
        have hhi : 0 ≤ hghF (x37 - 1) ∧ hghF (x37 - 1) ≤ 99 := by rw [hghF]; omega
        refine g_aload_n hΓ rfl dX3_readsSet_54 ?_
        refine g_iload_n hΓ rfl dX3_readsSet_55 ?_
        refine g_iconst hΓ dX3_readsSet_56 ?_
        refine g_isub hΓ dX3_readsSet_57 ?_
        refine m_callS (As := [.int (iI (x37 - 1))]) (rest := [.ref h]) hok hΓ (m_lowOf hok τ1 (x37 - 1) (by first | assumption | omega)) rfl q1552 q1553 q131 q1554 ndX3_lowOf rfl (by decide) (by decide) rfl (Nat.le_of_ble_eq_true rfl) dX3_readsSet_58 rfl (fun v42 τ42 τ42h => ?_)
        obtain ⟨rfl, τ42h⟩ := τ42h
        rw [τ42h]
        clear τ42h
        show gW Γ E (mM E h ad τ1) 0 0 _ _ (.int (iI (lowF (x37 - 1))) :: _)
        refine g_iload_n hΓ rfl dX3_readsSet_61 ?_
        refine g_iconst hΓ dX3_readsSet_62 ?_
        refine g_isub hΓ dX3_readsSet_63 ?_
        refine m_callS (As := [.int (iI (x37 - 1))]) (rest := [.int (iI (lowF (x37 - 1))), .ref h]) hok hΓ (m_highOf hok τ1 (x37 - 1) (by first | assumption | omega)) rfl q1555 q1556 q131 q1557 ndX3_highOf rfl (by decide) (by decide) rfl (Nat.le_of_ble_eq_true rfl) dX3_readsSet_64 rfl (fun v43 τ43 τ43h => ?_)
        obtain ⟨rfl, τ43h⟩ := τ43h
        rw [τ43h]
        clear τ43h
        show gW Γ E (mM E h ad τ1) 0 0 _ _ (.int (iI (hghF (x37 - 1))) :: _)
        refine m_callV (As := [.int (iI (lowF (x37 - 1))), .int (iI (hghF (x37 - 1)))]) (rest := []) hok hΓ (m_number hok τ1 (lowF (x37 - 1)) (hghF (x37 - 1)) (by first | assumption | omega) (by first | assumption | omega) (by first | assumption | omega) (by first | assumption | omega) (by first | assumption | omega) (by first | assumption | omega)) rfl q1558 q1560 qs70 q131 q1561 ndX3_number rfl (by decide) (by decide) rfl rfl (Nat.le_of_ble_eq_true rfl) dX3_readsSet_67 rfl (fun v44 τ44 τ44h => ?_)
        obtain ⟨rfl, τ44h, τ44f⟩ := τ44h
        show gW Γ E (mM E h ad τ44) 0 0 _ _ (.int (iI (if nuK τ1 (lowF (x37 - 1)) (hghF (x37 - 1)) = 4 then nuV τ1 (hrS τ1) else 0)) :: _)
        obtain ⟨x45, ex45⟩ : ∃ z9 : Int, z9 = if nuK τ1 (lowF (x37 - 1)) (hghF (x37 - 1)) = 4 then nuV τ1 (hrS τ1) else 0 := ⟨_, rfl⟩
        refine g_topi ex45.symm ?_
        refine g_istore_n hΓ dX3_readsSet_70 rfl (Nat.le_of_ble_eq_true rfl) (lv' := [some (.ref h), some (.int (iI x37)), some (.int (iI x45))]) rfl ?_
        obtain ⟨τ4417, τ4418, τ4419, τ4420⟩ := id τ44h
        refine g_aload_n hΓ rfl dX3_readsSet_71 ?_
        refine m_callV (As := []) (rest := []) hok hΓ (m_goesWell hok τ44  (by first | assumption | omega)) rfl q1513 q1515 qs61 q131 q1516 ndX3_goesWell rfl (by decide) (by decide) rfl rfl (Nat.le_of_ble_eq_true rfl) dX3_readsSet_72 rfl (fun v46 τ46 τ46h => ?_)
        obtain ⟨rfl, τ46h⟩ := τ46h
        rw [τ46h]
        clear τ46h
        show gW Γ E (mM E h ad τ44) 0 0 _ _ (.int (iI (if τ44 19 0 = 0 then 1 else 0)) :: _)
        refine g_ifB_eq (tgt := 91) hΓ  dX3_readsSet_75 (by decide) (fun c47 => ?_) (fun c47 => ?_)
        · exact m_vret hΓ dX3_readsSet_91 (by first | (exfalso; omega) | exact ⟨rfl, (by
              have hx : x37 = sp_own (wdT σ) := by omega
              have hK := nuK_of hE (lowF (x37 - 1)) (hghF (x37 - 1))
              have hP : pEq τ44 (pzT (wdT σ) (nuX (wdT σ) (lowF (x37 - 1)) (hghF (x37 - 1)))) := pzT_eq (by rw [show τ44 11 = τ1 11 from funext fun j => τ44f 11 j (by decide)]; exact hE.1) (by rw [show τ44 21 = τ1 21 from funext fun j => τ44f 21 j (by decide)]; exact hE.2.1) (by rw [show τ44 1 = τ1 1 from funext fun j => τ44f 1 j (by decide)]; exact hE.2.2.1) ((τ44f 16 0 (by decide)).trans hE.2.2.2.1) (by rw [← nuX_of hE]; exact nuR_X τ44h)
              have hKr := nuK_r τ1 (lowF (x37 - 1)) (hghF (x37 - 1))
              rw [rsT, if_pos (by omega), if_pos (by omega), loO, hiO, ← hx]
              rw [if_neg (by omega)]
              exact hP), (fun k j hk => ((τ44f k j (fun e => hk ((show ∀ x ∈ [17, 18, 19, 20], x ∈ [1, 17, 18, 19, 20] by decide) k e))).trans (τ1f k j (fun e => hk ((show ∀ x ∈ [17, 18, 19, 20], x ∈ [1, 17, 18, 19, 20] by decide) k e)))))⟩)
        · refine g_aload_n hΓ rfl dX3_readsSet_78 ?_
          refine m_geta hok hΓ 1 (by decide) rfl rfl q1358 rfl dX3_readsSet_79 ?_
          refine g_sipush hΓ (by decide) dX3_readsSet_82 ?_
          refine g_iload_n hΓ rfl dX3_readsSet_85 ?_
          refine g_iadd hΓ dX3_readsSet_86 ?_
          refine g_iconst hΓ dX3_readsSet_87 ?_
          refine g_isub hΓ dX3_readsSet_88 ?_
          refine g_iload_n hΓ rfl dX3_readsSet_89 ?_
          refine m_ast hok hΓ 1 (by decide) rfl (n := 1048) rfl (by omega) (by decide) dX3_readsSet_90 (fun τ48 τ48e => ?_)
          have τ48r : τ48 1 ((1042 + x37) - 1) = x45 := by rw [τ48e]; exact us_s _ _ _ _
          have τ48f : ∀ (k9 : Nat) (j9 : Int), (k9 ≠ 1 ∨ j9 ≠ ((1042 + x37) - 1)) → τ48 k9 j9 = τ44 k9 j9 := fun k9 j9 hh => by rw [τ48e]; exact us_n hh
          exact m_vret hΓ dX3_readsSet_91 (by first | (exfalso; omega) | exact ⟨rfl, (by
              have hx : x37 = sp_own (wdT σ) := by omega
              have hK := nuK_of hE (lowF (x37 - 1)) (hghF (x37 - 1))
              have hP : pEq τ44 (pzT (wdT σ) (nuX (wdT σ) (lowF (x37 - 1)) (hghF (x37 - 1)))) := pzT_eq (by rw [show τ44 11 = τ1 11 from funext fun j => τ44f 11 j (by decide)]; exact hE.1) (by rw [show τ44 21 = τ1 21 from funext fun j => τ44f 21 j (by decide)]; exact hE.2.1) (by rw [show τ44 1 = τ1 1 from funext fun j => τ44f 1 j (by decide)]; exact hE.2.2.1) ((τ44f 16 0 (by decide)).trans hE.2.2.2.1) (by rw [← nuX_of hE]; exact nuR_X τ44h)
              have hKr := nuK_r τ1 (lowF (x37 - 1)) (hghF (x37 - 1))
              rw [rsT, if_pos (by omega), if_pos (by omega), loO, hiO, ← hx]
              rw [if_pos (by omega), ← nuV_of hE, ← hrS_of hE, τ48e, show x45 = nuV τ1 (hrS τ1) by omega]
              exact pEq_us1 hP _ _), (fun k j hk => (((τ48f k j (Or.inl (fun e => hk (by rw [e]; decide)))).trans (τ44f k j (fun e => hk ((show ∀ x ∈ [17, 18, 19, 20], x ∈ [1, 17, 18, 19, 20] by decide) k e)))).trans (τ1f k j (fun e => hk ((show ∀ x ∈ [17, 18, 19, 20], x ∈ [1, 17, 18, 19, 20] by decide) k e)))))⟩)
      · exact m_vret hΓ dX3_readsSet_53 (by first | (exfalso; omega) | exact ⟨rfl, (by rw [rsT, if_neg (by omega)]; exact hE), (fun k j hk => (τ1f k j (fun e => hk ((show ∀ x ∈ [17, 18, 19, 20], x ∈ [1, 17, 18, 19, 20] by decide) k e))))⟩)
    · refine g_iload_n hΓ rfl dX3_readsSet_27 ?_
      refine g_iconst hΓ dX3_readsSet_28 ?_
      refine g_bipush hΓ (by decide) dX3_readsSet_29 ?_
      refine m_callS (As := [.int (iI x37), .int (iI 1), .int (iI 6)]) (rest := []) hok hΓ (m_isIn hok τ1 x37 1 6 (by first | assumption | omega) (by first | assumption | omega) (by first | assumption | omega)) rfl q1549 q1550 q131 q1551 ndX3_isIn rfl (by decide) (by decide) rfl (Nat.le_of_ble_eq_true rfl) dX3_readsSet_31 rfl (fun v49 τ49 τ49h => ?_)
      obtain ⟨rfl, τ49h⟩ := τ49h
      rw [τ49h]
      clear τ49h
      show gW Γ E (mM E h ad τ1) 0 0 _ _ (.int (iI (if 1 ≤ x37 ∧ x37 ≤ 6 then 1 else 0)) :: _)
      refine g_ifB_ne (tgt := 46) hΓ  dX3_readsSet_34 (by decide) (fun c50 => ?_) (fun c50 => ?_)
      · refine g_aload_n hΓ rfl dX3_readsSet_46 ?_
        refine m_callV (As := []) (rest := []) hok hΓ (m_goesWell hok τ1  (by first | assumption | omega)) rfl q1513 q1515 qs61 q131 q1516 ndX3_goesWell rfl (by decide) (by decide) rfl rfl (Nat.le_of_ble_eq_true rfl) dX3_readsSet_47 rfl (fun v51 τ51 τ51h => ?_)
        obtain ⟨rfl, τ51h⟩ := τ51h
        rw [τ51h]
        clear τ51h
        show gW Γ E (mM E h ad τ1) 0 0 _ _ (.int (iI (if τ1 19 0 = 0 then 1 else 0)) :: _)
        refine g_ifB_ne (tgt := 54) hΓ  dX3_readsSet_50 (by decide) (fun c52 => ?_) (fun c52 => ?_)
        · have hlo : 0 ≤ lowF (x37 - 1) ∧ lowF (x37 - 1) ≤ 4 := by rw [lowF]; omega
          have hhi : 0 ≤ hghF (x37 - 1) ∧ hghF (x37 - 1) ≤ 99 := by rw [hghF]; omega
          refine g_aload_n hΓ rfl dX3_readsSet_54 ?_
          refine g_iload_n hΓ rfl dX3_readsSet_55 ?_
          refine g_iconst hΓ dX3_readsSet_56 ?_
          refine g_isub hΓ dX3_readsSet_57 ?_
          refine m_callS (As := [.int (iI (x37 - 1))]) (rest := [.ref h]) hok hΓ (m_lowOf hok τ1 (x37 - 1) (by first | assumption | omega)) rfl q1552 q1553 q131 q1554 ndX3_lowOf rfl (by decide) (by decide) rfl (Nat.le_of_ble_eq_true rfl) dX3_readsSet_58 rfl (fun v53 τ53 τ53h => ?_)
          obtain ⟨rfl, τ53h⟩ := τ53h
          rw [τ53h]
          clear τ53h
          show gW Γ E (mM E h ad τ1) 0 0 _ _ (.int (iI (lowF (x37 - 1))) :: _)
          refine g_iload_n hΓ rfl dX3_readsSet_61 ?_
          refine g_iconst hΓ dX3_readsSet_62 ?_
          refine g_isub hΓ dX3_readsSet_63 ?_
          refine m_callS (As := [.int (iI (x37 - 1))]) (rest := [.int (iI (lowF (x37 - 1))), .ref h]) hok hΓ (m_highOf hok τ1 (x37 - 1) (by first | assumption | omega)) rfl q1555 q1556 q131 q1557 ndX3_highOf rfl (by decide) (by decide) rfl (Nat.le_of_ble_eq_true rfl) dX3_readsSet_64 rfl (fun v54 τ54 τ54h => ?_)
          obtain ⟨rfl, τ54h⟩ := τ54h
          rw [τ54h]
          clear τ54h
          show gW Γ E (mM E h ad τ1) 0 0 _ _ (.int (iI (hghF (x37 - 1))) :: _)
          refine m_callV (As := [.int (iI (lowF (x37 - 1))), .int (iI (hghF (x37 - 1)))]) (rest := []) hok hΓ (m_number hok τ1 (lowF (x37 - 1)) (hghF (x37 - 1)) (by first | assumption | omega) (by first | assumption | omega) (by first | assumption | omega) (by first | assumption | omega) (by first | assumption | omega) (by first | assumption | omega)) rfl q1558 q1560 qs70 q131 q1561 ndX3_number rfl (by decide) (by decide) rfl rfl (Nat.le_of_ble_eq_true rfl) dX3_readsSet_67 rfl (fun v55 τ55 τ55h => ?_)
          obtain ⟨rfl, τ55h, τ55f⟩ := τ55h
          show gW Γ E (mM E h ad τ55) 0 0 _ _ (.int (iI (if nuK τ1 (lowF (x37 - 1)) (hghF (x37 - 1)) = 4 then nuV τ1 (hrS τ1) else 0)) :: _)
          obtain ⟨x56, ex56⟩ : ∃ z9 : Int, z9 = if nuK τ1 (lowF (x37 - 1)) (hghF (x37 - 1)) = 4 then nuV τ1 (hrS τ1) else 0 := ⟨_, rfl⟩
          refine g_topi ex56.symm ?_
          refine g_istore_n hΓ dX3_readsSet_70 rfl (Nat.le_of_ble_eq_true rfl) (lv' := [some (.ref h), some (.int (iI x37)), some (.int (iI x56))]) rfl ?_
          obtain ⟨τ5517, τ5518, τ5519, τ5520⟩ := id τ55h
          refine g_aload_n hΓ rfl dX3_readsSet_71 ?_
          refine m_callV (As := []) (rest := []) hok hΓ (m_goesWell hok τ55  (by first | assumption | omega)) rfl q1513 q1515 qs61 q131 q1516 ndX3_goesWell rfl (by decide) (by decide) rfl rfl (Nat.le_of_ble_eq_true rfl) dX3_readsSet_72 rfl (fun v57 τ57 τ57h => ?_)
          obtain ⟨rfl, τ57h⟩ := τ57h
          rw [τ57h]
          clear τ57h
          show gW Γ E (mM E h ad τ55) 0 0 _ _ (.int (iI (if τ55 19 0 = 0 then 1 else 0)) :: _)
          refine g_ifB_eq (tgt := 91) hΓ  dX3_readsSet_75 (by decide) (fun c58 => ?_) (fun c58 => ?_)
          · exact m_vret hΓ dX3_readsSet_91 (by first | (exfalso; omega) | exact ⟨rfl, (by
                have hx : x37 = sp_own (wdT σ) := by omega
                have hK := nuK_of hE (lowF (x37 - 1)) (hghF (x37 - 1))
                have hP : pEq τ55 (pzT (wdT σ) (nuX (wdT σ) (lowF (x37 - 1)) (hghF (x37 - 1)))) := pzT_eq (by rw [show τ55 11 = τ1 11 from funext fun j => τ55f 11 j (by decide)]; exact hE.1) (by rw [show τ55 21 = τ1 21 from funext fun j => τ55f 21 j (by decide)]; exact hE.2.1) (by rw [show τ55 1 = τ1 1 from funext fun j => τ55f 1 j (by decide)]; exact hE.2.2.1) ((τ55f 16 0 (by decide)).trans hE.2.2.2.1) (by rw [← nuX_of hE]; exact nuR_X τ55h)
                have hKr := nuK_r τ1 (lowF (x37 - 1)) (hghF (x37 - 1))
                rw [rsT, if_pos (by omega), if_pos (by omega), loO, hiO, ← hx]
                rw [if_neg (by omega)]
                exact hP), (fun k j hk => ((τ55f k j (fun e => hk ((show ∀ x ∈ [17, 18, 19, 20], x ∈ [1, 17, 18, 19, 20] by decide) k e))).trans (τ1f k j (fun e => hk ((show ∀ x ∈ [17, 18, 19, 20], x ∈ [1, 17, 18, 19, 20] by decide) k e)))))⟩)
          · refine g_aload_n hΓ rfl dX3_readsSet_78 ?_
            refine m_geta hok hΓ 1 (by decide) rfl rfl q1358 rfl dX3_readsSet_79 ?_
            refine g_sipush hΓ (by decide) dX3_readsSet_82 ?_
            refine g_iload_n hΓ rfl dX3_readsSet_85 ?_
            refine g_iadd hΓ dX3_readsSet_86 ?_
            refine g_iconst hΓ dX3_readsSet_87 ?_
            refine g_isub hΓ dX3_readsSet_88 ?_
            refine g_iload_n hΓ rfl dX3_readsSet_89 ?_
            refine m_ast hok hΓ 1 (by decide) rfl (n := 1048) rfl (by omega) (by decide) dX3_readsSet_90 (fun τ59 τ59e => ?_)
            have τ59r : τ59 1 ((1042 + x37) - 1) = x56 := by rw [τ59e]; exact us_s _ _ _ _
            have τ59f : ∀ (k9 : Nat) (j9 : Int), (k9 ≠ 1 ∨ j9 ≠ ((1042 + x37) - 1)) → τ59 k9 j9 = τ55 k9 j9 := fun k9 j9 hh => by rw [τ59e]; exact us_n hh
            exact m_vret hΓ dX3_readsSet_91 (by first | (exfalso; omega) | exact ⟨rfl, (by
                have hx : x37 = sp_own (wdT σ) := by omega
                have hK := nuK_of hE (lowF (x37 - 1)) (hghF (x37 - 1))
                have hP : pEq τ55 (pzT (wdT σ) (nuX (wdT σ) (lowF (x37 - 1)) (hghF (x37 - 1)))) := pzT_eq (by rw [show τ55 11 = τ1 11 from funext fun j => τ55f 11 j (by decide)]; exact hE.1) (by rw [show τ55 21 = τ1 21 from funext fun j => τ55f 21 j (by decide)]; exact hE.2.1) (by rw [show τ55 1 = τ1 1 from funext fun j => τ55f 1 j (by decide)]; exact hE.2.2.1) ((τ55f 16 0 (by decide)).trans hE.2.2.2.1) (by rw [← nuX_of hE]; exact nuR_X τ55h)
                have hKr := nuK_r τ1 (lowF (x37 - 1)) (hghF (x37 - 1))
                rw [rsT, if_pos (by omega), if_pos (by omega), loO, hiO, ← hx]
                rw [if_pos (by omega), ← nuV_of hE, ← hrS_of hE, τ59e, show x56 = nuV τ1 (hrS τ1) by omega]
                exact pEq_us1 hP _ _), (fun k j hk => (((τ59f k j (Or.inl (fun e => hk (by rw [e]; decide)))).trans (τ55f k j (fun e => hk ((show ∀ x ∈ [17, 18, 19, 20], x ∈ [1, 17, 18, 19, 20] by decide) k e)))).trans (τ1f k j (fun e => hk ((show ∀ x ∈ [17, 18, 19, 20], x ∈ [1, 17, 18, 19, 20] by decide) k e)))))⟩)
        · exact m_vret hΓ dX3_readsSet_53 (by first | (exfalso; omega) | exact ⟨rfl, (by rw [rsT, if_neg (by omega)]; exact hE), (fun k j hk => (τ1f k j (fun e => hk ((show ∀ x ∈ [17, 18, 19, 20], x ∈ [1, 17, 18, 19, 20] by decide) k e))))⟩)
      · refine g_aload_n hΓ rfl dX3_readsSet_37 ?_
        refine g_iconst hΓ dX3_readsSet_38 ?_
        refine g_aload_n hΓ rfl dX3_readsSet_39 ?_
        refine m_geti hok hΓ 18 (by decide) rfl rfl q1375 rfl dX3_readsSet_40 ?_
        refine m_callV (As := [.int (iI 1), .int (iI (τ1 18 0))]) (rest := []) hok hΓ (m_faults hok τ1 1 (τ1 18 0) (by first | assumption | omega)) rfl q1525 q1527 qs64 q131 q1528 ndX3_faults rfl (by decide) (by decide) rfl rfl (Nat.le_of_ble_eq_true rfl) dX3_readsSet_43 rfl (fun v60 τ60 τ60h => ?_)
        obtain ⟨rfl, τ60h, τ60f⟩ := τ60h
        refine g_aload_n hΓ rfl dX3_readsSet_46 ?_
        refine m_callV (As := []) (rest := []) hok hΓ (m_goesWell hok τ60  (by first | assumption | omega)) rfl q1513 q1515 qs61 q131 q1516 ndX3_goesWell rfl (by decide) (by decide) rfl rfl (Nat.le_of_ble_eq_true rfl) dX3_readsSet_47 rfl (fun v61 τ61 τ61h => ?_)
        obtain ⟨rfl, τ61h⟩ := τ61h
        rw [τ61h]
        clear τ61h
        show gW Γ E (mM E h ad τ60) 0 0 _ _ (.int (iI (if τ60 19 0 = 0 then 1 else 0)) :: _)
        refine g_ifB_ne (tgt := 54) hΓ  dX3_readsSet_50 (by decide) (fun c62 => ?_) (fun c62 => ?_)
        · have hlo : 0 ≤ lowF (x37 - 1) ∧ lowF (x37 - 1) ≤ 4 := by rw [lowF]; omega
          have hhi : 0 ≤ hghF (x37 - 1) ∧ hghF (x37 - 1) ≤ 99 := by rw [hghF]; omega
          refine g_aload_n hΓ rfl dX3_readsSet_54 ?_
          refine g_iload_n hΓ rfl dX3_readsSet_55 ?_
          refine g_iconst hΓ dX3_readsSet_56 ?_
          refine g_isub hΓ dX3_readsSet_57 ?_
          refine m_callS (As := [.int (iI (x37 - 1))]) (rest := [.ref h]) hok hΓ (m_lowOf hok τ60 (x37 - 1) (by first | assumption | omega)) rfl q1552 q1553 q131 q1554 ndX3_lowOf rfl (by decide) (by decide) rfl (Nat.le_of_ble_eq_true rfl) dX3_readsSet_58 rfl (fun v63 τ63 τ63h => ?_)
          obtain ⟨rfl, τ63h⟩ := τ63h
          rw [τ63h]
          clear τ63h
          show gW Γ E (mM E h ad τ60) 0 0 _ _ (.int (iI (lowF (x37 - 1))) :: _)
          refine g_iload_n hΓ rfl dX3_readsSet_61 ?_
          refine g_iconst hΓ dX3_readsSet_62 ?_
          refine g_isub hΓ dX3_readsSet_63 ?_
          refine m_callS (As := [.int (iI (x37 - 1))]) (rest := [.int (iI (lowF (x37 - 1))), .ref h]) hok hΓ (m_highOf hok τ60 (x37 - 1) (by first | assumption | omega)) rfl q1555 q1556 q131 q1557 ndX3_highOf rfl (by decide) (by decide) rfl (Nat.le_of_ble_eq_true rfl) dX3_readsSet_64 rfl (fun v64 τ64 τ64h => ?_)
          obtain ⟨rfl, τ64h⟩ := τ64h
          rw [τ64h]
          clear τ64h
          show gW Γ E (mM E h ad τ60) 0 0 _ _ (.int (iI (hghF (x37 - 1))) :: _)
          refine m_callV (As := [.int (iI (lowF (x37 - 1))), .int (iI (hghF (x37 - 1)))]) (rest := []) hok hΓ (m_number hok τ60 (lowF (x37 - 1)) (hghF (x37 - 1)) (by first | assumption | omega) (by first | assumption | omega) (by first | assumption | omega) (by first | assumption | omega) (by first | assumption | omega) (by first | assumption | omega)) rfl q1558 q1560 qs70 q131 q1561 ndX3_number rfl (by decide) (by decide) rfl rfl (Nat.le_of_ble_eq_true rfl) dX3_readsSet_67 rfl (fun v65 τ65 τ65h => ?_)
          obtain ⟨rfl, τ65h, τ65f⟩ := τ65h
          show gW Γ E (mM E h ad τ65) 0 0 _ _ (.int (iI (if nuK τ60 (lowF (x37 - 1)) (hghF (x37 - 1)) = 4 then nuV τ60 (hrS τ60) else 0)) :: _)
          obtain ⟨x66, ex66⟩ : ∃ z9 : Int, z9 = if nuK τ60 (lowF (x37 - 1)) (hghF (x37 - 1)) = 4 then nuV τ60 (hrS τ60) else 0 := ⟨_, rfl⟩
          refine g_topi ex66.symm ?_
          refine g_istore_n hΓ dX3_readsSet_70 rfl (Nat.le_of_ble_eq_true rfl) (lv' := [some (.ref h), some (.int (iI x37)), some (.int (iI x66))]) rfl ?_
          obtain ⟨τ6517, τ6518, τ6519, τ6520⟩ := id τ65h
          refine g_aload_n hΓ rfl dX3_readsSet_71 ?_
          refine m_callV (As := []) (rest := []) hok hΓ (m_goesWell hok τ65  (by first | assumption | omega)) rfl q1513 q1515 qs61 q131 q1516 ndX3_goesWell rfl (by decide) (by decide) rfl rfl (Nat.le_of_ble_eq_true rfl) dX3_readsSet_72 rfl (fun v67 τ67 τ67h => ?_)
          obtain ⟨rfl, τ67h⟩ := τ67h
          rw [τ67h]
          clear τ67h
          show gW Γ E (mM E h ad τ65) 0 0 _ _ (.int (iI (if τ65 19 0 = 0 then 1 else 0)) :: _)
          refine g_ifB_eq (tgt := 91) hΓ  dX3_readsSet_75 (by decide) (fun c68 => ?_) (fun c68 => ?_)
          · exact m_vret hΓ dX3_readsSet_91 (by first | (exfalso; omega) | exact ⟨rfl, (by
                have hx : x37 = sp_own (wdT σ) := by omega
                have hK := nuK_of hE (lowF (x37 - 1)) (hghF (x37 - 1))
                have hP : pEq τ65 (pzT (wdT σ) (nuX (wdT σ) (lowF (x37 - 1)) (hghF (x37 - 1)))) := pzT_eq (by rw [show τ65 11 = τ1 11 from funext fun j => τ65f 11 j (by decide)]; exact hE.1) (by rw [show τ65 21 = τ1 21 from funext fun j => τ65f 21 j (by decide)]; exact hE.2.1) (by rw [show τ65 1 = τ1 1 from funext fun j => τ65f 1 j (by decide)]; exact hE.2.2.1) ((τ65f 16 0 (by decide)).trans hE.2.2.2.1) (by rw [← nuX_of hE]; exact nuR_X τ65h)
                have hKr := nuK_r τ1 (lowF (x37 - 1)) (hghF (x37 - 1))
                rw [rsT, if_pos (by omega), if_pos (by omega), loO, hiO, ← hx]
                rw [if_neg (by omega)]
                exact hP), (fun k j hk => (((τ65f k j (fun e => hk ((show ∀ x ∈ [17, 18, 19, 20], x ∈ [1, 17, 18, 19, 20] by decide) k e))).trans (τ60f k j (fun e => hk ((show ∀ x ∈ [19, 20], x ∈ [1, 17, 18, 19, 20] by decide) k e)))).trans (τ1f k j (fun e => hk ((show ∀ x ∈ [17, 18, 19, 20], x ∈ [1, 17, 18, 19, 20] by decide) k e)))))⟩)
          · refine g_aload_n hΓ rfl dX3_readsSet_78 ?_
            refine m_geta hok hΓ 1 (by decide) rfl rfl q1358 rfl dX3_readsSet_79 ?_
            refine g_sipush hΓ (by decide) dX3_readsSet_82 ?_
            refine g_iload_n hΓ rfl dX3_readsSet_85 ?_
            refine g_iadd hΓ dX3_readsSet_86 ?_
            refine g_iconst hΓ dX3_readsSet_87 ?_
            refine g_isub hΓ dX3_readsSet_88 ?_
            refine g_iload_n hΓ rfl dX3_readsSet_89 ?_
            refine m_ast hok hΓ 1 (by decide) rfl (n := 1048) rfl (by omega) (by decide) dX3_readsSet_90 (fun τ69 τ69e => ?_)
            have τ69r : τ69 1 ((1042 + x37) - 1) = x66 := by rw [τ69e]; exact us_s _ _ _ _
            have τ69f : ∀ (k9 : Nat) (j9 : Int), (k9 ≠ 1 ∨ j9 ≠ ((1042 + x37) - 1)) → τ69 k9 j9 = τ65 k9 j9 := fun k9 j9 hh => by rw [τ69e]; exact us_n hh
            exact m_vret hΓ dX3_readsSet_91 (by first | (exfalso; omega) | exact ⟨rfl, (by
                have hx : x37 = sp_own (wdT σ) := by omega
                have hK := nuK_of hE (lowF (x37 - 1)) (hghF (x37 - 1))
                have hP : pEq τ65 (pzT (wdT σ) (nuX (wdT σ) (lowF (x37 - 1)) (hghF (x37 - 1)))) := pzT_eq (by rw [show τ65 11 = τ1 11 from funext fun j => τ65f 11 j (by decide)]; exact hE.1) (by rw [show τ65 21 = τ1 21 from funext fun j => τ65f 21 j (by decide)]; exact hE.2.1) (by rw [show τ65 1 = τ1 1 from funext fun j => τ65f 1 j (by decide)]; exact hE.2.2.1) ((τ65f 16 0 (by decide)).trans hE.2.2.2.1) (by rw [← nuX_of hE]; exact nuR_X τ65h)
                have hKr := nuK_r τ1 (lowF (x37 - 1)) (hghF (x37 - 1))
                rw [rsT, if_pos (by omega), if_pos (by omega), loO, hiO, ← hx]
                rw [if_pos (by omega), ← nuV_of hE, ← hrS_of hE, τ69e, show x66 = nuV τ1 (hrS τ1) by omega]
                exact pEq_us1 hP _ _), (fun k j hk => ((((τ69f k j (Or.inl (fun e => hk (by rw [e]; decide)))).trans (τ65f k j (fun e => hk ((show ∀ x ∈ [17, 18, 19, 20], x ∈ [1, 17, 18, 19, 20] by decide) k e)))).trans (τ60f k j (fun e => hk ((show ∀ x ∈ [19, 20], x ∈ [1, 17, 18, 19, 20] by decide) k e)))).trans (τ1f k j (fun e => hk ((show ∀ x ∈ [17, 18, 19, 20], x ∈ [1, 17, 18, 19, 20] by decide) k e)))))⟩)
        · exact m_vret hΓ dX3_readsSet_53 (by first | (exfalso; omega) | exact ⟨rfl, (by
              rw [rsT, if_pos (by omega), if_neg (by omega)]
              have y3 := τ60h.1
              have y4 := τ60h.2
              rw [if_pos (by omega)] at y3 y4
              exact pzT_eq (by rw [show τ60 11 = τ1 11 from funext fun j => τ60f 11 j (by decide)]; exact hE.1) (by rw [show τ60 21 = τ1 21 from funext fun j => τ60f 21 j (by decide)]; exact hE.2.1) (by rw [show τ60 1 = τ1 1 from funext fun j => τ60f 1 j (by decide)]; exact hE.2.2.1) ((τ60f 16 0 (by decide)).trans hE.2.2.2.1) ⟨(τ60f 17 0 (by decide)).trans τ117, (τ60f 18 0 (by decide)).trans τ118, y3, y4.trans τ118⟩), (fun k j hk => ((τ60f k j (fun e => hk ((show ∀ x ∈ [19, 20], x ∈ [1, 17, 18, 19, 20] by decide) k e))).trans (τ1f k j (fun e => hk ((show ∀ x ∈ [17, 18, 19, 20], x ∈ [1, 17, 18, 19, 20] by decide) k e)))))⟩)
