set_option maxRecDepth 100000
set_option maxHeartbeats 4000000 in
theorem m_undo {l : Launch} {E : gE} {h : Nat} {ad : Nat → Nat} (hok : mOK E h ad) (σ : mS)   (hun : 0 ≤ σ 4 0 ∧ σ 4 0 ≤ 20) : mC l E h ad yX3_undo cX3_undo 2 (some .boolean) 1 [.ref h] σ (fun rv σ' => rv = some (.int (iI (if ¬ σ 4 0 = 0 then 1 else 0))) ∧ ((¬ σ 4 0 = 0 → (∀ j, σ' 0 j = if 0 ≤ j ∧ j < 1048 then σ 3 (1048 * (σ 4 0 - 1) + j) else σ 0 j) ∧ σ' 4 0 = σ 4 0 - 1 ∧ σ' 13 = σ 13) ∧ (¬ ¬ σ 4 0 = 0 → refR σ' σ 4 ∧ σ' 0 = σ 0 ∧ σ' 4 0 = σ 4 0)) ∧ ∀ (k : Nat) (j : Int), k ∉ [0, 4, 13] → σ' k j = σ k j) := by
  refine mC.of (by decide) [some (.ref h), none] (Nat.le_of_ble_eq_true rfl) rfl rfl (fun Γ hΓ => ?_)
  refine g_aload_n hΓ rfl dX3_undo_0 ?_
  refine m_geti hok hΓ 4 (by decide) rfl rfl q1361 rfl dX3_undo_1 ?_
  refine g_if_ne (tgt := 13) hΓ (by omega) dX3_undo_4 (by decide) (fun c1 => ?_) (fun c1 => ?_)
  · refine g_aload_n hΓ rfl dX3_undo_13 ?_
    refine g_dup hΓ rfl dX3_undo_14 ?_
    refine m_geti hok hΓ 4 (by decide) rfl rfl q1361 rfl dX3_undo_15 ?_
    refine g_iconst hΓ dX3_undo_18 ?_
    refine g_isub hΓ dX3_undo_19 ?_
    refine m_puti hok hΓ 4 (by decide) rfl rfl q1361 rfl rfl rfl dX3_undo_20 (fun τ2 τ2e => ?_)
    have τ2r : τ2 4 0 = (σ 4 0) - 1 := by rw [τ2e]; exact us_s _ _ _ _
    have τ2f : ∀ (k9 : Nat) (j9 : Int), (k9 ≠ 4 ∨ j9 ≠ 0) → τ2 k9 j9 = σ k9 j9 := fun k9 j9 hh => by rw [τ2e]; exact us_n hh
    refine g_iconst hΓ dX3_undo_23 ?_
    refine g_istore_n hΓ dX3_undo_24 rfl (Nat.le_of_ble_eq_true rfl) (lv' := [some (.ref h), some (.int (iI 0))]) rfl ?_
    have loop : ∀ (fu : Nat) (q : Int) (t : mS), (1048 - q).toNat < fu → (0 ≤ q ∧ q ≤ 1048) → (∀ j, t 0 j = if 0 ≤ j ∧ j < q then σ 3 (1048 * (σ 4 0 - 1) + j) else σ 0 j) → (t 4 0 = σ 4 0 - 1) → (∀ (k : Nat) (j : Int), k ∉ [0, 4] → t k j = σ k j) → gW Γ E (mM E h ad t) 0 0 25 [some (.ref h), some (.int (iI q))] [] := by
      intro fu
      induction fu with
      | zero => intro q t hn; exact absurd hn (Nat.not_lt_zero _)
      | succ fu ih_loop =>
        intro q t hn hq hA h4 tf
        refine g_iload_n hΓ rfl dX3_undo_25 ?_
        refine g_sipush hΓ (by decide) dX3_undo_26 ?_
        refine g_icmp_ge (tgt := 59) hΓ (by omega) (by omega) dX3_undo_29 (by decide) (fun c3 => ?_) (fun c3 => ?_)
        · refine g_iconst hΓ dX3_undo_59 ?_
          exact m_zret hΓ (by omega) dX3_undo_60 ⟨ri (by rw [if_pos (by omega)]), ⟨fun _ => ⟨fun j => by rw [hA j, show q = 1048 by omega], h4, funext fun j => tf 13 j (by decide)⟩, fun q => absurd (by omega) q⟩, (fun k j hk => tf k j (fun e => hk ((show ∀ x ∈ [0, 4], x ∈ [0, 4, 13] by decide) k e)))⟩
        · refine g_aload_n hΓ rfl dX3_undo_32 ?_
          refine m_geta hok hΓ 0 (by decide) rfl rfl q1357 rfl dX3_undo_33 ?_
          refine g_iload_n hΓ rfl dX3_undo_36 ?_
          refine g_aload_n hΓ rfl dX3_undo_37 ?_
          refine m_geta hok hΓ 3 (by decide) rfl rfl q1360 rfl dX3_undo_38 ?_
          refine g_sipush hΓ (by decide) dX3_undo_41 ?_
          refine g_aload_n hΓ rfl dX3_undo_44 ?_
          refine m_geti hok hΓ 4 (by decide) rfl rfl q1361 rfl dX3_undo_45 ?_
          refine g_imul hΓ dX3_undo_48 ?_
          refine g_iload_n hΓ rfl dX3_undo_49 ?_
          refine g_iadd hΓ dX3_undo_50 ?_
          refine m_ald hok hΓ 3 (by decide) rfl (n := 20960) rfl (by omega) (by decide) dX3_undo_51 ?_
          refine g_topi ((tf 3 ((1048 * (t 4 0)) + q) (by decide))) ?_
          refine m_ast hok hΓ 0 (by decide) rfl (n := 1048) rfl (by omega) (by decide) dX3_undo_52 (fun τ4 τ4e => ?_)
          have τ4r : τ4 0 q = σ 3 ((1048 * (t 4 0)) + q) := by rw [τ4e]; exact us_s _ _ _ _
          have τ4f : ∀ (k9 : Nat) (j9 : Int), (k9 ≠ 0 ∨ j9 ≠ q) → τ4 k9 j9 = t k9 j9 := fun k9 j9 hh => by rw [τ4e]; exact us_n hh
          obtain ⟨x5, ex5⟩ : ∃ z9 : Int, z9 = q + 1 := ⟨_, rfl⟩
          refine g_iinc hΓ dX3_undo_53 rfl rfl (lv' := [some (.ref h), some (.int (iI x5))]) (by rw [ex5]; rfl) ?_
          refine g_goto (tgt := 25) hΓ dX3_undo_56 (by decide) ?_
          exact ih_loop x5 τ4 (by omega) (by omega) (fun j => by
              by_cases z : j = q
              · rw [z, τ4r, if_pos (by omega), h4]
              · rw [τ4f 0 j (Or.inr z), hA j]
                by_cases y : 0 ≤ j ∧ j < q
                · rw [if_pos y, if_pos (by omega)]
                · rw [if_neg y, if_neg (by omega)]) ((τ4f 4 0 (Or.inl (by decide))).trans h4) (fun k j hk => ((τ4f k j (Or.inl (fun e => hk (by rw [e]; decide)))).trans (tf k j (fun e => hk ((show ∀ x ∈ [0, 4], x ∈ [0, 4] by decide) k e)))))
    exact loop 1049 0 τ2 (by omega) (by omega) (fun j => by rw [if_neg (by omega)]; exact τ2f 0 j (Or.inl (by decide))) τ2r (fun k j hk => (τ2f k j (Or.inl (fun e => hk (by rw [e]; decide)))))
  · refine g_aload_n hΓ rfl dX3_undo_7 ?_
    refine g_iconst hΓ dX3_undo_8 ?_
    refine m_callV (As := [.int (iI 4)]) (rest := []) hok hΓ (m_isRefused hok σ 4 (by first | assumption | omega)) rfl q1497 q1499 qs58 q131 q1500 ndX3_isRefused rfl (by decide) (by decide) rfl rfl (Nat.le_of_ble_eq_true rfl) dX3_undo_9 rfl (fun v6 τ6 τ6h => ?_)
    obtain ⟨rfl, τ6h, τ6f⟩ := τ6h
    show gW Γ E (mM E h ad τ6) 0 0 _ _ (.int (iI 0) :: _)
    exact m_zret hΓ (by omega) dX3_undo_12 ⟨ri (by first | rfl | omega | ((repeat' split) <;> first | rfl | omega | contradiction | (simp_all; done) | (exfalso; omega))), ⟨fun q => absurd (by omega) q, fun _ => ⟨τ6h, (funext fun j => τ6f 0 j (by decide)), τ6f 4 0 (by decide)⟩⟩, (fun k j hk => (τ6f k j (fun e => hk ((show ∀ x ∈ [13], x ∈ [0, 4, 13] by decide) k e))))⟩
set_option maxHeartbeats 4000000 in
theorem m_stroke {l : Launch} {E : gE} {h : Nat} {ad : Nat → Nat} (hok : mOK E h ad) (σ : mS)   (hr : rowOK (σ 0)) (hun : 0 ≤ σ 4 0 ∧ σ 4 0 ≤ 20) (htp : ∀ j, 0 ≤ j → j < 1600 → 0 ≤ σ 11 j ∧ σ 11 j < 256) (htd : 0 ≤ σ 12 0 ∧ σ 12 0 ≤ 1600) : mC l E h ad yX3_stroke cX3_stroke 4 (some .int) 1 [.ref h] σ (fun rv σ' => rv = some (.int (iI (if strC σ then σ 0 1009 else -1))) ∧ ((strC σ → σ' 0 = skF (σ 0) (σ 12 0) (σ 11) ∧ remR σ' σ ∧ σ' 13 = σ 13 ∧ σ' 12 0 = 0) ∧ (¬ strC σ → refR σ' σ 2 ∧ σ' 0 = σ 0 ∧ σ' 3 = σ 3 ∧ σ' 4 0 = σ 4 0 ∧ σ' 12 0 = 0)) ∧ ∀ (k : Nat) (j : Int), k ∉ [0, 3, 4, 12, 13] → σ' k j = σ k j) := by
  refine mC.of (by decide) [some (.ref h), none, none, none] (Nat.le_of_ble_eq_true rfl) rfl rfl (fun Γ hΓ => ?_)
  obtain ⟨h1000, h1009, h1042, h1043, h1044, h1045, h1046, h1047, hms, hsi, hsm, hnm⟩ := id hr
  refine g_aload_n hΓ rfl dX3_stroke_0 ?_
  refine m_callV (As := []) (rest := []) hok hΓ (m_taken hok σ  ) rfl q1505 q1507 qs59 q131 q1508 ndX3_taken rfl (by decide) (by decide) rfl rfl (Nat.le_of_ble_eq_true rfl) dX3_stroke_1 rfl (fun v1 τ1 τ1h => ?_)
  obtain ⟨rfl, τ1h, τ1f⟩ := τ1h
  show gW Γ E (mM E h ad τ1) 0 0 _ _ (.int (iI (σ 12 0)) :: _)
  obtain ⟨x2, ex2⟩ : ∃ z9 : Int, z9 = σ 12 0 := ⟨_, rfl⟩
  refine g_topi ex2.symm ?_
  refine g_istore_n hΓ dX3_stroke_4 rfl (Nat.le_of_ble_eq_true rfl) (lv' := [some (.ref h), some (.int (iI x2)), none, none]) rfl ?_
  refine g_aload_n hΓ rfl dX3_stroke_5 ?_
  refine m_geta hok hΓ 0 (by decide) rfl rfl q1357 rfl dX3_stroke_6 ?_
  refine g_sipush hΓ (by decide) dX3_stroke_9 ?_
  refine m_ald hok hΓ 0 (by decide) rfl (n := 1048) rfl (by omega) (by decide) dX3_stroke_12 ?_
  refine g_topi ((τ1f 0 1009 (by decide))) ?_
  refine g_bipush hΓ (by decide) dX3_stroke_13 ?_
  refine g_icmp_ge (tgt := 38) hΓ (by omega) (by omega) dX3_stroke_15 (by decide) (fun c3 => ?_) (fun c3 => ?_)
  · refine g_iconst hΓ dX3_stroke_38 ?_
    refine g_istore_n hΓ dX3_stroke_39 rfl (Nat.le_of_ble_eq_true rfl) (lv' := [some (.ref h), some (.int (iI x2)), some (.int (iI 0)), none]) rfl ?_
    refine g_iconst hΓ dX3_stroke_40 ?_
    refine g_istore_n hΓ dX3_stroke_41 rfl (Nat.le_of_ble_eq_true rfl) (lv' := [some (.ref h), some (.int (iI x2)), some (.int (iI 0)), some (.int (iI 0))]) rfl ?_
    have hnstr : ¬ strC σ := fun z => by
      obtain ⟨z1, z2, z3, -⟩ := z
      omega
    refine g_iload_n hΓ rfl dX3_stroke_42 ?_
    refine g_iload_n hΓ rfl dX3_stroke_43 ?_
    refine g_icmp_ge (tgt := 74) hΓ (by omega) (by omega) dX3_stroke_44 (by decide) (fun c4 => ?_) (fun c4 => ?_)
    · refine g_iload_n hΓ rfl dX3_stroke_74 ?_
      refine g_if_ne (tgt := 84) hΓ (by omega) dX3_stroke_75 (by decide) (fun c5 => ?_) (fun c5 => ?_)
      · exact absurd c5 (by decide)
      · refine g_aload_n hΓ rfl dX3_stroke_78 ?_
        refine g_iconst hΓ dX3_stroke_79 ?_
        refine m_callV (As := [.int (iI 2)]) (rest := []) hok hΓ (m_refuses hok τ1 2 (by first | assumption | omega)) rfl q1485 q1487 qs56 q131 q1488 ndX3_refuses rfl (by decide) (by decide) rfl rfl (Nat.le_of_ble_eq_true rfl) dX3_stroke_80 rfl (fun v6 τ6 τ6h => ?_)
        obtain ⟨rfl, τ6h, τ6f⟩ := τ6h
        show gW Γ E (mM E h ad τ6) 0 0 _ _ (.int (iI (-1)) :: _)
        exact m_iret hΓ dX3_stroke_83 ⟨ri (by rw [if_neg hnstr]), ⟨fun q => absurd q hnstr, fun _ => ⟨by rw [refR, τ6h, show τ1 13 = σ 13 from (funext fun j => τ1f 13 j (by decide))], (funext fun j => τ6f 0 j (by decide)).trans (funext fun j => τ1f 0 j (by decide)), (funext fun j => τ6f 3 j (by decide)).trans (funext fun j => τ1f 3 j (by decide)), (τ6f 4 0 (by decide)).trans (τ1f 4 0 (by decide)), (τ6f 12 0 (by decide)).trans τ1h⟩⟩, (fun k j hk => ((τ6f k j (fun e => hk ((show ∀ x ∈ [13], x ∈ [0, 3, 4, 12, 13] by decide) k e))).trans (τ1f k j (fun e => hk ((show ∀ x ∈ [12], x ∈ [0, 3, 4, 12, 13] by decide) k e)))))⟩
    · refine g_iload_n hΓ rfl dX3_stroke_47 ?_
      refine g_if_eq (tgt := 74) hΓ (by omega) dX3_stroke_48 (by decide) (fun c7 => ?_) (fun c7 => ?_)
      · refine g_iload_n hΓ rfl dX3_stroke_74 ?_
        refine g_if_ne (tgt := 84) hΓ (by omega) dX3_stroke_75 (by decide) (fun c8 => ?_) (fun c8 => ?_)
        · exact absurd c8 (by decide)
        · refine g_aload_n hΓ rfl dX3_stroke_78 ?_
          refine g_iconst hΓ dX3_stroke_79 ?_
          refine m_callV (As := [.int (iI 2)]) (rest := []) hok hΓ (m_refuses hok τ1 2 (by first | assumption | omega)) rfl q1485 q1487 qs56 q131 q1488 ndX3_refuses rfl (by decide) (by decide) rfl rfl (Nat.le_of_ble_eq_true rfl) dX3_stroke_80 rfl (fun v9 τ9 τ9h => ?_)
          obtain ⟨rfl, τ9h, τ9f⟩ := τ9h
          show gW Γ E (mM E h ad τ9) 0 0 _ _ (.int (iI (-1)) :: _)
          exact m_iret hΓ dX3_stroke_83 ⟨ri (by rw [if_neg hnstr]), ⟨fun q => absurd q hnstr, fun _ => ⟨by rw [refR, τ9h, show τ1 13 = σ 13 from (funext fun j => τ1f 13 j (by decide))], (funext fun j => τ9f 0 j (by decide)).trans (funext fun j => τ1f 0 j (by decide)), (funext fun j => τ9f 3 j (by decide)).trans (funext fun j => τ1f 3 j (by decide)), (τ9f 4 0 (by decide)).trans (τ1f 4 0 (by decide)), (τ9f 12 0 (by decide)).trans τ1h⟩⟩, (fun k j hk => ((τ9f k j (fun e => hk ((show ∀ x ∈ [13], x ∈ [0, 3, 4, 12, 13] by decide) k e))).trans (τ1f k j (fun e => hk ((show ∀ x ∈ [12], x ∈ [0, 3, 4, 12, 13] by decide) k e)))))⟩
      · exact absurd c7 (by decide)
  · refine g_iload_n hΓ rfl dX3_stroke_18 ?_
    refine g_iconst hΓ dX3_stroke_19 ?_
    refine g_iremN hΓ (by omega) (by omega) (by omega) dX3_stroke_20 ?_
    refine g_if_ne (tgt := 38) hΓ (by omega) dX3_stroke_21 (by decide) (fun c10 => ?_) (fun c10 => ?_)
    · refine g_iconst hΓ dX3_stroke_38 ?_
      refine g_istore_n hΓ dX3_stroke_39 rfl (Nat.le_of_ble_eq_true rfl) (lv' := [some (.ref h), some (.int (iI x2)), some (.int (iI 0)), none]) rfl ?_
      refine g_iconst hΓ dX3_stroke_40 ?_
      refine g_istore_n hΓ dX3_stroke_41 rfl (Nat.le_of_ble_eq_true rfl) (lv' := [some (.ref h), some (.int (iI x2)), some (.int (iI 0)), some (.int (iI 0))]) rfl ?_
      have hnstr : ¬ strC σ := fun z => by
        obtain ⟨z1, z2, z3, -⟩ := z
        omega
      refine g_iload_n hΓ rfl dX3_stroke_42 ?_
      refine g_iload_n hΓ rfl dX3_stroke_43 ?_
      refine g_icmp_ge (tgt := 74) hΓ (by omega) (by omega) dX3_stroke_44 (by decide) (fun c11 => ?_) (fun c11 => ?_)
      · refine g_iload_n hΓ rfl dX3_stroke_74 ?_
        refine g_if_ne (tgt := 84) hΓ (by omega) dX3_stroke_75 (by decide) (fun c12 => ?_) (fun c12 => ?_)
        · exact absurd c12 (by decide)
        · refine g_aload_n hΓ rfl dX3_stroke_78 ?_
          refine g_iconst hΓ dX3_stroke_79 ?_
          refine m_callV (As := [.int (iI 2)]) (rest := []) hok hΓ (m_refuses hok τ1 2 (by first | assumption | omega)) rfl q1485 q1487 qs56 q131 q1488 ndX3_refuses rfl (by decide) (by decide) rfl rfl (Nat.le_of_ble_eq_true rfl) dX3_stroke_80 rfl (fun v13 τ13 τ13h => ?_)
          obtain ⟨rfl, τ13h, τ13f⟩ := τ13h
          show gW Γ E (mM E h ad τ13) 0 0 _ _ (.int (iI (-1)) :: _)
          exact m_iret hΓ dX3_stroke_83 ⟨ri (by rw [if_neg hnstr]), ⟨fun q => absurd q hnstr, fun _ => ⟨by rw [refR, τ13h, show τ1 13 = σ 13 from (funext fun j => τ1f 13 j (by decide))], (funext fun j => τ13f 0 j (by decide)).trans (funext fun j => τ1f 0 j (by decide)), (funext fun j => τ13f 3 j (by decide)).trans (funext fun j => τ1f 3 j (by decide)), (τ13f 4 0 (by decide)).trans (τ1f 4 0 (by decide)), (τ13f 12 0 (by decide)).trans τ1h⟩⟩, (fun k j hk => ((τ13f k j (fun e => hk ((show ∀ x ∈ [13], x ∈ [0, 3, 4, 12, 13] by decide) k e))).trans (τ1f k j (fun e => hk ((show ∀ x ∈ [12], x ∈ [0, 3, 4, 12, 13] by decide) k e)))))⟩
      · refine g_iload_n hΓ rfl dX3_stroke_47 ?_
        refine g_if_eq (tgt := 74) hΓ (by omega) dX3_stroke_48 (by decide) (fun c14 => ?_) (fun c14 => ?_)
        · refine g_iload_n hΓ rfl dX3_stroke_74 ?_
          refine g_if_ne (tgt := 84) hΓ (by omega) dX3_stroke_75 (by decide) (fun c15 => ?_) (fun c15 => ?_)
          · exact absurd c15 (by decide)
          · refine g_aload_n hΓ rfl dX3_stroke_78 ?_
            refine g_iconst hΓ dX3_stroke_79 ?_
            refine m_callV (As := [.int (iI 2)]) (rest := []) hok hΓ (m_refuses hok τ1 2 (by first | assumption | omega)) rfl q1485 q1487 qs56 q131 q1488 ndX3_refuses rfl (by decide) (by decide) rfl rfl (Nat.le_of_ble_eq_true rfl) dX3_stroke_80 rfl (fun v16 τ16 τ16h => ?_)
            obtain ⟨rfl, τ16h, τ16f⟩ := τ16h
            show gW Γ E (mM E h ad τ16) 0 0 _ _ (.int (iI (-1)) :: _)
            exact m_iret hΓ dX3_stroke_83 ⟨ri (by rw [if_neg hnstr]), ⟨fun q => absurd q hnstr, fun _ => ⟨by rw [refR, τ16h, show τ1 13 = σ 13 from (funext fun j => τ1f 13 j (by decide))], (funext fun j => τ16f 0 j (by decide)).trans (funext fun j => τ1f 0 j (by decide)), (funext fun j => τ16f 3 j (by decide)).trans (funext fun j => τ1f 3 j (by decide)), (τ16f 4 0 (by decide)).trans (τ1f 4 0 (by decide)), (τ16f 12 0 (by decide)).trans τ1h⟩⟩, (fun k j hk => ((τ16f k j (fun e => hk ((show ∀ x ∈ [13], x ∈ [0, 3, 4, 12, 13] by decide) k e))).trans (τ1f k j (fun e => hk ((show ∀ x ∈ [12], x ∈ [0, 3, 4, 12, 13] by decide) k e)))))⟩
        · exact absurd c14 (by decide)
    · refine g_iload_n hΓ rfl dX3_stroke_24 ?_
      refine g_iconst hΓ dX3_stroke_25 ?_
      refine g_bipush hΓ (by decide) dX3_stroke_26 ?_
      refine m_callS (As := [.int (iI x2), .int (iI 4), .int (iI 24)]) (rest := []) hok hΓ (m_isIn hok τ1 x2 4 24 (by first | assumption | omega) (by first | assumption | omega) (by first | assumption | omega)) rfl q1549 q1550 q131 q1551 ndX3_isIn rfl (by decide) (by decide) rfl (Nat.le_of_ble_eq_true rfl) dX3_stroke_28 rfl (fun v17 τ17 τ17h => ?_)
      obtain ⟨rfl, τ17h⟩ := τ17h
      rw [τ17h]
      clear τ17h
      show gW Γ E (mM E h ad τ1) 0 0 _ _ (.int (iI (if 4 ≤ x2 ∧ x2 ≤ 24 then 1 else 0)) :: _)
      refine g_ifB_eq (tgt := 38) hΓ  dX3_stroke_31 (by decide) (fun c18 => ?_) (fun c18 => ?_)
      · refine g_iconst hΓ dX3_stroke_38 ?_
        refine g_istore_n hΓ dX3_stroke_39 rfl (Nat.le_of_ble_eq_true rfl) (lv' := [some (.ref h), some (.int (iI x2)), some (.int (iI 0)), none]) rfl ?_
        refine g_iconst hΓ dX3_stroke_40 ?_
        refine g_istore_n hΓ dX3_stroke_41 rfl (Nat.le_of_ble_eq_true rfl) (lv' := [some (.ref h), some (.int (iI x2)), some (.int (iI 0)), some (.int (iI 0))]) rfl ?_
        have hnstr : ¬ strC σ := fun z => by
          obtain ⟨z1, z2, z3, -⟩ := z
          omega
        refine g_iload_n hΓ rfl dX3_stroke_42 ?_
        refine g_iload_n hΓ rfl dX3_stroke_43 ?_
        refine g_icmp_ge (tgt := 74) hΓ (by omega) (by omega) dX3_stroke_44 (by decide) (fun c19 => ?_) (fun c19 => ?_)
        · refine g_iload_n hΓ rfl dX3_stroke_74 ?_
          refine g_if_ne (tgt := 84) hΓ (by omega) dX3_stroke_75 (by decide) (fun c20 => ?_) (fun c20 => ?_)
          · exact absurd c20 (by decide)
          · refine g_aload_n hΓ rfl dX3_stroke_78 ?_
            refine g_iconst hΓ dX3_stroke_79 ?_
            refine m_callV (As := [.int (iI 2)]) (rest := []) hok hΓ (m_refuses hok τ1 2 (by first | assumption | omega)) rfl q1485 q1487 qs56 q131 q1488 ndX3_refuses rfl (by decide) (by decide) rfl rfl (Nat.le_of_ble_eq_true rfl) dX3_stroke_80 rfl (fun v21 τ21 τ21h => ?_)
            obtain ⟨rfl, τ21h, τ21f⟩ := τ21h
            show gW Γ E (mM E h ad τ21) 0 0 _ _ (.int (iI (-1)) :: _)
            exact m_iret hΓ dX3_stroke_83 ⟨ri (by rw [if_neg hnstr]), ⟨fun q => absurd q hnstr, fun _ => ⟨by rw [refR, τ21h, show τ1 13 = σ 13 from (funext fun j => τ1f 13 j (by decide))], (funext fun j => τ21f 0 j (by decide)).trans (funext fun j => τ1f 0 j (by decide)), (funext fun j => τ21f 3 j (by decide)).trans (funext fun j => τ1f 3 j (by decide)), (τ21f 4 0 (by decide)).trans (τ1f 4 0 (by decide)), (τ21f 12 0 (by decide)).trans τ1h⟩⟩, (fun k j hk => ((τ21f k j (fun e => hk ((show ∀ x ∈ [13], x ∈ [0, 3, 4, 12, 13] by decide) k e))).trans (τ1f k j (fun e => hk ((show ∀ x ∈ [12], x ∈ [0, 3, 4, 12, 13] by decide) k e)))))⟩
        · refine g_iload_n hΓ rfl dX3_stroke_47 ?_
          refine g_if_eq (tgt := 74) hΓ (by omega) dX3_stroke_48 (by decide) (fun c22 => ?_) (fun c22 => ?_)
          · refine g_iload_n hΓ rfl dX3_stroke_74 ?_
            refine g_if_ne (tgt := 84) hΓ (by omega) dX3_stroke_75 (by decide) (fun c23 => ?_) (fun c23 => ?_)
            · exact absurd c23 (by decide)
            · refine g_aload_n hΓ rfl dX3_stroke_78 ?_
              refine g_iconst hΓ dX3_stroke_79 ?_
              refine m_callV (As := [.int (iI 2)]) (rest := []) hok hΓ (m_refuses hok τ1 2 (by first | assumption | omega)) rfl q1485 q1487 qs56 q131 q1488 ndX3_refuses rfl (by decide) (by decide) rfl rfl (Nat.le_of_ble_eq_true rfl) dX3_stroke_80 rfl (fun v24 τ24 τ24h => ?_)
              obtain ⟨rfl, τ24h, τ24f⟩ := τ24h
              show gW Γ E (mM E h ad τ24) 0 0 _ _ (.int (iI (-1)) :: _)
              exact m_iret hΓ dX3_stroke_83 ⟨ri (by rw [if_neg hnstr]), ⟨fun q => absurd q hnstr, fun _ => ⟨by rw [refR, τ24h, show τ1 13 = σ 13 from (funext fun j => τ1f 13 j (by decide))], (funext fun j => τ24f 0 j (by decide)).trans (funext fun j => τ1f 0 j (by decide)), (funext fun j => τ24f 3 j (by decide)).trans (funext fun j => τ1f 3 j (by decide)), (τ24f 4 0 (by decide)).trans (τ1f 4 0 (by decide)), (τ24f 12 0 (by decide)).trans τ1h⟩⟩, (fun k j hk => ((τ24f k j (fun e => hk ((show ∀ x ∈ [13], x ∈ [0, 3, 4, 12, 13] by decide) k e))).trans (τ1f k j (fun e => hk ((show ∀ x ∈ [12], x ∈ [0, 3, 4, 12, 13] by decide) k e)))))⟩
          · exact absurd c22 (by decide)
      · refine g_iconst hΓ dX3_stroke_34 ?_
        refine g_goto (tgt := 39) hΓ dX3_stroke_35 (by decide) ?_
        refine g_istore_n hΓ dX3_stroke_39 rfl (Nat.le_of_ble_eq_true rfl) (lv' := [some (.ref h), some (.int (iI x2)), some (.int (iI 1)), none]) rfl ?_
        refine g_iconst hΓ dX3_stroke_40 ?_
        refine g_istore_n hΓ dX3_stroke_41 rfl (Nat.le_of_ble_eq_true rfl) (lv' := [some (.ref h), some (.int (iI x2)), some (.int (iI 1)), some (.int (iI 0))]) rfl ?_
        have loop : ∀ (fu : Nat) (b : Int) (k : Int), (x2 - k).toNat < fu → (0 ≤ k ∧ k ≤ x2) → (b = 0 ∨ b = 1) → (b = 1 ↔ smlF (σ 11) k.toNat = true) → gW Γ E (mM E h ad τ1) 0 0 42 [some (.ref h), some (.int (iI x2)), some (.int (iI b)), some (.int (iI k))] [] := by
          intro fu
          induction fu with
          | zero => intro b k hn; exact absurd hn (Nat.not_lt_zero _)
          | succ fu ih_loop =>
            intro b k hn hk hb hS
            refine g_iload_n hΓ rfl dX3_stroke_42 ?_
            refine g_iload_n hΓ rfl dX3_stroke_43 ?_
            refine g_icmp_ge (tgt := 74) hΓ (by omega) (by omega) dX3_stroke_44 (by decide) (fun c25 => ?_) (fun c25 => ?_)
            · refine g_iload_n hΓ rfl dX3_stroke_74 ?_
              refine g_if_ne (tgt := 84) hΓ (by omega) dX3_stroke_75 (by decide) (fun c26 => ?_) (fun c26 => ?_)
              · have hkn : k = x2 := by omega
                have hun1 : 0 ≤ τ1 4 0 ∧ τ1 4 0 ≤ 20 := by rw [τ1f 4 0 (by decide)]; exact hun
                refine g_aload_n hΓ rfl dX3_stroke_84 ?_
                refine m_callV (As := []) (rest := []) hok hΓ (m_remembers hok τ1  (by first | assumption | omega)) rfl q1927 q1929 qs118 q131 q1930 ndX3_remembers rfl (by decide) (by decide) rfl rfl (Nat.le_of_ble_eq_true rfl) dX3_stroke_85 rfl (fun v27 τ27 τ27h => ?_)
                obtain ⟨rfl, τ27h, τ27f⟩ := τ27h
                refine g_iconst hΓ dX3_stroke_88 ?_
                refine g_istore_n hΓ dX3_stroke_89 rfl (Nat.le_of_ble_eq_true rfl) (lv' := [some (.ref h), some (.int (iI x2)), some (.int (iI b)), some (.int (iI 0))]) rfl ?_
                have τ270 : τ27 0 = σ 0 := funext fun j => ((τ27f 0 j (by decide)).trans (τ1f 0 j (by decide)))
                have hstr : strC σ := ⟨by omega, by omega, by omega, by have z := hS.1 (by omega); rw [show k.toNat = (σ 12 0).toNat by omega] at z; exact z⟩
                have loop2 : ∀ (fu : Nat) (k2 : Int) (t : mS), (x2 - k2).toNat < fu → (0 ≤ k2 ∧ k2 ≤ x2) → (∀ j, t 0 j = if 24 * σ 0 1009 ≤ j ∧ j < 24 * σ 0 1009 + k2 then σ 11 (j - 24 * σ 0 1009) else σ 0 j) → (∀ (k : Nat) (j : Int), k ∉ [0] → t k j = τ27 k j) → gW Γ E (mM E h ad t) 0 0 90 [some (.ref h), some (.int (iI x2)), some (.int (iI b)), some (.int (iI k2))] [] := by
                  intro fu
                  induction fu with
                  | zero => intro k2 t hn; exact absurd hn (Nat.not_lt_zero _)
                  | succ fu ih_loop2 =>
                    intro k2 t hn hk2 hA tf
                    have h9 : t 0 1009 = σ 0 1009 := by rw [hA, if_neg (by omega)]
                    refine g_iload_n hΓ rfl dX3_stroke_90 ?_
                    refine g_iload_n hΓ rfl dX3_stroke_91 ?_
                    refine g_icmp_ge (tgt := 127) hΓ (by omega) (by omega) dX3_stroke_92 (by decide) (fun c28 => ?_) (fun c28 => ?_)
                    · refine g_aload_n hΓ rfl dX3_stroke_127 ?_
                      refine m_geta hok hΓ 0 (by decide) rfl rfl q1357 rfl dX3_stroke_128 ?_
                      refine g_sipush hΓ (by decide) dX3_stroke_131 ?_
                      refine g_aload_n hΓ rfl dX3_stroke_134 ?_
                      refine m_geta hok hΓ 0 (by decide) rfl rfl q1357 rfl dX3_stroke_135 ?_
                      refine g_sipush hΓ (by decide) dX3_stroke_138 ?_
                      refine m_ald hok hΓ 0 (by decide) rfl (n := 1048) rfl (by omega) (by decide) dX3_stroke_141 ?_
                      refine g_iadd hΓ dX3_stroke_142 ?_
                      refine g_iload_n hΓ rfl dX3_stroke_143 ?_
                      refine g_iconst hΓ dX3_stroke_144 ?_
                      refine g_idivN hΓ (by omega) (by omega) (by omega) dX3_stroke_145 ?_
                      refine m_ast hok hΓ 0 (by decide) rfl (n := 1048) rfl (by omega) (by decide) dX3_stroke_146 (fun τ29 τ29e => ?_)
                      have τ29r : τ29 0 (960 + (t 0 1009)) = x2 / 2 := by rw [τ29e]; exact us_s _ _ _ _
                      have τ29f : ∀ (k9 : Nat) (j9 : Int), (k9 ≠ 0 ∨ j9 ≠ (960 + (t 0 1009))) → τ29 k9 j9 = t k9 j9 := fun k9 j9 hh => by rw [τ29e]; exact us_n hh
                      refine g_aload_n hΓ rfl dX3_stroke_147 ?_
                      refine m_geta hok hΓ 0 (by decide) rfl rfl q1357 rfl dX3_stroke_148 ?_
                      refine g_sipush hΓ (by decide) dX3_stroke_151 ?_
                      refine g_dup2 hΓ rfl rfl dX3_stroke_154 ?_
                      refine m_ald hok hΓ 0 (by decide) rfl (n := 1048) rfl (by omega) (by decide) dX3_stroke_155 ?_
                      refine g_iconst hΓ dX3_stroke_156 ?_
                      refine g_iadd hΓ dX3_stroke_157 ?_
                      refine m_ast hok hΓ 0 (by decide) rfl (n := 1048) rfl (by omega) (by decide) dX3_stroke_158 (fun τ30 τ30e => ?_)
                      have τ30r : τ30 0 1009 = (τ29 0 1009) + 1 := by rw [τ30e]; exact us_s _ _ _ _
                      have τ30f : ∀ (k9 : Nat) (j9 : Int), (k9 ≠ 0 ∨ j9 ≠ 1009) → τ30 k9 j9 = τ29 k9 j9 := fun k9 j9 hh => by rw [τ30e]; exact us_n hh
                      refine g_aload_n hΓ rfl dX3_stroke_159 ?_
                      refine m_geta hok hΓ 0 (by decide) rfl rfl q1357 rfl dX3_stroke_160 ?_
                      refine g_sipush hΓ (by decide) dX3_stroke_163 ?_
                      refine m_ald hok hΓ 0 (by decide) rfl (n := 1048) rfl (by omega) (by decide) dX3_stroke_166 ?_
                      refine g_topi (τ30r) ?_
                      refine g_iconst hΓ dX3_stroke_167 ?_
                      refine g_isub hΓ dX3_stroke_168 ?_
                      exact m_iret hΓ dX3_stroke_169 ⟨ri (by rw [if_pos hstr]; have z9 := τ29f 0 1009 (Or.inr (by omega)); omega), ⟨fun _ => ⟨funext fun j => by
                          rw [skF]
                          by_cases z : j = 1009
                          · rw [if_pos z, z, τ30r, τ29f 0 1009 (Or.inr (by omega)), h9]
                          · rw [if_neg z, τ30f 0 j (Or.inr z)]
                            by_cases y : j = 960 + t 0 1009
                            · rw [y, τ29r, if_pos (by omega)]; omega
                            · rw [τ29f 0 j (Or.inr y), hA j, if_neg (show ¬ j = 960 + σ 0 1009 by omega), show k2 = σ 12 0 by omega], ⟨(funext fun j => τ30f 3 j (Or.inl (by decide))).trans ((funext fun j => τ29f 3 j (Or.inl (by decide))).trans ((funext fun j => tf 3 j (by decide)).trans (τ27h.1.trans (by rw [rmK, rmK, show τ1 0 = σ 0 from (funext fun j => τ1f 0 j (by decide)), show τ1 3 = σ 3 from (funext fun j => τ1f 3 j (by decide)), τ1f 4 0 (by decide)])))), (τ30f 4 0 (Or.inl (by decide))).trans ((τ29f 4 0 (Or.inl (by decide))).trans ((tf 4 0 (by decide)).trans (τ27h.2.trans (by rw [τ1f 4 0 (by decide)]))))⟩, (funext fun j => τ30f 13 j (Or.inl (by decide))).trans ((funext fun j => τ29f 13 j (Or.inl (by decide))).trans ((funext fun j => tf 13 j (by decide)).trans ((funext fun j => τ27f 13 j (by decide)).trans (funext fun j => τ1f 13 j (by decide))))), (τ30f 12 0 (Or.inl (by decide))).trans ((τ29f 12 0 (Or.inl (by decide))).trans ((tf 12 0 (by decide)).trans ((τ27f 12 0 (by decide)).trans τ1h)))⟩, fun q => absurd hstr q⟩, (fun k j hk => (((((τ30f k j (Or.inl (fun e => hk (by rw [e]; decide)))).trans (τ29f k j (Or.inl (fun e => hk (by rw [e]; decide))))).trans (tf k j (fun e => hk ((show ∀ x ∈ [0], x ∈ [0, 3, 4, 12, 13] by decide) k e)))).trans (τ27f k j (fun e => hk ((show ∀ x ∈ [3, 4], x ∈ [0, 3, 4, 12, 13] by decide) k e)))).trans (τ1f k j (fun e => hk ((show ∀ x ∈ [12], x ∈ [0, 3, 4, 12, 13] by decide) k e)))))⟩
                    · refine g_aload_n hΓ rfl dX3_stroke_95 ?_
                      refine m_geta hok hΓ 0 (by decide) rfl rfl q1357 rfl dX3_stroke_96 ?_
                      refine g_iconst hΓ dX3_stroke_99 ?_
                      refine g_bipush hΓ (by decide) dX3_stroke_100 ?_
                      refine g_aload_n hΓ rfl dX3_stroke_102 ?_
                      refine m_geta hok hΓ 0 (by decide) rfl rfl q1357 rfl dX3_stroke_103 ?_
                      refine g_sipush hΓ (by decide) dX3_stroke_106 ?_
                      refine m_ald hok hΓ 0 (by decide) rfl (n := 1048) rfl (by omega) (by decide) dX3_stroke_109 ?_
                      refine g_imul hΓ dX3_stroke_110 ?_
                      refine g_iadd hΓ dX3_stroke_111 ?_
                      refine g_iload_n hΓ rfl dX3_stroke_112 ?_
                      refine g_iadd hΓ dX3_stroke_113 ?_
                      refine g_aload_n hΓ rfl dX3_stroke_114 ?_
                      refine m_geta hok hΓ 11 (by decide) rfl rfl q1368 rfl dX3_stroke_115 ?_
                      refine g_iload_n hΓ rfl dX3_stroke_118 ?_
                      refine m_ald hok hΓ 11 (by decide) rfl (n := 1600) rfl (by omega) (by decide) dX3_stroke_119 ?_
                      refine g_topi ((((tf 11 k2 (by decide)).trans (τ27f 11 k2 (by decide))).trans (τ1f 11 k2 (by decide)))) ?_
                      refine m_ast hok hΓ 0 (by decide) rfl (n := 1048) rfl (by omega) (by decide) dX3_stroke_120 (fun τ31 τ31e => ?_)
                      have τ31r : τ31 0 ((0 + (24 * (t 0 1009))) + k2) = σ 11 k2 := by rw [τ31e]; exact us_s _ _ _ _
                      have τ31f : ∀ (k9 : Nat) (j9 : Int), (k9 ≠ 0 ∨ j9 ≠ ((0 + (24 * (t 0 1009))) + k2)) → τ31 k9 j9 = t k9 j9 := fun k9 j9 hh => by rw [τ31e]; exact us_n hh
                      obtain ⟨x32, ex32⟩ : ∃ z9 : Int, z9 = k2 + 1 := ⟨_, rfl⟩
                      refine g_iinc hΓ dX3_stroke_121 rfl rfl (lv' := [some (.ref h), some (.int (iI x2)), some (.int (iI b)), some (.int (iI x32))]) (by rw [ex32]; rfl) ?_
                      refine g_goto (tgt := 90) hΓ dX3_stroke_124 (by decide) ?_
                      exact ih_loop2 x32 τ31 (by omega) (by omega) (fun j => by
                          by_cases z : j = 0 + 24 * t 0 1009 + k2
                          · rw [z, τ31r, if_pos (by omega)]
                            congr 1; omega
                          · rw [τ31f 0 j (Or.inr z), hA j]
                            by_cases y : 24 * σ 0 1009 ≤ j ∧ j < 24 * σ 0 1009 + k2
                            · rw [if_pos y, if_pos (by omega)]
                            · rw [if_neg y, if_neg (show ¬ (24 * σ 0 1009 ≤ j ∧ j < 24 * σ 0 1009 + x32) by omega)]) (fun k9 j9 hk9 => (τ31f k9 j9 (Or.inl (fun e => hk9 (by rw [e]; decide)))).trans (tf k9 j9 hk9))
                exact loop2 1601 0 τ27 (by omega) (by omega) (fun j => by rw [if_neg (by omega), τ270]) (fun k j _ => rfl)
              · have hnstr : ¬ strC σ := fun z => by
                  have z2 := z.2.2.2
                  by_cases y : k = x2
                  · rw [show (σ 12 0).toNat = k.toNat by omega] at z2
                    have := hS.2 z2
                    omega
                  · have hf : ¬ smlF (σ 11) k.toNat = true := fun q => by have := hS.2 q; omega
                    exact hf (smlF_sub z2 (by omega))
                refine g_aload_n hΓ rfl dX3_stroke_78 ?_
                refine g_iconst hΓ dX3_stroke_79 ?_
                refine m_callV (As := [.int (iI 2)]) (rest := []) hok hΓ (m_refuses hok τ1 2 (by first | assumption | omega)) rfl q1485 q1487 qs56 q131 q1488 ndX3_refuses rfl (by decide) (by decide) rfl rfl (Nat.le_of_ble_eq_true rfl) dX3_stroke_80 rfl (fun v33 τ33 τ33h => ?_)
                obtain ⟨rfl, τ33h, τ33f⟩ := τ33h
                show gW Γ E (mM E h ad τ33) 0 0 _ _ (.int (iI (-1)) :: _)
                exact m_iret hΓ dX3_stroke_83 ⟨ri (by rw [if_neg hnstr]), ⟨fun q => absurd q hnstr, fun _ => ⟨by rw [refR, τ33h, show τ1 13 = σ 13 from (funext fun j => τ1f 13 j (by decide))], (funext fun j => τ33f 0 j (by decide)).trans (funext fun j => τ1f 0 j (by decide)), (funext fun j => τ33f 3 j (by decide)).trans (funext fun j => τ1f 3 j (by decide)), (τ33f 4 0 (by decide)).trans (τ1f 4 0 (by decide)), (τ33f 12 0 (by decide)).trans τ1h⟩⟩, (fun k j hk => ((τ33f k j (fun e => hk ((show ∀ x ∈ [13], x ∈ [0, 3, 4, 12, 13] by decide) k e))).trans (τ1f k j (fun e => hk ((show ∀ x ∈ [12], x ∈ [0, 3, 4, 12, 13] by decide) k e)))))⟩
            · refine g_iload_n hΓ rfl dX3_stroke_47 ?_
              refine g_if_eq (tgt := 74) hΓ (by omega) dX3_stroke_48 (by decide) (fun c34 => ?_) (fun c34 => ?_)
              · refine g_iload_n hΓ rfl dX3_stroke_74 ?_
                refine g_if_ne (tgt := 84) hΓ (by omega) dX3_stroke_75 (by decide) (fun c35 => ?_) (fun c35 => ?_)
                · have hkn : k = x2 := by omega
                  have hun1 : 0 ≤ τ1 4 0 ∧ τ1 4 0 ≤ 20 := by rw [τ1f 4 0 (by decide)]; exact hun
                  refine g_aload_n hΓ rfl dX3_stroke_84 ?_
                  refine m_callV (As := []) (rest := []) hok hΓ (m_remembers hok τ1  (by first | assumption | omega)) rfl q1927 q1929 qs118 q131 q1930 ndX3_remembers rfl (by decide) (by decide) rfl rfl (Nat.le_of_ble_eq_true rfl) dX3_stroke_85 rfl (fun v36 τ36 τ36h => ?_)
                  obtain ⟨rfl, τ36h, τ36f⟩ := τ36h
                  refine g_iconst hΓ dX3_stroke_88 ?_
                  refine g_istore_n hΓ dX3_stroke_89 rfl (Nat.le_of_ble_eq_true rfl) (lv' := [some (.ref h), some (.int (iI x2)), some (.int (iI b)), some (.int (iI 0))]) rfl ?_
                  have τ360 : τ36 0 = σ 0 := funext fun j => ((τ36f 0 j (by decide)).trans (τ1f 0 j (by decide)))
                  have hstr : strC σ := ⟨by omega, by omega, by omega, by have z := hS.1 (by omega); rw [show k.toNat = (σ 12 0).toNat by omega] at z; exact z⟩
                  have loop2 : ∀ (fu : Nat) (k2 : Int) (t : mS), (x2 - k2).toNat < fu → (0 ≤ k2 ∧ k2 ≤ x2) → (∀ j, t 0 j = if 24 * σ 0 1009 ≤ j ∧ j < 24 * σ 0 1009 + k2 then σ 11 (j - 24 * σ 0 1009) else σ 0 j) → (∀ (k : Nat) (j : Int), k ∉ [0] → t k j = τ36 k j) → gW Γ E (mM E h ad t) 0 0 90 [some (.ref h), some (.int (iI x2)), some (.int (iI b)), some (.int (iI k2))] [] := by
                    intro fu
                    induction fu with
                    | zero => intro k2 t hn; exact absurd hn (Nat.not_lt_zero _)
                    | succ fu ih_loop2 =>
                      intro k2 t hn hk2 hA tf
                      have h9 : t 0 1009 = σ 0 1009 := by rw [hA, if_neg (by omega)]
                      refine g_iload_n hΓ rfl dX3_stroke_90 ?_
                      refine g_iload_n hΓ rfl dX3_stroke_91 ?_
                      refine g_icmp_ge (tgt := 127) hΓ (by omega) (by omega) dX3_stroke_92 (by decide) (fun c37 => ?_) (fun c37 => ?_)
                      · refine g_aload_n hΓ rfl dX3_stroke_127 ?_
                        refine m_geta hok hΓ 0 (by decide) rfl rfl q1357 rfl dX3_stroke_128 ?_
                        refine g_sipush hΓ (by decide) dX3_stroke_131 ?_
                        refine g_aload_n hΓ rfl dX3_stroke_134 ?_
                        refine m_geta hok hΓ 0 (by decide) rfl rfl q1357 rfl dX3_stroke_135 ?_
                        refine g_sipush hΓ (by decide) dX3_stroke_138 ?_
                        refine m_ald hok hΓ 0 (by decide) rfl (n := 1048) rfl (by omega) (by decide) dX3_stroke_141 ?_
                        refine g_iadd hΓ dX3_stroke_142 ?_
                        refine g_iload_n hΓ rfl dX3_stroke_143 ?_
                        refine g_iconst hΓ dX3_stroke_144 ?_
                        refine g_idivN hΓ (by omega) (by omega) (by omega) dX3_stroke_145 ?_
                        refine m_ast hok hΓ 0 (by decide) rfl (n := 1048) rfl (by omega) (by decide) dX3_stroke_146 (fun τ38 τ38e => ?_)
                        have τ38r : τ38 0 (960 + (t 0 1009)) = x2 / 2 := by rw [τ38e]; exact us_s _ _ _ _
                        have τ38f : ∀ (k9 : Nat) (j9 : Int), (k9 ≠ 0 ∨ j9 ≠ (960 + (t 0 1009))) → τ38 k9 j9 = t k9 j9 := fun k9 j9 hh => by rw [τ38e]; exact us_n hh
                        refine g_aload_n hΓ rfl dX3_stroke_147 ?_
                        refine m_geta hok hΓ 0 (by decide) rfl rfl q1357 rfl dX3_stroke_148 ?_
                        refine g_sipush hΓ (by decide) dX3_stroke_151 ?_
                        refine g_dup2 hΓ rfl rfl dX3_stroke_154 ?_
                        refine m_ald hok hΓ 0 (by decide) rfl (n := 1048) rfl (by omega) (by decide) dX3_stroke_155 ?_
                        refine g_iconst hΓ dX3_stroke_156 ?_
                        refine g_iadd hΓ dX3_stroke_157 ?_
                        refine m_ast hok hΓ 0 (by decide) rfl (n := 1048) rfl (by omega) (by decide) dX3_stroke_158 (fun τ39 τ39e => ?_)
                        have τ39r : τ39 0 1009 = (τ38 0 1009) + 1 := by rw [τ39e]; exact us_s _ _ _ _
                        have τ39f : ∀ (k9 : Nat) (j9 : Int), (k9 ≠ 0 ∨ j9 ≠ 1009) → τ39 k9 j9 = τ38 k9 j9 := fun k9 j9 hh => by rw [τ39e]; exact us_n hh
                        refine g_aload_n hΓ rfl dX3_stroke_159 ?_
                        refine m_geta hok hΓ 0 (by decide) rfl rfl q1357 rfl dX3_stroke_160 ?_
                        refine g_sipush hΓ (by decide) dX3_stroke_163 ?_
                        refine m_ald hok hΓ 0 (by decide) rfl (n := 1048) rfl (by omega) (by decide) dX3_stroke_166 ?_
                        refine g_topi (τ39r) ?_
                        refine g_iconst hΓ dX3_stroke_167 ?_
                        refine g_isub hΓ dX3_stroke_168 ?_
                        exact m_iret hΓ dX3_stroke_169 ⟨ri (by rw [if_pos hstr]; have z9 := τ38f 0 1009 (Or.inr (by omega)); omega), ⟨fun _ => ⟨funext fun j => by
                            rw [skF]
                            by_cases z : j = 1009
                            · rw [if_pos z, z, τ39r, τ38f 0 1009 (Or.inr (by omega)), h9]
                            · rw [if_neg z, τ39f 0 j (Or.inr z)]
                              by_cases y : j = 960 + t 0 1009
                              · rw [y, τ38r, if_pos (by omega)]; omega
                              · rw [τ38f 0 j (Or.inr y), hA j, if_neg (show ¬ j = 960 + σ 0 1009 by omega), show k2 = σ 12 0 by omega], ⟨(funext fun j => τ39f 3 j (Or.inl (by decide))).trans ((funext fun j => τ38f 3 j (Or.inl (by decide))).trans ((funext fun j => tf 3 j (by decide)).trans (τ36h.1.trans (by rw [rmK, rmK, show τ1 0 = σ 0 from (funext fun j => τ1f 0 j (by decide)), show τ1 3 = σ 3 from (funext fun j => τ1f 3 j (by decide)), τ1f 4 0 (by decide)])))), (τ39f 4 0 (Or.inl (by decide))).trans ((τ38f 4 0 (Or.inl (by decide))).trans ((tf 4 0 (by decide)).trans (τ36h.2.trans (by rw [τ1f 4 0 (by decide)]))))⟩, (funext fun j => τ39f 13 j (Or.inl (by decide))).trans ((funext fun j => τ38f 13 j (Or.inl (by decide))).trans ((funext fun j => tf 13 j (by decide)).trans ((funext fun j => τ36f 13 j (by decide)).trans (funext fun j => τ1f 13 j (by decide))))), (τ39f 12 0 (Or.inl (by decide))).trans ((τ38f 12 0 (Or.inl (by decide))).trans ((tf 12 0 (by decide)).trans ((τ36f 12 0 (by decide)).trans τ1h)))⟩, fun q => absurd hstr q⟩, (fun k j hk => (((((τ39f k j (Or.inl (fun e => hk (by rw [e]; decide)))).trans (τ38f k j (Or.inl (fun e => hk (by rw [e]; decide))))).trans (tf k j (fun e => hk ((show ∀ x ∈ [0], x ∈ [0, 3, 4, 12, 13] by decide) k e)))).trans (τ36f k j (fun e => hk ((show ∀ x ∈ [3, 4], x ∈ [0, 3, 4, 12, 13] by decide) k e)))).trans (τ1f k j (fun e => hk ((show ∀ x ∈ [12], x ∈ [0, 3, 4, 12, 13] by decide) k e)))))⟩
                      · refine g_aload_n hΓ rfl dX3_stroke_95 ?_
                        refine m_geta hok hΓ 0 (by decide) rfl rfl q1357 rfl dX3_stroke_96 ?_
                        refine g_iconst hΓ dX3_stroke_99 ?_
                        refine g_bipush hΓ (by decide) dX3_stroke_100 ?_
                        refine g_aload_n hΓ rfl dX3_stroke_102 ?_
                        refine m_geta hok hΓ 0 (by decide) rfl rfl q1357 rfl dX3_stroke_103 ?_
                        refine g_sipush hΓ (by decide) dX3_stroke_106 ?_
                        refine m_ald hok hΓ 0 (by decide) rfl (n := 1048) rfl (by omega) (by decide) dX3_stroke_109 ?_
                        refine g_imul hΓ dX3_stroke_110 ?_
                        refine g_iadd hΓ dX3_stroke_111 ?_
                        refine g_iload_n hΓ rfl dX3_stroke_112 ?_
                        refine g_iadd hΓ dX3_stroke_113 ?_
                        refine g_aload_n hΓ rfl dX3_stroke_114 ?_
                        refine m_geta hok hΓ 11 (by decide) rfl rfl q1368 rfl dX3_stroke_115 ?_
                        refine g_iload_n hΓ rfl dX3_stroke_118 ?_
                        refine m_ald hok hΓ 11 (by decide) rfl (n := 1600) rfl (by omega) (by decide) dX3_stroke_119 ?_
                        refine g_topi ((((tf 11 k2 (by decide)).trans (τ36f 11 k2 (by decide))).trans (τ1f 11 k2 (by decide)))) ?_
                        refine m_ast hok hΓ 0 (by decide) rfl (n := 1048) rfl (by omega) (by decide) dX3_stroke_120 (fun τ40 τ40e => ?_)
                        have τ40r : τ40 0 ((0 + (24 * (t 0 1009))) + k2) = σ 11 k2 := by rw [τ40e]; exact us_s _ _ _ _
                        have τ40f : ∀ (k9 : Nat) (j9 : Int), (k9 ≠ 0 ∨ j9 ≠ ((0 + (24 * (t 0 1009))) + k2)) → τ40 k9 j9 = t k9 j9 := fun k9 j9 hh => by rw [τ40e]; exact us_n hh
                        obtain ⟨x41, ex41⟩ : ∃ z9 : Int, z9 = k2 + 1 := ⟨_, rfl⟩
                        refine g_iinc hΓ dX3_stroke_121 rfl rfl (lv' := [some (.ref h), some (.int (iI x2)), some (.int (iI b)), some (.int (iI x41))]) (by rw [ex41]; rfl) ?_
                        refine g_goto (tgt := 90) hΓ dX3_stroke_124 (by decide) ?_
                        exact ih_loop2 x41 τ40 (by omega) (by omega) (fun j => by
                            by_cases z : j = 0 + 24 * t 0 1009 + k2
                            · rw [z, τ40r, if_pos (by omega)]
                              congr 1; omega
                            · rw [τ40f 0 j (Or.inr z), hA j]
                              by_cases y : 24 * σ 0 1009 ≤ j ∧ j < 24 * σ 0 1009 + k2
                              · rw [if_pos y, if_pos (by omega)]
                              · rw [if_neg y, if_neg (show ¬ (24 * σ 0 1009 ≤ j ∧ j < 24 * σ 0 1009 + x41) by omega)]) (fun k9 j9 hk9 => (τ40f k9 j9 (Or.inl (fun e => hk9 (by rw [e]; decide)))).trans (tf k9 j9 hk9))
                  exact loop2 1601 0 τ36 (by omega) (by omega) (fun j => by rw [if_neg (by omega), τ360]) (fun k j _ => rfl)
                · have hnstr : ¬ strC σ := fun z => by
                    have z2 := z.2.2.2
                    by_cases y : k = x2
                    · rw [show (σ 12 0).toNat = k.toNat by omega] at z2
                      have := hS.2 z2
                      omega
                    · have hf : ¬ smlF (σ 11) k.toNat = true := fun q => by have := hS.2 q; omega
                      exact hf (smlF_sub z2 (by omega))
                  refine g_aload_n hΓ rfl dX3_stroke_78 ?_
                  refine g_iconst hΓ dX3_stroke_79 ?_
                  refine m_callV (As := [.int (iI 2)]) (rest := []) hok hΓ (m_refuses hok τ1 2 (by first | assumption | omega)) rfl q1485 q1487 qs56 q131 q1488 ndX3_refuses rfl (by decide) (by decide) rfl rfl (Nat.le_of_ble_eq_true rfl) dX3_stroke_80 rfl (fun v42 τ42 τ42h => ?_)
                  obtain ⟨rfl, τ42h, τ42f⟩ := τ42h
                  show gW Γ E (mM E h ad τ42) 0 0 _ _ (.int (iI (-1)) :: _)
                  exact m_iret hΓ dX3_stroke_83 ⟨ri (by rw [if_neg hnstr]), ⟨fun q => absurd q hnstr, fun _ => ⟨by rw [refR, τ42h, show τ1 13 = σ 13 from (funext fun j => τ1f 13 j (by decide))], (funext fun j => τ42f 0 j (by decide)).trans (funext fun j => τ1f 0 j (by decide)), (funext fun j => τ42f 3 j (by decide)).trans (funext fun j => τ1f 3 j (by decide)), (τ42f 4 0 (by decide)).trans (τ1f 4 0 (by decide)), (τ42f 12 0 (by decide)).trans τ1h⟩⟩, (fun k j hk => ((τ42f k j (fun e => hk ((show ∀ x ∈ [13], x ∈ [0, 3, 4, 12, 13] by decide) k e))).trans (τ1f k j (fun e => hk ((show ∀ x ∈ [12], x ∈ [0, 3, 4, 12, 13] by decide) k e)))))⟩
              · have htk := htp k (by omega) (by omega)
                refine g_aload_n hΓ rfl dX3_stroke_51 ?_
                refine m_geta hok hΓ 11 (by decide) rfl rfl q1368 rfl dX3_stroke_52 ?_
                refine g_iload_n hΓ rfl dX3_stroke_55 ?_
                refine m_ald hok hΓ 11 (by decide) rfl (n := 1600) rfl (by omega) (by decide) dX3_stroke_56 ?_
                refine g_topi ((τ1f 11 k (by decide))) ?_
                refine g_bipush hΓ (by decide) dX3_stroke_57 ?_
                refine g_icmp_gt (tgt := 66) hΓ (by omega) (by omega) dX3_stroke_59 (by decide) (fun c43 => ?_) (fun c43 => ?_)
                · refine g_iconst hΓ dX3_stroke_66 ?_
                  refine g_istore_n hΓ dX3_stroke_67 rfl (Nat.le_of_ble_eq_true rfl) (lv' := [some (.ref h), some (.int (iI x2)), some (.int (iI 0)), some (.int (iI k))]) rfl ?_
                  obtain ⟨x44, ex44⟩ : ∃ z9 : Int, z9 = k + 1 := ⟨_, rfl⟩
                  refine g_iinc hΓ dX3_stroke_68 rfl rfl (lv' := [some (.ref h), some (.int (iI x2)), some (.int (iI 0)), some (.int (iI x44))]) (by rw [ex44]; rfl) ?_
                  refine g_goto (tgt := 42) hΓ dX3_stroke_71 (by decide) ?_
                  exact ih_loop 0 x44 (by omega) (by omega) (by omega) (by rw [show x44.toNat = k.toNat + 1 by omega, smlF, Bool.and_eq_true, show ((k.toNat : Nat) : Int) = k by omega]; exact ⟨fun q => absurd q (by decide), fun q => absurd (of_decide_eq_true q.2) (by omega)⟩)
                · refine g_iconst hΓ dX3_stroke_62 ?_
                  refine g_goto (tgt := 67) hΓ dX3_stroke_63 (by decide) ?_
                  refine g_istore_n hΓ dX3_stroke_67 rfl (Nat.le_of_ble_eq_true rfl) (lv' := [some (.ref h), some (.int (iI x2)), some (.int (iI 1)), some (.int (iI k))]) rfl ?_
                  obtain ⟨x45, ex45⟩ : ∃ z9 : Int, z9 = k + 1 := ⟨_, rfl⟩
                  refine g_iinc hΓ dX3_stroke_68 rfl rfl (lv' := [some (.ref h), some (.int (iI x2)), some (.int (iI 1)), some (.int (iI x45))]) (by rw [ex45]; rfl) ?_
                  refine g_goto (tgt := 42) hΓ dX3_stroke_71 (by decide) ?_
                  exact ih_loop 1 x45 (by omega) (by omega) (by omega) (by rw [show x45.toNat = k.toNat + 1 by omega, smlF, Bool.and_eq_true, show ((k.toNat : Nat) : Int) = k by omega]; exact ⟨fun _ => ⟨(hS.1 (by omega)), decide_eq_true (by omega)⟩, fun _ => rfl⟩)
        exact loop 1601 1 0 (by omega) (by omega) (by omega) ⟨fun _ => rfl, fun _ => rfl⟩
