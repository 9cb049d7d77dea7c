set_option maxRecDepth 100000
set_option maxHeartbeats 4000000 in
theorem m_has {l : Launch} {E : gE} {h : Nat} {ad : Nat → Nat} (hok : mOK E h ad) (σ : mS)  (w : Int) (hw : r32 w) (hr : rowOK (σ 0)) : mC l E h ad yX3_has cX3_has 2 (some .int) 1 [.ref h, .int (iI w)] σ (fun rv σ' => rv = some (.int (iI (if 2 ≤ w ∧ w ≤ 7 then σ 0 (1040 + w) else if w = 0 then σ 0 1000 else if w = 1 then σ 0 1009 else if w = 8 then σ 6 0 else if w = 9 then σ 4 0 else if w = 10 then σ 5 0 else -1))) ∧ σ' = σ) := by
  refine mC.of (by decide) [some (.ref h), some (.int (iI w))] (Nat.le_of_ble_eq_true rfl) rfl rfl (fun Γ hΓ => ?_)
  obtain ⟨h1000, h1009, h1042, h1043, h1044, h1045, h1046, h1047, hms, hsi, hsm, hnm⟩ := id hr
  refine g_iload_n hΓ rfl dX3_has_0 ?_
  refine g_iconst hΓ dX3_has_1 ?_
  refine g_bipush hΓ (by decide) dX3_has_2 ?_
  refine m_callS (As := [.int (iI w), .int (iI 2), .int (iI 7)]) (rest := []) hok hΓ (m_isIn hok σ w 2 7 (by first | assumption | omega) (by first | assumption | omega) (by first | assumption | omega)) rfl q1549 q1550 q131 q1551 ndX3_isIn rfl (by decide) (by decide) rfl (Nat.le_of_ble_eq_true rfl) dX3_has_4 rfl (fun v1 τ1 τ1h => ?_)
  obtain ⟨rfl, τ1h⟩ := τ1h
  rw [τ1h]
  clear τ1h
  show gW Γ E (mM E h ad σ) 0 0 _ _ (.int (iI (if 2 ≤ w ∧ w ≤ 7 then 1 else 0)) :: _)
  refine g_ifB_eq (tgt := 23) hΓ  dX3_has_7 (by decide) (fun c2 => ?_) (fun c2 => ?_)
  · refine g_iload_n hΓ rfl dX3_has_23 ?_
    rcases (show (w < 0 ∨ 10 < w) ∨ w = 0 ∨ w = 1 ∨ w = 2 ∨ w = 3 ∨ w = 4 ∨ w = 5 ∨ w = 6 ∨ w = 7 ∨ w = 8 ∨ w = 9 ∨ w = 10 by omega) with c3 | c3 | c3 | c3 | c3 | c3 | c3 | c3 | c3 | c3 | c3 | c3
    · refine g_tswOut (tgt := 117) hΓ (by omega) dX3_has_24 c3 (by decide) ?_
      refine g_iconst hΓ dX3_has_117 ?_
      exact m_iret hΓ dX3_has_118 ⟨ri (by first | (rw [if_pos (by omega)]; congr 1; omega) | (rw [if_neg (by omega)]; (repeat' split) <;> first | rfl | omega)), rfl⟩
    · refine g_tswIn (tgt := 84) hΓ (by omega) 0 dX3_has_24 (by rw [c3]; decide) (by decide) rfl (by decide) ?_
      refine g_aload_n hΓ rfl dX3_has_84 ?_
      refine m_geta hok hΓ 0 (by decide) rfl rfl q1357 rfl dX3_has_85 ?_
      refine g_sipush hΓ (by decide) dX3_has_88 ?_
      refine m_ald hok hΓ 0 (by decide) rfl (n := 1048) rfl (by omega) (by decide) dX3_has_91 ?_
      exact m_iret hΓ dX3_has_92 ⟨ri (by first | (rw [if_pos (by omega)]; congr 1; omega) | (rw [if_neg (by omega)]; (repeat' split) <;> first | rfl | omega)), rfl⟩
    · refine g_tswIn (tgt := 93) hΓ (by omega) 1 dX3_has_24 (by rw [c3]; decide) (by decide) rfl (by decide) ?_
      refine g_aload_n hΓ rfl dX3_has_93 ?_
      refine m_geta hok hΓ 0 (by decide) rfl rfl q1357 rfl dX3_has_94 ?_
      refine g_sipush hΓ (by decide) dX3_has_97 ?_
      refine m_ald hok hΓ 0 (by decide) rfl (n := 1048) rfl (by omega) (by decide) dX3_has_100 ?_
      exact m_iret hΓ dX3_has_101 ⟨ri (by first | (rw [if_pos (by omega)]; congr 1; omega) | (rw [if_neg (by omega)]; (repeat' split) <;> first | rfl | omega)), rfl⟩
    · refine g_tswIn (tgt := 117) hΓ (by omega) 2 dX3_has_24 (by rw [c3]; decide) (by decide) rfl (by decide) ?_
      refine g_iconst hΓ dX3_has_117 ?_
      exact m_iret hΓ dX3_has_118 ⟨ri (by first | (rw [if_pos (by omega)]; congr 1; omega) | (rw [if_neg (by omega)]; (repeat' split) <;> first | rfl | omega)), rfl⟩
    · refine g_tswIn (tgt := 117) hΓ (by omega) 3 dX3_has_24 (by rw [c3]; decide) (by decide) rfl (by decide) ?_
      refine g_iconst hΓ dX3_has_117 ?_
      exact m_iret hΓ dX3_has_118 ⟨ri (by first | (rw [if_pos (by omega)]; congr 1; omega) | (rw [if_neg (by omega)]; (repeat' split) <;> first | rfl | omega)), rfl⟩
    · refine g_tswIn (tgt := 117) hΓ (by omega) 4 dX3_has_24 (by rw [c3]; decide) (by decide) rfl (by decide) ?_
      refine g_iconst hΓ dX3_has_117 ?_
      exact m_iret hΓ dX3_has_118 ⟨ri (by first | (rw [if_pos (by omega)]; congr 1; omega) | (rw [if_neg (by omega)]; (repeat' split) <;> first | rfl | omega)), rfl⟩
    · refine g_tswIn (tgt := 117) hΓ (by omega) 5 dX3_has_24 (by rw [c3]; decide) (by decide) rfl (by decide) ?_
      refine g_iconst hΓ dX3_has_117 ?_
      exact m_iret hΓ dX3_has_118 ⟨ri (by first | (rw [if_pos (by omega)]; congr 1; omega) | (rw [if_neg (by omega)]; (repeat' split) <;> first | rfl | omega)), rfl⟩
    · refine g_tswIn (tgt := 117) hΓ (by omega) 6 dX3_has_24 (by rw [c3]; decide) (by decide) rfl (by decide) ?_
      refine g_iconst hΓ dX3_has_117 ?_
      exact m_iret hΓ dX3_has_118 ⟨ri (by first | (rw [if_pos (by omega)]; congr 1; omega) | (rw [if_neg (by omega)]; (repeat' split) <;> first | rfl | omega)), rfl⟩
    · refine g_tswIn (tgt := 117) hΓ (by omega) 7 dX3_has_24 (by rw [c3]; decide) (by decide) rfl (by decide) ?_
      refine g_iconst hΓ dX3_has_117 ?_
      exact m_iret hΓ dX3_has_118 ⟨ri (by first | (rw [if_pos (by omega)]; congr 1; omega) | (rw [if_neg (by omega)]; (repeat' split) <;> first | rfl | omega)), rfl⟩
    · refine g_tswIn (tgt := 102) hΓ (by omega) 8 dX3_has_24 (by rw [c3]; decide) (by decide) rfl (by decide) ?_
      refine g_aload_n hΓ rfl dX3_has_102 ?_
      refine m_geti hok hΓ 6 (by decide) rfl rfl q1363 rfl dX3_has_103 ?_
      exact m_iret hΓ dX3_has_106 ⟨ri (by first | (rw [if_pos (by omega)]; congr 1; omega) | (rw [if_neg (by omega)]; (repeat' split) <;> first | rfl | omega)), rfl⟩
    · refine g_tswIn (tgt := 107) hΓ (by omega) 9 dX3_has_24 (by rw [c3]; decide) (by decide) rfl (by decide) ?_
      refine g_aload_n hΓ rfl dX3_has_107 ?_
      refine m_geti hok hΓ 4 (by decide) rfl rfl q1361 rfl dX3_has_108 ?_
      exact m_iret hΓ dX3_has_111 ⟨ri (by first | (rw [if_pos (by omega)]; congr 1; omega) | (rw [if_neg (by omega)]; (repeat' split) <;> first | rfl | omega)), rfl⟩
    · refine g_tswIn (tgt := 112) hΓ (by omega) 10 dX3_has_24 (by rw [c3]; decide) (by decide) rfl (by decide) ?_
      refine g_aload_n hΓ rfl dX3_has_112 ?_
      refine m_geti hok hΓ 5 (by decide) rfl rfl q1362 rfl dX3_has_113 ?_
      exact m_iret hΓ dX3_has_116 ⟨ri (by first | (rw [if_pos (by omega)]; congr 1; omega) | (rw [if_neg (by omega)]; (repeat' split) <;> first | rfl | omega)), rfl⟩
  · refine g_aload_n hΓ rfl dX3_has_10 ?_
    refine m_geta hok hΓ 0 (by decide) rfl rfl q1357 rfl dX3_has_11 ?_
    refine g_sipush hΓ (by decide) dX3_has_14 ?_
    refine g_iload_n hΓ rfl dX3_has_17 ?_
    refine g_iadd hΓ dX3_has_18 ?_
    refine g_iconst hΓ dX3_has_19 ?_
    refine g_isub hΓ dX3_has_20 ?_
    refine m_ald hok hΓ 0 (by decide) rfl (n := 1048) rfl (by omega) (by decide) dX3_has_21 ?_
    exact m_iret hΓ dX3_has_22 ⟨ri (by first | (rw [if_pos (by omega)]; congr 1; omega) | (rw [if_neg (by omega)]; (repeat' split) <;> first | rfl | omega)), rfl⟩
set_option maxHeartbeats 4000000 in
theorem m_laysCodes {l : Launch} {E : gE} {h : Nat} {ad : Nat → Nat} (hok : mOK E h ad) (σ : mS)  (s : Int) (hs : 0 ≤ s ∧ s < 104) (hsk : skOK (np σ s) (nu σ s)) (he : 4 ≤ σ 0 1042 ∧ σ 0 1042 ≤ 16) : mC l E h ad yX3_laysCodes cX3_laysCodes 8 none 4 [.ref h, .int (iI s)] σ (fun rv σ' => rv = none ∧ ((∀ j, 0 ≤ j → j < σ 0 1042 → σ' 22 (16 * s + j) = cds σ s j) ∧ (∀ j, (j < 16 * s ∨ 16 * s + σ 0 1042 ≤ j) → σ' 22 j = σ 22 j)) ∧ ∀ (k : Nat) (j : Int), k ∉ [22] → σ' k j = σ k j) := by
  refine mC.of (by decide) [some (.ref h), some (.int (iI s)), none, none, none, none, none, none] (Nat.le_of_ble_eq_true rfl) rfl rfl (fun Γ hΓ => ?_)
  have loop : ∀ (fu : Nat) (k : Int) (u : Int) (x : Int) (z : Int) (t : mS), (σ 0 1042 - k).toNat < fu → (0 ≤ k ∧ k ≤ σ 0 1042) → (u = cdL (np σ s) (nu σ s) (σ 0 1042) k.toNat) → (x = smp (np σ s) (nu σ s) (σ 0 1042) k 0) → (z = smp (np σ s) (nu σ s) (σ 0 1042) k 1) → (∀ j, 0 ≤ j → j < k → t 22 (16 * s + j) = cds σ s j) → (∀ j, (j < 16 * s ∨ 16 * s + k ≤ j) → t 22 j = σ 22 j) → (∀ (k : Nat) (j : Int), k ∉ [22] → t k j = σ k j) → gW Γ E (mM E h ad t) 0 0 22 [some (.ref h), some (.int (iI s)), some (.int (iI u)), some (.int (iI x)), some (.int (iI z)), some (.int (iI k)), none, none] [] := by
    intro fu
    induction fu with
    | zero => intro k u x z t hn; exact absurd hn (Nat.not_lt_zero _)
    | succ fu ih_loop =>
      intro k u x z t hn hk hla hx hy hA hB tf
      have t0 : t 0 = σ 0 := funext fun j => tf 0 j (by decide)
      have t7 : t 7 = σ 7 := funext fun j => tf 7 j (by decide)
      have t8 : t 8 = σ 8 := funext fun j => tf 8 j (by decide)
      have tn := np_same t0 t8
      have tu := nu_same t0 t7
      have hr0 := smp_r hsk he hk (Or.inl rfl)
      have hr1 := smp_r hsk he hk (Or.inr rfl)
      refine g_iload hΓ rfl dX3_laysCodes_22 ?_
      refine g_aload_n hΓ rfl dX3_laysCodes_24 ?_
      refine m_geta hok hΓ 0 (by decide) rfl rfl q1357 rfl dX3_laysCodes_25 ?_
      refine g_sipush hΓ (by decide) dX3_laysCodes_28 ?_
      refine m_ald hok hΓ 0 (by decide) rfl (n := 1048) rfl (by omega) (by decide) dX3_laysCodes_31 ?_
      refine g_topi ((tf 0 1042 (by decide))) ?_
      refine g_icmp_ge (tgt := 99) hΓ (by omega) (by omega) dX3_laysCodes_32 (by decide) (fun c1 => ?_) (fun c1 => ?_)
      · exact m_vret hΓ dX3_laysCodes_99 ⟨rfl, ⟨fun j h1 h2 => hA j h1 (by omega), fun j hj => hB j (by omega)⟩, tf⟩
      · have hs0 := smp_r hsk he (k := k + 1) (ax := 0) (by omega) (Or.inl rfl)
        have hs1 := smp_r hsk he (k := k + 1) (ax := 1) (by omega) (Or.inr rfl)
        refine g_aload_n hΓ rfl dX3_laysCodes_35 ?_
        refine g_iload_n hΓ rfl dX3_laysCodes_36 ?_
        refine g_iload hΓ rfl dX3_laysCodes_37 ?_
        refine g_iconst hΓ dX3_laysCodes_39 ?_
        refine g_iadd hΓ dX3_laysCodes_40 ?_
        refine g_iconst hΓ dX3_laysCodes_41 ?_
        refine m_callV (As := [.int (iI s), .int (iI (k + 1)), .int (iI 0)]) (rest := []) hok hΓ (m_sampleOf hok t s (k + 1) 0 (by first | assumption | omega | (simp only [tn, tu, t0]; first | assumption | omega)) (by first | assumption | omega | (simp only [tn, tu, t0]; first | assumption | omega)) (by first | assumption | omega | (simp only [tn, tu, t0]; first | assumption | omega)) (by first | assumption | omega | (simp only [tn, tu, t0]; first | assumption | omega)) (by first | assumption | omega | (simp only [tn, tu, t0]; first | assumption | omega))) rfl q1649 q1651 qs85 q131 q1652 ndX3_sampleOf rfl (by decide) (by decide) rfl rfl (Nat.le_of_ble_eq_true rfl) dX3_laysCodes_42 rfl (fun v2 τ2 τ2h => ?_)
        obtain ⟨rfl, τ2h⟩ := τ2h
        rw [τ2h]
        clear τ2h
        show gW Γ E (mM E h ad t) 0 0 _ _ (.int (iI (smp (np t s) (nu t s) (t 0 1042) (k + 1) 0)) :: _)
        refine g_topi (show (smp (np t s) (nu t s) (t 0 1042) (k + 1) 0 : Int) = (smp (np σ s) (nu σ s) (σ 0 1042) (k + 1) 0) by simp only [tn, tu, t0]) ?_
        obtain ⟨x3, ex3⟩ : ∃ z9 : Int, z9 = smp (np σ s) (nu σ s) (σ 0 1042) (k + 1) 0 := ⟨_, rfl⟩
        refine g_topi ex3.symm ?_
        refine g_istore hΓ dX3_laysCodes_45 rfl (Nat.le_of_ble_eq_true rfl) (lv' := [some (.ref h), some (.int (iI s)), some (.int (iI u)), some (.int (iI x)), some (.int (iI z)), some (.int (iI k)), some (.int (iI x3)), none]) rfl ?_
        refine g_aload_n hΓ rfl dX3_laysCodes_47 ?_
        refine g_iload_n hΓ rfl dX3_laysCodes_48 ?_
        refine g_iload hΓ rfl dX3_laysCodes_49 ?_
        refine g_iconst hΓ dX3_laysCodes_51 ?_
        refine g_iadd hΓ dX3_laysCodes_52 ?_
        refine g_iconst hΓ dX3_laysCodes_53 ?_
        refine m_callV (As := [.int (iI s), .int (iI (k + 1)), .int (iI 1)]) (rest := []) hok hΓ (m_sampleOf hok t s (k + 1) 1 (by first | assumption | omega | (simp only [tn, tu, t0]; first | assumption | omega)) (by first | assumption | omega | (simp only [tn, tu, t0]; first | assumption | omega)) (by first | assumption | omega | (simp only [tn, tu, t0]; first | assumption | omega)) (by first | assumption | omega | (simp only [tn, tu, t0]; first | assumption | omega)) (by first | assumption | omega | (simp only [tn, tu, t0]; first | assumption | omega))) rfl q1649 q1651 qs85 q131 q1652 ndX3_sampleOf rfl (by decide) (by decide) rfl rfl (Nat.le_of_ble_eq_true rfl) dX3_laysCodes_54 rfl (fun v4 τ4 τ4h => ?_)
        obtain ⟨rfl, τ4h⟩ := τ4h
        rw [τ4h]
        clear τ4h
        show gW Γ E (mM E h ad t) 0 0 _ _ (.int (iI (smp (np t s) (nu t s) (t 0 1042) (k + 1) 1)) :: _)
        refine g_topi (show (smp (np t s) (nu t s) (t 0 1042) (k + 1) 1 : Int) = (smp (np σ s) (nu σ s) (σ 0 1042) (k + 1) 1) by simp only [tn, tu, t0]) ?_
        obtain ⟨x5, ex5⟩ : ∃ z9 : Int, z9 = smp (np σ s) (nu σ s) (σ 0 1042) (k + 1) 1 := ⟨_, rfl⟩
        refine g_topi ex5.symm ?_
        refine g_istore hΓ dX3_laysCodes_57 rfl (Nat.le_of_ble_eq_true rfl) (lv' := [some (.ref h), some (.int (iI s)), some (.int (iI u)), some (.int (iI x)), some (.int (iI z)), some (.int (iI k)), some (.int (iI x3)), some (.int (iI x5))]) rfl ?_
        refine g_iload hΓ rfl dX3_laysCodes_59 ?_
        refine g_iload_n hΓ rfl dX3_laysCodes_61 ?_
        refine g_isub hΓ dX3_laysCodes_62 ?_
        refine g_iload hΓ rfl dX3_laysCodes_63 ?_
        refine g_iload hΓ rfl dX3_laysCodes_65 ?_
        refine g_isub hΓ dX3_laysCodes_67 ?_
        refine g_iload_n hΓ rfl dX3_laysCodes_68 ?_
        refine m_callS (As := [.int (iI (x3 - x)), .int (iI (x5 - z)), .int (iI u)]) (rest := []) hok hΓ (m_codeOf hok t (x3 - x) (x5 - z) u (by first | assumption | omega) (by first | assumption | omega)) rfl q1661 q1662 q131 q1663 ndX3_codeOf rfl (by decide) (by decide) rfl (Nat.le_of_ble_eq_true rfl) dX3_laysCodes_69 rfl (fun v6 τ6 τ6h => ?_)
        obtain ⟨rfl, τ6h⟩ := τ6h
        rw [τ6h]
        clear τ6h
        show gW Γ E (mM E h ad t) 0 0 _ _ (.int (iI (cdv (x3 - x) (x5 - z) u)) :: _)
        obtain ⟨x7, ex7⟩ : ∃ z9 : Int, z9 = cdv (x3 - x) (x5 - z) u := ⟨_, rfl⟩
        refine g_topi ex7.symm ?_
        refine g_istore_n hΓ dX3_laysCodes_72 rfl (Nat.le_of_ble_eq_true rfl) (lv' := [some (.ref h), some (.int (iI s)), some (.int (iI x7)), some (.int (iI x)), some (.int (iI z)), some (.int (iI k)), some (.int (iI x3)), some (.int (iI x5))]) rfl ?_
        refine g_aload_n hΓ rfl dX3_laysCodes_73 ?_
        refine m_geta hok hΓ 22 (by decide) rfl rfl q1379 rfl dX3_laysCodes_74 ?_
        refine g_bipush hΓ (by decide) dX3_laysCodes_77 ?_
        refine g_iload_n hΓ rfl dX3_laysCodes_79 ?_
        refine g_imul hΓ dX3_laysCodes_80 ?_
        refine g_iload hΓ rfl dX3_laysCodes_81 ?_
        refine g_iadd hΓ dX3_laysCodes_83 ?_
        refine g_iload_n hΓ rfl dX3_laysCodes_84 ?_
        refine m_ast hok hΓ 22 (by decide) rfl (n := 1664) rfl (by omega) (by decide) dX3_laysCodes_85 (fun τ8 τ8e => ?_)
        have τ8r : τ8 22 ((16 * s) + k) = x7 := by rw [τ8e]; exact us_s _ _ _ _
        have τ8f : ∀ (k9 : Nat) (j9 : Int), (k9 ≠ 22 ∨ j9 ≠ ((16 * s) + k)) → τ8 k9 j9 = t k9 j9 := fun k9 j9 hh => by rw [τ8e]; exact us_n hh
        refine g_iload hΓ rfl dX3_laysCodes_86 ?_
        refine g_istore_n hΓ dX3_laysCodes_88 rfl (Nat.le_of_ble_eq_true rfl) (lv' := [some (.ref h), some (.int (iI s)), some (.int (iI x7)), some (.int (iI x3)), some (.int (iI z)), some (.int (iI k)), some (.int (iI x3)), some (.int (iI x5))]) rfl ?_
        refine g_iload hΓ rfl dX3_laysCodes_89 ?_
        refine g_istore hΓ dX3_laysCodes_91 rfl (Nat.le_of_ble_eq_true rfl) (lv' := [some (.ref h), some (.int (iI s)), some (.int (iI x7)), some (.int (iI x3)), some (.int (iI x5)), some (.int (iI k)), some (.int (iI x3)), some (.int (iI x5))]) rfl ?_
        obtain ⟨x9, ex9⟩ : ∃ z9 : Int, z9 = k + 1 := ⟨_, rfl⟩
        refine g_iinc hΓ dX3_laysCodes_93 rfl rfl (lv' := [some (.ref h), some (.int (iI s)), some (.int (iI x7)), some (.int (iI x3)), some (.int (iI x5)), some (.int (iI x9)), some (.int (iI x3)), some (.int (iI x5))]) (by rw [ex9]; rfl) ?_
        refine g_goto (tgt := 22) hΓ dX3_laysCodes_96 (by decide) ?_
        refine g_lvw (lv' := [some (.ref h), some (.int (iI s)), some (.int (iI x7)), some (.int (iI x3)), some (.int (iI x5)), some (.int (iI x9)), none, none]) ⟨rfl, ⟨rfl, ⟨rfl, ⟨rfl, ⟨rfl, ⟨rfl, trivial⟩⟩⟩⟩⟩⟩ ?_
        exact ih_loop x9 x7 x3 x5 τ8 (by omega) (by omega) (by rw [show x9.toNat = k.toNat + 1 by omega, cdL, show ((k.toNat : Nat) : Int) = k by omega, ← hla, ex7, ex3, ex5, hx, hy]) (by rw [ex3, ex9]) (by rw [ex5, ex9]) (fun j h1 h2 => by
            by_cases q : j = k
            · subst q
              rw [τ8r, ex7, hx, hy, hla, cds, cdk, show (j + 1).toNat = j.toNat + 1 by omega, cdL, show ((j.toNat : Nat) : Int) = j by omega, ex3, ex5]
            · rw [τ8f 22 _ (Or.inr (by omega))]; exact hA j h1 (by omega)) (fun j hj => (τ8f 22 j (Or.inr (by omega))).trans (hB j (by omega))) (fun k' j hk' => (τ8f k' j (Or.inl (fun e => hk' (by rw [e]; decide)))).trans (tf k' j hk'))
  refine g_iconst hΓ dX3_laysCodes_0 ?_
  refine g_istore_n hΓ dX3_laysCodes_1 rfl (Nat.le_of_ble_eq_true rfl) (lv' := [some (.ref h), some (.int (iI s)), some (.int (iI 0)), none, none, none, none, none]) rfl ?_
  refine g_aload_n hΓ rfl dX3_laysCodes_2 ?_
  refine g_iload_n hΓ rfl dX3_laysCodes_3 ?_
  refine g_iconst hΓ dX3_laysCodes_4 ?_
  refine g_iconst hΓ dX3_laysCodes_5 ?_
  refine m_callV (As := [.int (iI s), .int (iI 0), .int (iI 0)]) (rest := []) hok hΓ (m_sampleOf hok σ s 0 0 (by first | assumption | omega) (by first | assumption | omega) (by first | assumption | omega) (by first | assumption | omega) (by first | assumption | omega)) rfl q1649 q1651 qs85 q131 q1652 ndX3_sampleOf rfl (by decide) (by decide) rfl rfl (Nat.le_of_ble_eq_true rfl) dX3_laysCodes_6 rfl (fun v10 τ10 τ10h => ?_)
  obtain ⟨rfl, τ10h⟩ := τ10h
  rw [τ10h]
  clear τ10h
  show gW Γ E (mM E h ad σ) 0 0 _ _ (.int (iI (smp (np σ s) (nu σ s) (σ 0 1042) 0 0)) :: _)
  obtain ⟨x11, ex11⟩ : ∃ z9 : Int, z9 = smp (np σ s) (nu σ s) (σ 0 1042) 0 0 := ⟨_, rfl⟩
  refine g_topi ex11.symm ?_
  refine g_istore_n hΓ dX3_laysCodes_9 rfl (Nat.le_of_ble_eq_true rfl) (lv' := [some (.ref h), some (.int (iI s)), some (.int (iI 0)), some (.int (iI x11)), none, none, none, none]) rfl ?_
  refine g_aload_n hΓ rfl dX3_laysCodes_10 ?_
  refine g_iload_n hΓ rfl dX3_laysCodes_11 ?_
  refine g_iconst hΓ dX3_laysCodes_12 ?_
  refine g_iconst hΓ dX3_laysCodes_13 ?_
  refine m_callV (As := [.int (iI s), .int (iI 0), .int (iI 1)]) (rest := []) hok hΓ (m_sampleOf hok σ s 0 1 (by first | assumption | omega) (by first | assumption | omega) (by first | assumption | omega) (by first | assumption | omega) (by first | assumption | omega)) rfl q1649 q1651 qs85 q131 q1652 ndX3_sampleOf rfl (by decide) (by decide) rfl rfl (Nat.le_of_ble_eq_true rfl) dX3_laysCodes_14 rfl (fun v12 τ12 τ12h => ?_)
  obtain ⟨rfl, τ12h⟩ := τ12h
  rw [τ12h]
  clear τ12h
  show gW Γ E (mM E h ad σ) 0 0 _ _ (.int (iI (smp (np σ s) (nu σ s) (σ 0 1042) 0 1)) :: _)
  obtain ⟨x13, ex13⟩ : ∃ z9 : Int, z9 = smp (np σ s) (nu σ s) (σ 0 1042) 0 1 := ⟨_, rfl⟩
  refine g_topi ex13.symm ?_
  refine g_istore hΓ dX3_laysCodes_17 rfl (Nat.le_of_ble_eq_true rfl) (lv' := [some (.ref h), some (.int (iI s)), some (.int (iI 0)), some (.int (iI x11)), some (.int (iI x13)), none, none, none]) rfl ?_
  refine g_iconst hΓ dX3_laysCodes_19 ?_
  refine g_istore hΓ dX3_laysCodes_20 rfl (Nat.le_of_ble_eq_true rfl) (lv' := [some (.ref h), some (.int (iI s)), some (.int (iI 0)), some (.int (iI x11)), some (.int (iI x13)), some (.int (iI 0)), none, none]) rfl ?_
  exact loop 17 0 0 x11 x13 σ (by omega) (by omega) rfl ex11 ex13 (fun j h1 h2 => absurd h2 (by omega)) (fun j _ => rfl) (fun k j _ => rfl)
set_option maxHeartbeats 4000000 in
theorem m_laysLetter {l : Launch} {E : gE} {h : Nat} {ad : Nat → Nat} (hok : mOK E h ad) (σ : mS)  (a : Int) (n : Int) (hl : letS σ a n) (he : 4 ≤ σ 0 1042 ∧ σ 0 1042 ≤ 16) : mC l E h ad yX3_laysLetter cX3_laysLetter 4 none 5 [.ref h, .int (iI a), .int (iI n)] σ (fun rv σ' => rv = none ∧ ((∀ s, a ≤ s → s < a + n → ∀ j, 0 ≤ j → j < σ 0 1042 → σ' 22 (16 * s + j) = cds σ s j) ∧ (∀ j, (j < 16 * a ∨ 16 * (a + n) ≤ j) → σ' 22 j = σ 22 j)) ∧ ∀ (k : Nat) (j : Int), k ∉ [22] → σ' k j = σ k j) := by
  refine mC.of (by decide) [some (.ref h), some (.int (iI a)), some (.int (iI n)), none] (Nat.le_of_ble_eq_true rfl) rfl rfl (fun Γ hΓ => ?_)
  obtain ⟨hl0, hl1, hl2, hl3, hl4⟩ := id hl
  have loop : ∀ (fu : Nat) (q : Int) (t : mS), (a + n - q).toNat < fu → (a ≤ q ∧ q ≤ a + n) → (∀ s, a ≤ s → s < q → ∀ j, 0 ≤ j → j < σ 0 1042 → t 22 (16 * s + j) = cds σ s j) → (∀ j, (j < 16 * a ∨ 16 * q ≤ j) → t 22 j = σ 22 j) → (∀ (k : Nat) (j : Int), k ∉ [22] → t k j = σ k j) → gW Γ E (mM E h ad t) 0 0 2 [some (.ref h), some (.int (iI a)), some (.int (iI n)), some (.int (iI q))] [] := by
    intro fu
    induction fu with
    | zero => intro q t hn; exact absurd hn (Nat.not_lt_zero _)
    | succ fu ih_loop =>
      intro q t hn hq hA hB tf
      have t0 : t 0 = σ 0 := funext fun j => tf 0 j (by decide)
      have t7 : t 7 = σ 7 := funext fun j => tf 7 j (by decide)
      have t8 : t 8 = σ 8 := funext fun j => tf 8 j (by decide)
      have tn := np_same t0 t8
      have tu := nu_same t0 t7
      have tc := cds_same t0 t7 t8
      refine g_iload_n hΓ rfl dX3_laysLetter_2 ?_
      refine g_iload_n hΓ rfl dX3_laysLetter_3 ?_
      refine g_iload_n hΓ rfl dX3_laysLetter_4 ?_
      refine g_iadd hΓ dX3_laysLetter_5 ?_
      refine g_icmp_ge (tgt := 20) hΓ (by omega) (by omega) dX3_laysLetter_6 (by decide) (fun c1 => ?_) (fun c1 => ?_)
      · exact m_vret hΓ dX3_laysLetter_20 ⟨rfl, ⟨fun s h1 h2 => hA s h1 (by omega), fun j hj => hB j (by omega)⟩, tf⟩
      · have hsk := hl4 q (by omega) (by omega)
        refine g_aload_n hΓ rfl dX3_laysLetter_9 ?_
        refine g_iload_n hΓ rfl dX3_laysLetter_10 ?_
        refine m_callV (As := [.int (iI q)]) (rest := []) hok hΓ (m_laysCodes hok t q (by first | assumption | omega | (simp only [tn, tu, t0]; first | assumption | omega)) (by first | assumption | omega | (simp only [tn, tu, t0]; first | assumption | omega)) (by first | assumption | omega | (simp only [tn, tu, t0]; first | assumption | omega))) rfl q1657 q1659 qs86 q131 q1660 ndX3_laysCodes rfl (by decide) (by decide) rfl rfl (Nat.le_of_ble_eq_true rfl) dX3_laysLetter_11 rfl (fun v2 τ2 τ2h => ?_)
        obtain ⟨rfl, τ2h, τ2f⟩ := τ2h
        obtain ⟨x3, ex3⟩ : ∃ z9 : Int, z9 = q + 1 := ⟨_, rfl⟩
        refine g_iinc hΓ dX3_laysLetter_14 rfl rfl (lv' := [some (.ref h), some (.int (iI a)), some (.int (iI n)), some (.int (iI x3))]) (by rw [ex3]; rfl) ?_
        refine g_goto (tgt := 2) hΓ dX3_laysLetter_17 (by decide) ?_
        exact ih_loop x3 τ2 (by omega) (by omega) (fun s h1 h2 j h3 h4 => by
            by_cases c : s = q
            · subst c
              rw [τ2h.1 j h3 (by rw [t0]; omega), tc]
            · rw [τ2h.2 _ (by rw [t0]; omega)]; exact hA s h1 (by omega) j h3 h4) (fun j hj => (τ2h.2 j (by rw [t0]; omega)).trans (hB j (by omega))) (fun k' j hk' => (τ2f k' j hk').trans (tf k' j hk'))
  refine g_iload_n hΓ rfl dX3_laysLetter_0 ?_
  refine g_istore_n hΓ dX3_laysLetter_1 rfl (Nat.le_of_ble_eq_true rfl) (lv' := [some (.ref h), some (.int (iI a)), some (.int (iI n)), some (.int (iI a))]) rfl ?_
  exact loop 9 a σ (by omega) (by omega) (fun s h1 h2 => absurd h2 (by omega)) (fun j _ => rfl) (fun k j _ => rfl)
set_option maxHeartbeats 4000000 in
theorem m_code {l : Launch} {E : gE} {h : Nat} {ad : Nat → Nat} (hok : mOK E h ad) (σ : mS)  (m : Int) (k : Int) (i : Int) (hm : r32 m) (hk : r32 k) (hi : r32 i) (hr : rowOK (σ 0)) : mC l E h ad yX3_code cX3_code 5 (some .int) 5 [.ref h, .int (iI m), .int (iI k), .int (iI i)] σ (fun rv σ' => rv = some (.int (iI (sp_code σ m k i))) ∧ (True) ∧ ∀ (k : Nat) (j : Int), k ∉ [22] → σ' k j = σ k j) := by
  refine mC.of (by decide) [some (.ref h), some (.int (iI m)), some (.int (iI k)), some (.int (iI i)), none] (Nat.le_of_ble_eq_true rfl) rfl rfl (fun Γ hΓ => ?_)
  obtain ⟨h1000, h1009, h1042, h1043, h1044, h1045, h1046, h1047, hms, hsi, hsm, hnm⟩ := id hr
  have hst := stO_ok hr m k
  refine g_aload_n hΓ rfl dX3_code_0 ?_
  refine g_iload_n hΓ rfl dX3_code_1 ?_
  refine g_iload_n hΓ rfl dX3_code_2 ?_
  refine m_callV (As := [.int (iI m), .int (iI k)]) (rest := []) hok hΓ (m_strokeOf hok σ m k (by first | assumption | omega) (by first | assumption | omega) (by first | assumption | omega)) rfl q1614 q1616 qs79 q131 q1617 ndX3_strokeOf rfl (by decide) (by decide) rfl rfl (Nat.le_of_ble_eq_true rfl) dX3_code_3 rfl (fun v1 τ1 τ1h => ?_)
  obtain ⟨rfl, τ1h⟩ := τ1h
  rw [τ1h]
  clear τ1h
  show gW Γ E (mM E h ad σ) 0 0 _ _ (.int (iI (stO σ m k)) :: _)
  obtain ⟨x2, ex2⟩ : ∃ z9 : Int, z9 = stO σ m k := ⟨_, rfl⟩
  refine g_topi ex2.symm ?_
  refine g_istore hΓ dX3_code_6 rfl (Nat.le_of_ble_eq_true rfl) (lv' := [some (.ref h), some (.int (iI m)), some (.int (iI k)), some (.int (iI i)), some (.int (iI x2))]) rfl ?_
  refine g_iload hΓ rfl dX3_code_8 ?_
  refine g_iconst hΓ dX3_code_10 ?_
  refine g_icmp_eq (tgt := 32) hΓ (by omega) (by omega) dX3_code_11 (by decide) (fun c3 => ?_) (fun c3 => ?_)
  · refine g_iconst hΓ dX3_code_32 ?_
    exact m_iret hΓ dX3_code_33 ⟨ri (by rw [sp_code, ← ex2]; rw [if_pos (by omega)]), trivial, (fun k j hk => rfl)⟩
  · rcases hst with hst | ⟨hl, hk0, hk1, hs2, hs0, hs1, hsk⟩
    · exact absurd hst (by omega)
    rw [← ex2] at hsk hs2 hs0 hs1
    refine g_iload_n hΓ rfl dX3_code_14 ?_
    refine g_iconst hΓ dX3_code_15 ?_
    refine g_aload_n hΓ rfl dX3_code_16 ?_
    refine m_geta hok hΓ 0 (by decide) rfl rfl q1357 rfl dX3_code_17 ?_
    refine g_sipush hΓ (by decide) dX3_code_20 ?_
    refine m_ald hok hΓ 0 (by decide) rfl (n := 1048) rfl (by omega) (by decide) dX3_code_23 ?_
    refine g_iconst hΓ dX3_code_24 ?_
    refine g_isub hΓ dX3_code_25 ?_
    refine m_callS (As := [.int (iI i), .int (iI 0), .int (iI ((σ 0 1042) - 1))]) (rest := []) hok hΓ (m_isIn hok σ i 0 ((σ 0 1042) - 1) (by first | assumption | omega) (by first | assumption | omega) (by first | assumption | omega)) rfl q1549 q1550 q131 q1551 ndX3_isIn rfl (by decide) (by decide) rfl (Nat.le_of_ble_eq_true rfl) dX3_code_26 rfl (fun v4 τ4 τ4h => ?_)
    obtain ⟨rfl, τ4h⟩ := τ4h
    rw [τ4h]
    clear τ4h
    show gW Γ E (mM E h ad σ) 0 0 _ _ (.int (iI (if 0 ≤ i ∧ i ≤ ((σ 0 1042) - 1) then 1 else 0)) :: _)
    refine g_ifB_ne (tgt := 34) hΓ  dX3_code_29 (by decide) (fun c5 => ?_) (fun c5 => ?_)
    · refine g_aload_n hΓ rfl dX3_code_34 ?_
      refine g_iload hΓ rfl dX3_code_35 ?_
      refine m_callV (As := [.int (iI x2)]) (rest := []) hok hΓ (m_laysCodes hok σ x2 (by first | assumption | omega) (by first | assumption | omega) (by first | assumption | omega)) rfl q1657 q1659 qs86 q131 q1660 ndX3_laysCodes rfl (by decide) (by decide) rfl rfl (Nat.le_of_ble_eq_true rfl) dX3_code_37 rfl (fun v6 τ6 τ6h => ?_)
      obtain ⟨rfl, τ6h, τ6f⟩ := τ6h
      refine g_aload_n hΓ rfl dX3_code_40 ?_
      refine m_geta hok hΓ 22 (by decide) rfl rfl q1379 rfl dX3_code_41 ?_
      refine g_bipush hΓ (by decide) dX3_code_44 ?_
      refine g_iload hΓ rfl dX3_code_46 ?_
      refine g_imul hΓ dX3_code_48 ?_
      refine g_iload_n hΓ rfl dX3_code_49 ?_
      refine g_iadd hΓ dX3_code_50 ?_
      refine m_ald hok hΓ 22 (by decide) rfl (n := 1664) rfl (by omega) (by decide) dX3_code_51 ?_
      exact m_iret hΓ dX3_code_52 ⟨ri (by rw [sp_code, ← ex2]; rw [if_neg (by omega)]; exact τ6h.1 i (by omega) (by omega)), trivial, (fun k j hk => (τ6f k j (fun e => hk ((show ∀ x ∈ [22], x ∈ [22] by decide) k e))))⟩
    · refine g_iconst hΓ dX3_code_32 ?_
      exact m_iret hΓ dX3_code_33 ⟨ri (by rw [sp_code, ← ex2]; rw [if_pos (by omega)]), trivial, (fun k j hk => rfl)⟩
set_option maxHeartbeats 4000000 in
theorem m_bends {l : Launch} {E : gE} {h : Nat} {ad : Nat → Nat} (hok : mOK E h ad) (σ : mS)  (m : Int) (k : Int) (hm : r32 m) (hk : r32 k) (hr : rowOK (σ 0)) : mC l E h ad yX3_bends cX3_bends 6 (some .int) 5 [.ref h, .int (iI m), .int (iI k)] σ (fun rv σ' => rv = some (.int (iI (sp_bends σ m k))) ∧ (True) ∧ ∀ (k : Nat) (j : Int), k ∉ [22] → σ' k j = σ k j) := by
  refine mC.of (by decide) [some (.ref h), some (.int (iI m)), some (.int (iI k)), none, none, none] (Nat.le_of_ble_eq_true rfl) rfl rfl (fun Γ hΓ => ?_)
  obtain ⟨h1000, h1009, h1042, h1043, h1044, h1045, h1046, h1047, hms, hsi, hsm, hnm⟩ := id hr
  have hst := stO_ok hr m k
  refine g_aload_n hΓ rfl dX3_bends_0 ?_
  refine g_iload_n hΓ rfl dX3_bends_1 ?_
  refine g_iload_n hΓ rfl dX3_bends_2 ?_
  refine m_callV (As := [.int (iI m), .int (iI k)]) (rest := []) hok hΓ (m_strokeOf hok σ m k (by first | assumption | omega) (by first | assumption | omega) (by first | assumption | omega)) rfl q1614 q1616 qs79 q131 q1617 ndX3_strokeOf rfl (by decide) (by decide) rfl rfl (Nat.le_of_ble_eq_true rfl) dX3_bends_3 rfl (fun v1 τ1 τ1h => ?_)
  obtain ⟨rfl, τ1h⟩ := τ1h
  rw [τ1h]
  clear τ1h
  show gW Γ E (mM E h ad σ) 0 0 _ _ (.int (iI (stO σ m k)) :: _)
  obtain ⟨x2, ex2⟩ : ∃ z9 : Int, z9 = stO σ m k := ⟨_, rfl⟩
  refine g_topi ex2.symm ?_
  refine g_istore_n hΓ dX3_bends_6 rfl (Nat.le_of_ble_eq_true rfl) (lv' := [some (.ref h), some (.int (iI m)), some (.int (iI k)), some (.int (iI x2)), none, none]) rfl ?_
  refine g_iload_n hΓ rfl dX3_bends_7 ?_
  refine g_iconst hΓ dX3_bends_8 ?_
  refine g_icmp_ne (tgt := 14) hΓ (by omega) (by omega) dX3_bends_9 (by decide) (fun c3 => ?_) (fun c3 => ?_)
  · rcases hst with hst | ⟨hl, hk0, hk1, hs2, hs0, hs1, hsk⟩
    · exact absurd hst (by omega)
    rw [← ex2] at hsk hs2 hs0 hs1
    refine g_aload_n hΓ rfl dX3_bends_14 ?_
    refine g_iload_n hΓ rfl dX3_bends_15 ?_
    refine m_callV (As := [.int (iI x2)]) (rest := []) hok hΓ (m_laysCodes hok σ x2 (by first | assumption | omega) (by first | assumption | omega) (by first | assumption | omega)) rfl q1657 q1659 qs86 q131 q1660 ndX3_laysCodes rfl (by decide) (by decide) rfl rfl (Nat.le_of_ble_eq_true rfl) dX3_bends_16 rfl (fun v4 τ4 τ4h => ?_)
    obtain ⟨rfl, τ4h, τ4f⟩ := τ4h
    refine g_iconst hΓ dX3_bends_19 ?_
    refine g_istore hΓ dX3_bends_20 rfl (Nat.le_of_ble_eq_true rfl) (lv' := [some (.ref h), some (.int (iI m)), some (.int (iI k)), some (.int (iI x2)), some (.int (iI 0)), none]) rfl ?_
    refine g_iconst hΓ dX3_bends_22 ?_
    refine g_istore hΓ dX3_bends_23 rfl (Nat.le_of_ble_eq_true rfl) (lv' := [some (.ref h), some (.int (iI m)), some (.int (iI k)), some (.int (iI x2)), some (.int (iI 0)), some (.int (iI 0))]) rfl ?_
    have hcd : ∀ j, 0 ≤ j → j < σ 0 1042 → τ4 22 (16 * x2 + j) = cds σ x2 j := τ4h.1
    have loop : ∀ (fu : Nat) (u : Int) (i : Int), (σ 0 1042 - i).toNat < fu → (0 ≤ i ∧ i + 1 ≤ σ 0 1042) → (u = bndF (cds σ x2) i.toNat) → gW Γ E (mM E h ad τ4) 0 0 25 [some (.ref h), some (.int (iI m)), some (.int (iI k)), some (.int (iI x2)), some (.int (iI u)), some (.int (iI i))] [] := by
      intro fu
      induction fu with
      | zero => intro u i hn; exact absurd hn (Nat.not_lt_zero _)
      | succ fu ih_loop =>
        intro u i hn hi hu
        refine g_iload hΓ rfl dX3_bends_25 ?_
        refine g_iconst hΓ dX3_bends_27 ?_
        refine g_iadd hΓ dX3_bends_28 ?_
        refine g_aload_n hΓ rfl dX3_bends_29 ?_
        refine m_geta hok hΓ 0 (by decide) rfl rfl q1357 rfl dX3_bends_30 ?_
        refine g_sipush hΓ (by decide) dX3_bends_33 ?_
        refine m_ald hok hΓ 0 (by decide) rfl (n := 1048) rfl (by omega) (by decide) dX3_bends_36 ?_
        refine g_topi ((τ4f 0 1042 (by decide))) ?_
        refine g_icmp_ge (tgt := 80) hΓ (by omega) (by omega) dX3_bends_37 (by decide) (fun c5 => ?_) (fun c5 => ?_)
        · refine g_iload hΓ rfl dX3_bends_80 ?_
          exact m_iret hΓ dX3_bends_82 ⟨ri (by rw [sp_bends, ← ex2, if_neg (by omega), hu, show (σ 0 1042 - 1).toNat = i.toNat by omega]), trivial, (fun k j hk => (τ4f k j (fun e => hk ((show ∀ x ∈ [22], x ∈ [22] by decide) k e))))⟩
        · have hca := hcd i (by omega) (by omega)
          have hcb := hcd (i + 1) (by omega) (by omega)
          rw [show 16 * x2 + (i + 1) = 16 * x2 + i + 1 by omega] at hcb
          have ra := cds_r σ x2 i
          have rb := cds_r σ x2 (i + 1)
          refine g_iload hΓ rfl dX3_bends_40 ?_
          refine g_aload_n hΓ rfl dX3_bends_42 ?_
          refine m_geta hok hΓ 22 (by decide) rfl rfl q1379 rfl dX3_bends_43 ?_
          refine g_bipush hΓ (by decide) dX3_bends_46 ?_
          refine g_iload_n hΓ rfl dX3_bends_48 ?_
          refine g_imul hΓ dX3_bends_49 ?_
          refine g_iload hΓ rfl dX3_bends_50 ?_
          refine g_iadd hΓ dX3_bends_52 ?_
          refine m_ald hok hΓ 22 (by decide) rfl (n := 1664) rfl (by omega) (by decide) dX3_bends_53 ?_
          refine g_aload_n hΓ rfl dX3_bends_54 ?_
          refine m_geta hok hΓ 22 (by decide) rfl rfl q1379 rfl dX3_bends_55 ?_
          refine g_bipush hΓ (by decide) dX3_bends_58 ?_
          refine g_iload_n hΓ rfl dX3_bends_60 ?_
          refine g_imul hΓ dX3_bends_61 ?_
          refine g_iload hΓ rfl dX3_bends_62 ?_
          refine g_iadd hΓ dX3_bends_64 ?_
          refine g_iconst hΓ dX3_bends_65 ?_
          refine g_iadd hΓ dX3_bends_66 ?_
          refine m_ald hok hΓ 22 (by decide) rfl (n := 1664) rfl (by omega) (by decide) dX3_bends_67 ?_
          refine m_callS (As := [.int (iI (τ4 22 ((16 * x2) + i))), .int (iI (τ4 22 (((16 * x2) + i) + 1)))]) (rest := [.int (iI u)]) hok hΓ (m_apart hok τ4 (τ4 22 ((16 * x2) + i)) (τ4 22 (((16 * x2) + i) + 1)) (by first | assumption | omega) (by first | assumption | omega)) rfl q1671 q1672 q131 q1673 ndX3_apart rfl (by decide) (by decide) rfl (Nat.le_of_ble_eq_true rfl) dX3_bends_68 rfl (fun v6 τ6 τ6h => ?_)
          obtain ⟨rfl, τ6h⟩ := τ6h
          rw [τ6h]
          clear τ6h
          show gW Γ E (mM E h ad τ4) 0 0 _ _ (.int (iI (apt (τ4 22 ((16 * x2) + i)) (τ4 22 (((16 * x2) + i) + 1)))) :: _)
          refine g_iadd hΓ dX3_bends_71 ?_
          obtain ⟨x7, ex7⟩ : ∃ z9 : Int, z9 = u + (apt (τ4 22 ((16 * x2) + i)) (τ4 22 (((16 * x2) + i) + 1))) := ⟨_, rfl⟩
          refine g_topi ex7.symm ?_
          refine g_istore hΓ dX3_bends_72 rfl (Nat.le_of_ble_eq_true rfl) (lv' := [some (.ref h), some (.int (iI m)), some (.int (iI k)), some (.int (iI x2)), some (.int (iI x7)), some (.int (iI i))]) rfl ?_
          obtain ⟨x8, ex8⟩ : ∃ z9 : Int, z9 = i + 1 := ⟨_, rfl⟩
          refine g_iinc hΓ dX3_bends_74 rfl rfl (lv' := [some (.ref h), some (.int (iI m)), some (.int (iI k)), some (.int (iI x2)), some (.int (iI x7)), some (.int (iI x8))]) (by rw [ex8]; rfl) ?_
          refine g_goto (tgt := 25) hΓ dX3_bends_77 (by decide) ?_
          exact ih_loop x7 x8 (by omega) (by omega) (by rw [show x8.toNat = i.toNat + 1 by omega, bndF, ← hu, show ((i.toNat : Nat) : Int) = i by omega, ← hca, ← hcb]; omega)
    exact loop 17 0 0 (by omega) (by omega) rfl
  · refine g_iconst hΓ dX3_bends_12 ?_
    exact m_iret hΓ dX3_bends_13 ⟨ri (by rw [sp_bends, ← ex2, if_pos (by omega)]), trivial, (fun k j hk => rfl)⟩
set_option maxHeartbeats 4000000 in
theorem m_corner {l : Launch} {E : gE} {h : Nat} {ad : Nat → Nat} (hok : mOK E h ad) (σ : mS)  (m : Int) (k : Int) (i : Int) (hm : r32 m) (hk : r32 k) (hi : r32 i) (hr : rowOK (σ 0)) : mC l E h ad yX3_corner cX3_corner 7 (some .int) 5 [.ref h, .int (iI m), .int (iI k), .int (iI i)] σ (fun rv σ' => rv = some (.int (iI (sp_corner σ m k i))) ∧ (True) ∧ ∀ (k : Nat) (j : Int), k ∉ [22] → σ' k j = σ k j) := by
  refine mC.of (by decide) [some (.ref h), some (.int (iI m)), some (.int (iI k)), some (.int (iI i)), none, none, none] (Nat.le_of_ble_eq_true rfl) rfl rfl (fun Γ hΓ => ?_)
  obtain ⟨h1000, h1009, h1042, h1043, h1044, h1045, h1046, h1047, hms, hsi, hsm, hnm⟩ := id hr
  have hst := stO_ok hr m k
  refine g_aload_n hΓ rfl dX3_corner_0 ?_
  refine g_iload_n hΓ rfl dX3_corner_1 ?_
  refine g_iload_n hΓ rfl dX3_corner_2 ?_
  refine m_callV (As := [.int (iI m), .int (iI k)]) (rest := []) hok hΓ (m_strokeOf hok σ m k (by first | assumption | omega) (by first | assumption | omega) (by first | assumption | omega)) rfl q1614 q1616 qs79 q131 q1617 ndX3_strokeOf rfl (by decide) (by decide) rfl rfl (Nat.le_of_ble_eq_true rfl) dX3_corner_3 rfl (fun v1 τ1 τ1h => ?_)
  obtain ⟨rfl, τ1h⟩ := τ1h
  rw [τ1h]
  clear τ1h
  show gW Γ E (mM E h ad σ) 0 0 _ _ (.int (iI (stO σ m k)) :: _)
  obtain ⟨x2, ex2⟩ : ∃ z9 : Int, z9 = stO σ m k := ⟨_, rfl⟩
  refine g_topi ex2.symm ?_
  refine g_istore hΓ dX3_corner_6 rfl (Nat.le_of_ble_eq_true rfl) (lv' := [some (.ref h), some (.int (iI m)), some (.int (iI k)), some (.int (iI i)), some (.int (iI x2)), none, none]) rfl ?_
  refine g_iload hΓ rfl dX3_corner_8 ?_
  refine g_iconst hΓ dX3_corner_10 ?_
  refine g_icmp_eq (tgt := 19) hΓ (by omega) (by omega) dX3_corner_11 (by decide) (fun c3 => ?_) (fun c3 => ?_)
  · refine g_iconst hΓ dX3_corner_19 ?_
    exact m_iret hΓ dX3_corner_20 ⟨ri (by rw [sp_corner, ← ex2, if_pos (by omega)]), trivial, (fun k j hk => rfl)⟩
  · rcases hst with hst | ⟨hl, hk0, hk1, hs2, hs0, hs1, hsk⟩
    · exact absurd hst (by omega)
    rw [← ex2] at hsk hs2 hs0 hs1
    refine g_iload_n hΓ rfl dX3_corner_14 ?_
    refine g_iconst hΓ dX3_corner_15 ?_
    refine g_icmp_ge (tgt := 21) hΓ (by omega) (by omega) dX3_corner_16 (by decide) (fun c4 => ?_) (fun c4 => ?_)
    · refine g_aload_n hΓ rfl dX3_corner_21 ?_
      refine g_iload hΓ rfl dX3_corner_22 ?_
      refine m_callV (As := [.int (iI x2)]) (rest := []) hok hΓ (m_laysCodes hok σ x2 (by first | assumption | omega) (by first | assumption | omega) (by first | assumption | omega)) rfl q1657 q1659 qs86 q131 q1660 ndX3_laysCodes rfl (by decide) (by decide) rfl rfl (Nat.le_of_ble_eq_true rfl) dX3_corner_24 rfl (fun v5 τ5 τ5h => ?_)
      obtain ⟨rfl, τ5h, τ5f⟩ := τ5h
      refine g_iconst hΓ dX3_corner_27 ?_
      refine g_istore hΓ dX3_corner_28 rfl (Nat.le_of_ble_eq_true rfl) (lv' := [some (.ref h), some (.int (iI m)), some (.int (iI k)), some (.int (iI i)), some (.int (iI x2)), some (.int (iI 0)), none]) rfl ?_
      refine g_iconst hΓ dX3_corner_30 ?_
      refine g_istore hΓ dX3_corner_31 rfl (Nat.le_of_ble_eq_true rfl) (lv' := [some (.ref h), some (.int (iI m)), some (.int (iI k)), some (.int (iI i)), some (.int (iI x2)), some (.int (iI 0)), some (.int (iI 1))]) rfl ?_
      have hcd : ∀ j, 0 ≤ j → j < σ 0 1042 → τ5 22 (16 * x2 + j) = cds σ x2 j := τ5h.1
      have loop : ∀ (fu : Nat) (n9 : Int) (q : Int), (σ 0 1042 - q).toNat < fu → (1 ≤ q ∧ q ≤ σ 0 1042 ∧ 0 ≤ n9 ∧ n9 < q) → (crnF (cds σ x2) i (σ 0 1042 - q).toNat q n9 = crnF (cds σ x2) i (σ 0 1042 - 1).toNat 1 0) → gW Γ E (mM E h ad τ5) 0 0 33 [some (.ref h), some (.int (iI m)), some (.int (iI k)), some (.int (iI i)), some (.int (iI x2)), some (.int (iI n9)), some (.int (iI q))] [] := by
        intro fu
        induction fu with
        | zero => intro n9 q hn; exact absurd hn (Nat.not_lt_zero _)
        | succ fu ih_loop =>
          intro n9 q hn hq hv
          refine g_iload hΓ rfl dX3_corner_33 ?_
          refine g_aload_n hΓ rfl dX3_corner_35 ?_
          refine m_geta hok hΓ 0 (by decide) rfl rfl q1357 rfl dX3_corner_36 ?_
          refine g_sipush hΓ (by decide) dX3_corner_39 ?_
          refine m_ald hok hΓ 0 (by decide) rfl (n := 1048) rfl (by omega) (by decide) dX3_corner_42 ?_
          refine g_topi ((τ5f 0 1042 (by decide))) ?_
          refine g_icmp_ge (tgt := 102) hΓ (by omega) (by omega) dX3_corner_43 (by decide) (fun c6 => ?_) (fun c6 => ?_)
          · refine g_iload_n hΓ rfl dX3_corner_102 ?_
            refine g_iconst hΓ dX3_corner_103 ?_
            refine g_icmp_ne (tgt := 112) hΓ (by omega) (by omega) dX3_corner_104 (by decide) (fun c7 => ?_) (fun c7 => ?_)
            · refine g_iconst hΓ dX3_corner_112 ?_
              exact m_iret hΓ dX3_corner_113 ⟨ri (by rw [sp_corner, ← ex2, if_neg (by omega), ← hv]; rw [show (σ 0 1042 - q).toNat = 0 by omega, crnF]; first | rw [if_pos (by omega)] | rw [if_neg (by omega)]), trivial, (fun k j hk => (τ5f k j (fun e => hk ((show ∀ x ∈ [22], x ∈ [22] by decide) k e))))⟩
            · refine g_iload hΓ rfl dX3_corner_107 ?_
              refine g_goto (tgt := 113) hΓ dX3_corner_109 (by decide) ?_
              exact m_iret hΓ dX3_corner_113 ⟨ri (by rw [sp_corner, ← ex2, if_neg (by omega), ← hv]; rw [show (σ 0 1042 - q).toNat = 0 by omega, crnF]; first | rw [if_pos (by omega)] | rw [if_neg (by omega)]), trivial, (fun k j hk => (τ5f k j (fun e => hk ((show ∀ x ∈ [22], x ∈ [22] by decide) k e))))⟩
          · have hca := hcd (q - 1) (by omega) (by omega)
            have hcb := hcd q (by omega) (by omega)
            rw [show 16 * x2 + (q - 1) = 16 * x2 + q - 1 by omega] at hca
            have ra := cds_r σ x2 (q - 1)
            have rb := cds_r σ x2 q
            have hap := apt_r ra rb
            rw [← hca, ← hcb] at hap
            refine g_aload_n hΓ rfl dX3_corner_46 ?_
            refine m_geta hok hΓ 22 (by decide) rfl rfl q1379 rfl dX3_corner_47 ?_
            refine g_bipush hΓ (by decide) dX3_corner_50 ?_
            refine g_iload hΓ rfl dX3_corner_52 ?_
            refine g_imul hΓ dX3_corner_54 ?_
            refine g_iload hΓ rfl dX3_corner_55 ?_
            refine g_iadd hΓ dX3_corner_57 ?_
            refine g_iconst hΓ dX3_corner_58 ?_
            refine g_isub hΓ dX3_corner_59 ?_
            refine m_ald hok hΓ 22 (by decide) rfl (n := 1664) rfl (by omega) (by decide) dX3_corner_60 ?_
            refine g_aload_n hΓ rfl dX3_corner_61 ?_
            refine m_geta hok hΓ 22 (by decide) rfl rfl q1379 rfl dX3_corner_62 ?_
            refine g_bipush hΓ (by decide) dX3_corner_65 ?_
            refine g_iload hΓ rfl dX3_corner_67 ?_
            refine g_imul hΓ dX3_corner_69 ?_
            refine g_iload hΓ rfl dX3_corner_70 ?_
            refine g_iadd hΓ dX3_corner_72 ?_
            refine m_ald hok hΓ 22 (by decide) rfl (n := 1664) rfl (by omega) (by decide) dX3_corner_73 ?_
            refine m_callS (As := [.int (iI (τ5 22 (((16 * x2) + q) - 1))), .int (iI (τ5 22 ((16 * x2) + q)))]) (rest := []) hok hΓ (m_apart hok τ5 (τ5 22 (((16 * x2) + q) - 1)) (τ5 22 ((16 * x2) + q)) (by first | assumption | omega) (by first | assumption | omega)) rfl q1671 q1672 q131 q1673 ndX3_apart rfl (by decide) (by decide) rfl (Nat.le_of_ble_eq_true rfl) dX3_corner_74 rfl (fun v8 τ8 τ8h => ?_)
            obtain ⟨rfl, τ8h⟩ := τ8h
            rw [τ8h]
            clear τ8h
            show gW Γ E (mM E h ad τ5) 0 0 _ _ (.int (iI (apt (τ5 22 (((16 * x2) + q) - 1)) (τ5 22 ((16 * x2) + q)))) :: _)
            refine g_iconst hΓ dX3_corner_77 ?_
            refine g_icmp_ge (tgt := 84) hΓ (by omega) (by omega) dX3_corner_78 (by decide) (fun c9 => ?_) (fun c9 => ?_)
            · refine g_iload hΓ rfl dX3_corner_84 ?_
              refine g_iload_n hΓ rfl dX3_corner_86 ?_
              refine g_icmp_ne (tgt := 93) hΓ (by omega) (by omega) dX3_corner_87 (by decide) (fun c10 => ?_) (fun c10 => ?_)
              · obtain ⟨x11, ex11⟩ : ∃ z9 : Int, z9 = n9 + 1 := ⟨_, rfl⟩
                refine g_iinc hΓ dX3_corner_93 rfl rfl (lv' := [some (.ref h), some (.int (iI m)), some (.int (iI k)), some (.int (iI i)), some (.int (iI x2)), some (.int (iI x11)), some (.int (iI q))]) (by rw [ex11]; rfl) ?_
                obtain ⟨x12, ex12⟩ : ∃ z9 : Int, z9 = q + 1 := ⟨_, rfl⟩
                refine g_iinc hΓ dX3_corner_96 rfl rfl (lv' := [some (.ref h), some (.int (iI m)), some (.int (iI k)), some (.int (iI i)), some (.int (iI x2)), some (.int (iI x11)), some (.int (iI x12))]) (by rw [ex12]; rfl) ?_
                refine g_goto (tgt := 33) hΓ dX3_corner_99 (by decide) ?_
                exact ih_loop x11 x12 (by omega) (by omega) (by rw [← hv, show (σ 0 1042 - q).toNat = (σ 0 1042 - x12).toNat + 1 by omega, crnF, ← hca, ← hcb, if_neg (by omega), if_neg (by omega), ex11, ex12])
              · refine g_iload hΓ rfl dX3_corner_90 ?_
                exact m_iret hΓ dX3_corner_92 ⟨ri (by rw [sp_corner, ← ex2, if_neg (by omega), ← hv]; rw [show (σ 0 1042 - q).toNat = (σ 0 1042 - q - 1).toNat + 1 by omega, crnF, ← hca, ← hcb, if_neg (by omega), if_pos (by omega)]), trivial, (fun k j hk => (τ5f k j (fun e => hk ((show ∀ x ∈ [22], x ∈ [22] by decide) k e))))⟩
            · refine g_goto (tgt := 96) hΓ dX3_corner_81 (by decide) ?_
              obtain ⟨x13, ex13⟩ : ∃ z9 : Int, z9 = q + 1 := ⟨_, rfl⟩
              refine g_iinc hΓ dX3_corner_96 rfl rfl (lv' := [some (.ref h), some (.int (iI m)), some (.int (iI k)), some (.int (iI i)), some (.int (iI x2)), some (.int (iI n9)), some (.int (iI x13))]) (by rw [ex13]; rfl) ?_
              refine g_goto (tgt := 33) hΓ dX3_corner_99 (by decide) ?_
              exact ih_loop n9 x13 (by omega) (by omega) (by rw [← hv, show (σ 0 1042 - q).toNat = (σ 0 1042 - x13).toNat + 1 by omega, crnF, ← hca, ← hcb, if_pos (by omega), ex13])
      exact loop 17 0 1 (by omega) (by omega) rfl
    · refine g_iconst hΓ dX3_corner_19 ?_
      exact m_iret hΓ dX3_corner_20 ⟨ri (by rw [sp_corner, ← ex2, if_pos (by omega)]), trivial, (fun k j hk => rfl)⟩
