set_option maxRecDepth 100000
set_option maxHeartbeats 4000000 in
theorem m_wobble {l : Launch} {E : gE} {h : Nat} {ad : Nat → Nat} (hok : mOK E h ad) (σ : mS)  (n : Int) (hn : r32 n) (hr : rowOK (σ 0)) (hun : 0 ≤ σ 4 0 ∧ σ 4 0 ≤ 20) (hsd0 : 0 ≤ σ 5 0 ∧ σ 5 0 < 2147483648) : mC l E h ad yX3_wobble cX3_wobble 6 (some .int) 1 [.ref h, .int (iI n)] σ (fun rv σ' => rv = some (.int (iI (if wobC σ n then wbM (fun s => σ 0 (960 + s)) (σ 0 1009).toNat else -1))) ∧ ((wobC σ n → σ' 0 = (wbS n (fun s => σ 0 (960 + s)) (σ 0 1009).toNat (σ 0, σ 5 0)).1 ∧ σ' 5 0 = (wbS n (fun s => σ 0 (960 + s)) (σ 0 1009).toNat (σ 0, σ 5 0)).2 ∧ remR σ' σ ∧ σ' 13 = σ 13) ∧ (¬ wobC σ n → refR σ' σ 2 ∧ σ' 0 = σ 0 ∧ σ' 3 = σ 3 ∧ σ' 4 0 = σ 4 0 ∧ σ' 5 0 = σ 5 0)) ∧ ∀ (k : Nat) (j : Int), k ∉ [0, 3, 4, 5, 13] → σ' k j = σ k j) := by
  refine mC.of (by decide) [some (.ref h), some (.int (iI n)), none, none, none, none] (Nat.le_of_ble_eq_true rfl) rfl rfl (fun Γ hΓ => ?_)
  obtain ⟨h1000, h1009, h1042, h1043, h1044, h1045, h1046, h1047, hms, hsi, hsm, hnm⟩ := id hr
  refine g_iload_n hΓ rfl dX3_wobble_0 ?_
  refine g_iconst hΓ dX3_wobble_1 ?_
  refine g_bipush hΓ (by decide) dX3_wobble_2 ?_
  refine m_callS (As := [.int (iI n), .int (iI 1), .int (iI 9)]) (rest := []) hok hΓ (m_isIn hok σ n 1 9 (by first | assumption | omega) (by first | assumption | omega) (by first | assumption | omega)) rfl q1549 q1550 q131 q1551 ndX3_isIn rfl (by decide) (by decide) rfl (Nat.le_of_ble_eq_true rfl) dX3_wobble_4 rfl (fun v1 τ1 τ1h => ?_)
  obtain ⟨rfl, τ1h⟩ := τ1h
  rw [τ1h]
  clear τ1h
  show gW Γ E (mM E h ad σ) 0 0 _ _ (.int (iI (if 1 ≤ n ∧ n ≤ 9 then 1 else 0)) :: _)
  refine g_ifB_eq (tgt := 21) hΓ  dX3_wobble_7 (by decide) (fun c2 => ?_) (fun c2 => ?_)
  · refine g_aload_n hΓ rfl dX3_wobble_21 ?_
    refine g_iconst hΓ dX3_wobble_22 ?_
    refine m_callV (As := [.int (iI 2)]) (rest := []) hok hΓ (m_refuses hok σ 2 (by first | assumption | omega)) rfl q1485 q1487 qs56 q131 q1488 ndX3_refuses rfl (by decide) (by decide) rfl rfl (Nat.le_of_ble_eq_true rfl) dX3_wobble_23 rfl (fun v3 τ3 τ3h => ?_)
    obtain ⟨rfl, τ3h, τ3f⟩ := τ3h
    show gW Γ E (mM E h ad τ3) 0 0 _ _ (.int (iI (-1)) :: _)
    exact m_iret hΓ dX3_wobble_26 ⟨ri (by rw [if_neg (by omega)]), ⟨fun q => absurd q (by omega), fun _ => ⟨τ3h, (funext fun j => τ3f 0 j (by decide)), (funext fun j => τ3f 3 j (by decide)), τ3f 4 0 (by decide), τ3f 5 0 (by decide)⟩⟩, (fun k j hk => (τ3f k j (fun e => hk ((show ∀ x ∈ [13], x ∈ [0, 3, 4, 5, 13] by decide) k e))))⟩
  · refine g_aload_n hΓ rfl dX3_wobble_10 ?_
    refine m_geta hok hΓ 0 (by decide) rfl rfl q1357 rfl dX3_wobble_11 ?_
    refine g_sipush hΓ (by decide) dX3_wobble_14 ?_
    refine m_ald hok hΓ 0 (by decide) rfl (n := 1048) rfl (by omega) (by decide) dX3_wobble_17 ?_
    refine g_if_ne (tgt := 27) hΓ (by omega) dX3_wobble_18 (by decide) (fun c4 => ?_) (fun c4 => ?_)
    · refine g_aload_n hΓ rfl dX3_wobble_27 ?_
      refine m_callV (As := []) (rest := []) hok hΓ (m_remembers hok σ  (by first | assumption | omega)) rfl q1927 q1929 qs118 q131 q1930 ndX3_remembers rfl (by decide) (by decide) rfl rfl (Nat.le_of_ble_eq_true rfl) dX3_wobble_28 rfl (fun v5 τ5 τ5h => ?_)
      obtain ⟨rfl, τ5h, τ5f⟩ := τ5h
      refine g_iconst hΓ dX3_wobble_31 ?_
      refine g_istore_n hΓ dX3_wobble_32 rfl (Nat.le_of_ble_eq_true rfl) (lv' := [some (.ref h), some (.int (iI n)), some (.int (iI 0)), none, none, none]) rfl ?_
      refine g_iconst hΓ dX3_wobble_33 ?_
      refine g_istore_n hΓ dX3_wobble_34 rfl (Nat.le_of_ble_eq_true rfl) (lv' := [some (.ref h), some (.int (iI n)), some (.int (iI 0)), some (.int (iI 0)), none, none]) rfl ?_
      have τ50 : τ5 0 = σ 0 := (funext fun j => τ5f 0 j (by decide))
      have τ55 : τ5 5 0 = σ 5 0 := τ5f 5 0 (by decide)
      have loop : ∀ (fu : Nat) (u : Int) (s : Int) (t : mS), (σ 0 1009 - s).toNat < fu → (0 ≤ s ∧ s ≤ σ 0 1009) → (u = wbM (fun s => σ 0 (960 + s)) s.toNat) → (t 0 = (wbS n (fun s => σ 0 (960 + s)) s.toNat (σ 0, σ 5 0)).1) → (t 5 0 = (wbS n (fun s => σ 0 (960 + s)) s.toNat (σ 0, σ 5 0)).2) → (0 ≤ t 5 0 ∧ t 5 0 < 2147483648) → (∀ j, 24 * s ≤ j → t 0 j = σ 0 j) → (∀ (k9 : Nat) (j : Int), k9 ∉ [0, 5] → t k9 j = τ5 k9 j) → gW Γ E (mM E h ad t) 0 0 35 [some (.ref h), some (.int (iI n)), some (.int (iI u)), some (.int (iI s)), none, none] [] := by
        intro fu
        induction fu with
        | zero => intro u s t hn; exact absurd hn (Nat.not_lt_zero _)
        | succ fu ih_loop =>
          intro u s t hn hs hu hA h5 hsd hO tf
          have h9 := hO 1009 (by omega)
          refine g_iload_n hΓ rfl dX3_wobble_35 ?_
          refine g_aload_n hΓ rfl dX3_wobble_36 ?_
          refine m_geta hok hΓ 0 (by decide) rfl rfl q1357 rfl dX3_wobble_37 ?_
          refine g_sipush hΓ (by decide) dX3_wobble_40 ?_
          refine m_ald hok hΓ 0 (by decide) rfl (n := 1048) rfl (by omega) (by decide) dX3_wobble_43 ?_
          refine g_icmp_ge (tgt := 138) hΓ (by omega) (by omega) dX3_wobble_44 (by decide) (fun c6 => ?_) (fun c6 => ?_)
          · refine g_iload_n hΓ rfl dX3_wobble_138 ?_
            exact m_iret hΓ dX3_wobble_139 ⟨ri (by rw [if_pos (by omega), hu, show s.toNat = (σ 0 1009).toNat by omega]), ⟨fun _ => ⟨hA.trans (by rw [show s.toNat = (σ 0 1009).toNat by omega]), h5.trans (by rw [show s.toNat = (σ 0 1009).toNat by omega]), ⟨(funext fun j => tf 3 j (by decide)).trans τ5h.1, (tf 4 0 (by decide)).trans τ5h.2⟩, (funext fun j => tf 13 j (by decide)).trans (funext fun j => τ5f 13 j (by decide))⟩, fun q => absurd (by omega) q⟩, (fun k j hk => ((tf k j (fun e => hk ((show ∀ x ∈ [0, 5], x ∈ [0, 3, 4, 5, 13] by decide) k e))).trans (τ5f k j (fun e => hk ((show ∀ x ∈ [3, 4], x ∈ [0, 3, 4, 5, 13] by decide) k e)))))⟩
          · refine g_iconst hΓ dX3_wobble_47 ?_
            refine g_istore hΓ dX3_wobble_48 rfl (Nat.le_of_ble_eq_true rfl) (lv' := [some (.ref h), some (.int (iI n)), some (.int (iI u)), some (.int (iI s)), some (.int (iI 0)), none]) rfl ?_
            have hsq := hsi s (by omega) (by omega)
            have hsq1 := hsq.1
            have hsq2 := hsq.2.1
            have loop2 : ∀ (fu : Nat) (k : Int) (t : mS), (2 * σ 0 (960 + s) - k).toNat < fu → (0 ≤ k ∧ k ≤ 2 * σ 0 (960 + s)) → (t 0 = (wbK n s k.toNat (wbS n (fun s => σ 0 (960 + s)) s.toNat (σ 0, σ 5 0))).1) → (t 5 0 = (wbK n s k.toNat (wbS n (fun s => σ 0 (960 + s)) s.toNat (σ 0, σ 5 0))).2) → (0 ≤ t 5 0 ∧ t 5 0 < 2147483648) → (∀ j, 24 * s + k ≤ j → t 0 j = σ 0 j) → (∀ (k9 : Nat) (j : Int), k9 ∉ [0, 5] → t k9 j = τ5 k9 j) → gW Γ E (mM E h ad t) 0 0 50 [some (.ref h), some (.int (iI n)), some (.int (iI u)), some (.int (iI s)), some (.int (iI k)), none] [] := by
              intro fu
              induction fu with
              | zero => intro k t hn; exact absurd hn (Nat.not_lt_zero _)
              | succ fu ih_loop2 =>
                intro k t hn hk hA h5 hsd hO tf
                have hmy := hO (960 + s) (by omega)
                refine g_iload hΓ rfl dX3_wobble_50 ?_
                refine g_iconst hΓ dX3_wobble_52 ?_
                refine g_aload_n hΓ rfl dX3_wobble_53 ?_
                refine m_geta hok hΓ 0 (by decide) rfl rfl q1357 rfl dX3_wobble_54 ?_
                refine g_sipush hΓ (by decide) dX3_wobble_57 ?_
                refine g_iload_n hΓ rfl dX3_wobble_60 ?_
                refine g_iadd hΓ dX3_wobble_61 ?_
                refine m_ald hok hΓ 0 (by decide) rfl (n := 1048) rfl (by omega) (by decide) dX3_wobble_62 ?_
                refine g_imul hΓ dX3_wobble_63 ?_
                refine g_icmp_ge (tgt := 119) hΓ (by omega) (by omega) dX3_wobble_64 (by decide) (fun c7 => ?_) (fun c7 => ?_)
                · refine g_iload_n hΓ rfl dX3_wobble_119 ?_
                  refine g_aload_n hΓ rfl dX3_wobble_120 ?_
                  refine m_geta hok hΓ 0 (by decide) rfl rfl q1357 rfl dX3_wobble_121 ?_
                  refine g_sipush hΓ (by decide) dX3_wobble_124 ?_
                  refine g_iload_n hΓ rfl dX3_wobble_127 ?_
                  refine g_iadd hΓ dX3_wobble_128 ?_
                  refine m_ald hok hΓ 0 (by decide) rfl (n := 1048) rfl (by omega) (by decide) dX3_wobble_129 ?_
                  refine g_iadd hΓ dX3_wobble_130 ?_
                  obtain ⟨x8, ex8⟩ : ∃ z9 : Int, z9 = u + (t 0 (960 + s)) := ⟨_, rfl⟩
                  refine g_topi ex8.symm ?_
                  refine g_istore_n hΓ dX3_wobble_131 rfl (Nat.le_of_ble_eq_true rfl) (lv' := [some (.ref h), some (.int (iI n)), some (.int (iI x8)), some (.int (iI s)), some (.int (iI k)), none]) rfl ?_
                  obtain ⟨x9, ex9⟩ : ∃ z9 : Int, z9 = s + 1 := ⟨_, rfl⟩
                  refine g_iinc hΓ dX3_wobble_132 rfl rfl (lv' := [some (.ref h), some (.int (iI n)), some (.int (iI x8)), some (.int (iI x9)), some (.int (iI k)), none]) (by rw [ex9]; rfl) ?_
                  refine g_goto (tgt := 35) hΓ dX3_wobble_135 (by decide) ?_
                  refine g_lvw (lv' := [some (.ref h), some (.int (iI n)), some (.int (iI x8)), some (.int (iI x9)), none, none]) ⟨rfl, ⟨rfl, ⟨rfl, ⟨rfl, trivial⟩⟩⟩⟩ ?_
                  exact ih_loop x8 x9 t (by omega) (by omega) (by rw [show x9.toNat = s.toNat + 1 by omega, wbM, ← hu, show ((s.toNat : Nat) : Int) = s by omega]; omega) (hA.trans (by rw [show x9.toNat = s.toNat + 1 by omega, wbS, show ((s.toNat : Nat) : Int) = s by omega, show k.toNat = (2 * σ 0 (960 + s)).toNat by omega])) (h5.trans (by rw [show x9.toNat = s.toNat + 1 by omega, wbS, show ((s.toNat : Nat) : Int) = s by omega, show k.toNat = (2 * σ 0 (960 + s)).toNat by omega])) hsd (fun j hj => hO j (by omega)) tf
                · refine g_iconst hΓ dX3_wobble_67 ?_
                  refine g_bipush hΓ (by decide) dX3_wobble_68 ?_
                  refine g_iload_n hΓ rfl dX3_wobble_70 ?_
                  refine g_imul hΓ dX3_wobble_71 ?_
                  refine g_iadd hΓ dX3_wobble_72 ?_
                  refine g_iload hΓ rfl dX3_wobble_73 ?_
                  refine g_iadd hΓ dX3_wobble_75 ?_
                  obtain ⟨x10, ex10⟩ : ∃ z9 : Int, z9 = (0 + (24 * s)) + k := ⟨_, rfl⟩
                  refine g_topi ex10.symm ?_
                  refine g_istore hΓ dX3_wobble_76 rfl (Nat.le_of_ble_eq_true rfl) (lv' := [some (.ref h), some (.int (iI n)), some (.int (iI u)), some (.int (iI s)), some (.int (iI k)), some (.int (iI x10))]) rfl ?_
                  have hix : x10 = 24 * s + k := by omega
                  have hpt := hsq.pt (j := k) (by omega) (by omega)
                  have ht9 := hO x10 (by omega)
                  rw [hix] at ht9
                  have hpt2 : 0 ≤ t 0 (24 * s + k) ∧ t 0 (24 * s + k) ≤ 99 := by rw [ht9]; exact hpt
                  have ht8 : t 0 x10 = t 0 (24 * s + k) := by rw [hix]
                  have hdr : 0 ≤ sdF (t 5 0) / 64 % (2 * n + 1) ∧ sdF (t 5 0) / 64 % (2 * n + 1) < 2 * n + 1 := ⟨Int.emod_nonneg _ (by omega), Int.emod_lt_of_pos _ (by omega)⟩
                  refine g_aload_n hΓ rfl dX3_wobble_78 ?_
                  refine m_geta hok hΓ 0 (by decide) rfl rfl q1357 rfl dX3_wobble_79 ?_
                  refine g_iload hΓ rfl dX3_wobble_82 ?_
                  refine g_iconst hΓ dX3_wobble_84 ?_
                  refine g_bipush hΓ (by decide) dX3_wobble_85 ?_
                  refine g_aload_n hΓ rfl dX3_wobble_87 ?_
                  refine m_geta hok hΓ 0 (by decide) rfl rfl q1357 rfl dX3_wobble_88 ?_
                  refine g_iload hΓ rfl dX3_wobble_91 ?_
                  refine m_ald hok hΓ 0 (by decide) rfl (n := 1048) rfl (by omega) (by decide) dX3_wobble_93 ?_
                  refine g_iload_n hΓ rfl dX3_wobble_94 ?_
                  refine g_isub hΓ dX3_wobble_95 ?_
                  refine g_aload_n hΓ rfl dX3_wobble_96 ?_
                  refine g_iconst hΓ dX3_wobble_97 ?_
                  refine g_iload_n hΓ rfl dX3_wobble_98 ?_
                  refine g_imul hΓ dX3_wobble_99 ?_
                  refine g_iconst hΓ dX3_wobble_100 ?_
                  refine g_iadd hΓ dX3_wobble_101 ?_
                  refine m_callV (As := [.int (iI ((2 * n) + 1))]) (rest := [.int (iI ((t 0 x10) - n)), .int (iI 99), .int (iI 0), .int (iI x10), .ref (ad 0)]) hok hΓ (m_draw hok t ((2 * n) + 1) (by first | assumption | omega) (by first | assumption | omega)) rfl q1955 q1957 qs119 q131 q1958 ndX3_draw rfl (by decide) (by decide) rfl rfl (Nat.le_of_ble_eq_true rfl) dX3_wobble_102 rfl (fun v11 τ11 τ11h => ?_)
                  obtain ⟨rfl, τ11h, τ11f⟩ := τ11h
                  show gW Γ E (mM E h ad τ11) 0 0 _ _ (.int (iI (sdF (t 5 0) / 64 % ((2 * n) + 1))) :: _)
                  refine g_iadd hΓ dX3_wobble_105 ?_
                  refine m_callS (As := [.int (iI 99), .int (iI (((t 0 x10) - n) + (sdF (t 5 0) / 64 % ((2 * n) + 1))))]) (rest := [.int (iI 0), .int (iI x10), .ref (ad 0)]) hok hΓ (m_lesser hok τ11 99 (((t 0 x10) - n) + (sdF (t 5 0) / 64 % ((2 * n) + 1))) (by first | assumption | omega) (by first | assumption | omega)) rfl q1674 q1675 q131 q1676 ndX3_lesser rfl (by decide) (by decide) rfl (Nat.le_of_ble_eq_true rfl) dX3_wobble_106 rfl (fun v12 τ12 τ12h => ?_)
                  obtain ⟨rfl, τ12h⟩ := τ12h
                  rw [τ12h]
                  clear τ12h
                  show gW Γ E (mM E h ad τ11) 0 0 _ _ (.int (iI (min 99 (((t 0 x10) - n) + (sdF (t 5 0) / 64 % ((2 * n) + 1))))) :: _)
                  refine m_callS (As := [.int (iI 0), .int (iI (min 99 (((t 0 x10) - n) + (sdF (t 5 0) / 64 % ((2 * n) + 1)))))]) (rest := [.int (iI x10), .ref (ad 0)]) hok hΓ (m_greater hok τ11 0 (min 99 (((t 0 x10) - n) + (sdF (t 5 0) / 64 % ((2 * n) + 1)))) (by first | assumption | omega) (by first | assumption | omega)) rfl q1693 q1694 q131 q1695 ndX3_greater rfl (by decide) (by decide) rfl (Nat.le_of_ble_eq_true rfl) dX3_wobble_109 rfl (fun v13 τ13 τ13h => ?_)
                  obtain ⟨rfl, τ13h⟩ := τ13h
                  rw [τ13h]
                  clear τ13h
                  show gW Γ E (mM E h ad τ11) 0 0 _ _ (.int (iI (max 0 (min 99 (((t 0 x10) - n) + (sdF (t 5 0) / 64 % ((2 * n) + 1)))))) :: _)
                  refine m_ast hok hΓ 0 (by decide) rfl (n := 1048) rfl (by omega) (by decide) dX3_wobble_112 (fun τ14 τ14e => ?_)
                  have τ14r : τ14 0 x10 = max 0 (min 99 (((t 0 x10) - n) + (sdF (t 5 0) / 64 % ((2 * n) + 1)))) := by rw [τ14e]; exact us_s _ _ _ _
                  have τ14f : ∀ (k9 : Nat) (j9 : Int), (k9 ≠ 0 ∨ j9 ≠ x10) → τ14 k9 j9 = τ11 k9 j9 := fun k9 j9 hh => by rw [τ14e]; exact us_n hh
                  obtain ⟨x15, ex15⟩ : ∃ z9 : Int, z9 = k + 1 := ⟨_, rfl⟩
                  refine g_iinc hΓ dX3_wobble_113 rfl rfl (lv' := [some (.ref h), some (.int (iI n)), some (.int (iI u)), some (.int (iI s)), some (.int (iI x15)), some (.int (iI x10))]) (by rw [ex15]; rfl) ?_
                  refine g_goto (tgt := 50) hΓ dX3_wobble_116 (by decide) ?_
                  refine g_lvw (lv' := [some (.ref h), some (.int (iI n)), some (.int (iI u)), some (.int (iI s)), some (.int (iI x15)), none]) ⟨rfl, ⟨rfl, ⟨rfl, ⟨rfl, ⟨rfl, trivial⟩⟩⟩⟩⟩ ?_
                  exact ih_loop2 x15 τ14 (by omega) (by omega) (funext fun j => by
                      rw [show x15.toNat = k.toNat + 1 by omega, wbK]
                      simp only
                      rw [show 24 * s + ((k.toNat : Nat) : Int) = 24 * s + k by omega, ← hA, ← h5]
                      by_cases z : j = 24 * s + k
                      · rw [z, up_s, ← hix, τ14r, wbV]
                      · rw [up_n z, τ14f 0 j (Or.inr (by omega)), τ11f 0 j (by decide)]) ((τ14f 5 0 (Or.inl (by decide))).trans (τ11h.trans (by rw [show x15.toNat = k.toNat + 1 by omega, wbK, h5]))) (by have z := sdF_r (t 5 0); rw [τ14f 5 0 (Or.inl (by decide)), τ11h]; exact z) (fun j hj => (τ14f 0 j (Or.inr (by omega))).trans ((τ11f 0 j (by decide)).trans (hO j (by omega)))) (fun k9 j9 hk9 => (τ14f k9 j9 (Or.inl (fun e => hk9 (by rw [e]; decide)))).trans ((τ11f k9 j9 (fun e => hk9 ((show ∀ x ∈ [5], x ∈ [0, 5] by decide) k9 e))).trans (tf k9 j9 hk9)))
            exact loop2 25 0 t (by omega) (by omega) hA h5 hsd (fun j hj => hO j (by omega)) tf
      exact loop 9 0 0 τ5 (by omega) (by omega) rfl τ50 τ55 (by rw [τ55]; exact hsd0) (fun j _ => by rw [τ50]) (fun k j _ => rfl)
    · refine g_aload_n hΓ rfl dX3_wobble_21 ?_
      refine g_iconst hΓ dX3_wobble_22 ?_
      refine m_callV (As := [.int (iI 2)]) (rest := []) hok hΓ (m_refuses hok σ 2 (by first | assumption | omega)) rfl q1485 q1487 qs56 q131 q1488 ndX3_refuses rfl (by decide) (by decide) rfl rfl (Nat.le_of_ble_eq_true rfl) dX3_wobble_23 rfl (fun v16 τ16 τ16h => ?_)
      obtain ⟨rfl, τ16h, τ16f⟩ := τ16h
      show gW Γ E (mM E h ad τ16) 0 0 _ _ (.int (iI (-1)) :: _)
      exact m_iret hΓ dX3_wobble_26 ⟨ri (by rw [if_neg (by omega)]), ⟨fun q => absurd q (by omega), fun _ => ⟨τ16h, (funext fun j => τ16f 0 j (by decide)), (funext fun j => τ16f 3 j (by decide)), τ16f 4 0 (by decide), τ16f 5 0 (by decide)⟩⟩, (fun k j hk => (τ16f k j (fun e => hk ((show ∀ x ∈ [13], x ∈ [0, 3, 4, 5, 13] by decide) k e))))⟩
set_option maxHeartbeats 4000000 in
theorem m_puts {l : Launch} {E : gE} {h : Nat} {ad : Nat → Nat} (hok : mOK E h ad) (σ : mS)  (v : Int) (ho : 0 ≤ σ 40 0 ∧ σ 40 0 < 202) : mC l E h ad yX3_puts cX3_puts 2 none 0 [.ref h, .int (iI v)] σ (fun rv σ' => rv = none ∧ (σ' 39 = up (σ 39) (σ 40 0) v ∧ σ' 40 0 = σ 40 0 + 1) ∧ ∀ (k : Nat) (j : Int), k ∉ [39, 40] → σ' k j = σ k j) := by
  refine mC.of (by decide) [some (.ref h), some (.int (iI v))] (Nat.le_of_ble_eq_true rfl) rfl rfl (fun Γ hΓ => ?_)
  refine g_aload_n hΓ rfl dX3_puts_0 ?_
  refine m_geta hok hΓ 39 (by decide) rfl rfl q1396 rfl dX3_puts_1 ?_
  refine g_aload_n hΓ rfl dX3_puts_4 ?_
  refine m_geti hok hΓ 40 (by decide) rfl rfl q1397 rfl dX3_puts_5 ?_
  refine g_iload_n hΓ rfl dX3_puts_8 ?_
  refine m_ast hok hΓ 39 (by decide) rfl (n := 202) rfl (by omega) (by decide) dX3_puts_9 (fun τ1 τ1e => ?_)
  have τ1r : τ1 39 (σ 40 0) = v := by rw [τ1e]; exact us_s _ _ _ _
  have τ1f : ∀ (k9 : Nat) (j9 : Int), (k9 ≠ 39 ∨ j9 ≠ (σ 40 0)) → τ1 k9 j9 = σ k9 j9 := fun k9 j9 hh => by rw [τ1e]; exact us_n hh
  refine g_aload_n hΓ rfl dX3_puts_10 ?_
  refine g_dup hΓ rfl dX3_puts_11 ?_
  refine m_geti hok hΓ 40 (by decide) rfl rfl q1397 rfl dX3_puts_12 ?_
  refine g_topi ((τ1f 40 0 (Or.inl (by decide)))) ?_
  refine g_iconst hΓ dX3_puts_15 ?_
  refine g_iadd hΓ dX3_puts_16 ?_
  refine m_puti hok hΓ 40 (by decide) rfl rfl q1397 rfl rfl rfl dX3_puts_17 (fun τ2 τ2e => ?_)
  have τ2r : τ2 40 0 = (σ 40 0) + 1 := by rw [τ2e]; exact us_s _ _ _ _
  have τ2f : ∀ (k9 : Nat) (j9 : Int), (k9 ≠ 40 ∨ j9 ≠ 0) → τ2 k9 j9 = τ1 k9 j9 := fun k9 j9 hh => by rw [τ2e]; exact us_n hh
  exact m_vret hΓ dX3_puts_20 ⟨rfl, ⟨(funext fun j => τ2f 39 j (Or.inl (by decide))).trans (by rw [τ1e, us_a]), τ2r⟩, (fun k j hk => ((τ2f k j (Or.inl (fun e => hk (by rw [e]; decide)))).trans (τ1f k j (Or.inl (fun e => hk (by rw [e]; decide))))))⟩
