set_option maxRecDepth 100000
set_option maxHeartbeats 4000000 in
theorem m_on {l : Launch} {E : gE} {h : Nat} {ad : Nat → Nat} (hok : mOK E h ad) (σ : mS)   (hr : rowOK (σ 0)) (htp : ∀ j, 0 ≤ j → j < 1600 → 0 ≤ σ 11 j ∧ σ 11 j < 256) (htd : 0 ≤ σ 12 0 ∧ σ 12 0 ≤ 1600) : mC l E h ad yX3_on cX3_on 5 (some .boolean) 2 [.ref h] σ (fun rv σ' => rv = some (.int (iI (if onC σ then 1 else 0))) ∧ ((onC σ → onR σ' σ ∧ σ' 4 0 = 0 ∧ σ' 13 = σ 13 ∧ σ' 12 0 = 0) ∧ (¬ onC σ → refR σ' σ 5 ∧ σ' 0 = σ 0 ∧ σ' 4 0 = σ 4 0 ∧ σ' 12 0 = 0)) ∧ ∀ (k : Nat) (j : Int), k ∉ [0, 1, 4, 12, 13] → σ' k j = σ k j) := by
  refine mC.of (by decide) [some (.ref h), none, none, none, none] (Nat.le_of_ble_eq_true rfl) rfl rfl (fun Γ hΓ => ?_)
  obtain ⟨h1000, h1009, h1042, h1043, h1044, h1045, h1046, h1047, hms, hsi, hsm, hnm⟩ := id hr
  refine g_aload_n hΓ rfl dX3_on_0 ?_
  refine m_callV (As := []) (rest := []) hok hΓ (m_taken hok σ  ) rfl q1505 q1507 qs59 q131 q1508 ndX3_taken rfl (by decide) (by decide) rfl rfl (Nat.le_of_ble_eq_true rfl) dX3_on_1 rfl (fun v1 τ1 τ1h => ?_)
  obtain ⟨rfl, τ1h, τ1f⟩ := τ1h
  show gW Γ E (mM E h ad τ1) 0 0 _ _ (.int (iI (σ 12 0)) :: _)
  obtain ⟨x2, ex2⟩ : ∃ z9 : Int, z9 = σ 12 0 := ⟨_, rfl⟩
  refine g_topi ex2.symm ?_
  refine g_istore_n hΓ dX3_on_4 rfl (Nat.le_of_ble_eq_true rfl) (lv' := [some (.ref h), some (.int (iI x2)), none, none, none]) rfl ?_
  refine g_sipush hΓ (by decide) dX3_on_5 ?_
  refine g_istore_n hΓ dX3_on_8 rfl (Nat.le_of_ble_eq_true rfl) (lv' := [some (.ref h), some (.int (iI x2)), some (.int (iI 157)), none, none]) rfl ?_
  refine g_iconst hΓ dX3_on_9 ?_
  refine g_istore_n hΓ dX3_on_10 rfl (Nat.le_of_ble_eq_true rfl) (lv' := [some (.ref h), some (.int (iI x2)), some (.int (iI 157)), some (.int (iI 0)), none]) rfl ?_
  have e11 : τ1 11 = σ 11 := (funext fun j => τ1f 11 j (by decide))
  have loop : ∀ (fu : Nat) (c : Int) (q : Int), (x2 - q).toNat < fu → (0 ≤ q ∧ (q ≤ x2 - 1 ∨ q = 0)) → (c = ckF (σ 11) q.toNat) → gW Γ E (mM E h ad τ1) 0 0 11 [some (.ref h), some (.int (iI x2)), some (.int (iI c)), some (.int (iI q)), none] [] := by
    intro fu
    induction fu with
    | zero => intro c q hn; exact absurd hn (Nat.not_lt_zero _)
    | succ fu ih_loop =>
      intro c q hn hq hc
      have hcr := ckF_r (σ 11) q.toNat
      rw [← hc] at hcr
      refine g_iload_n hΓ rfl dX3_on_11 ?_
      refine g_iload_n hΓ rfl dX3_on_12 ?_
      refine g_iconst hΓ dX3_on_13 ?_
      refine g_isub hΓ dX3_on_14 ?_
      refine g_icmp_ge (tgt := 39) hΓ (by omega) (by omega) dX3_on_15 (by decide) (fun c3 => ?_) (fun c3 => ?_)
      · refine g_iload_n hΓ rfl dX3_on_39 ?_
        refine g_iconst hΓ dX3_on_40 ?_
        refine g_icmp_lt (tgt := 77) hΓ (by omega) (by omega) dX3_on_41 (by decide) (fun c4 => ?_) (fun c4 => ?_)
        · have hnon : ¬ onC σ := fun z => by
            obtain ⟨z1, z2, z3, z4⟩ := z
            first
            | omega
            | (rw [show (σ 12 0 - 1).toNat = q.toNat by omega, ← hc, ← ex2] at z3; omega)
            | (rw [← e11, ← ex2] at z4; exact absurd z4 (by assumption))
          refine g_aload_n hΓ rfl dX3_on_77 ?_
          refine g_iconst hΓ dX3_on_78 ?_
          refine m_callV (As := [.int (iI 5)]) (rest := []) hok hΓ (m_isRefused hok τ1 5 (by first | assumption | omega)) rfl q1497 q1499 qs58 q131 q1500 ndX3_isRefused rfl (by decide) (by decide) rfl rfl (Nat.le_of_ble_eq_true rfl) dX3_on_79 rfl (fun v5 τ5 τ5h => ?_)
          obtain ⟨rfl, τ5h, τ5f⟩ := τ5h
          show gW Γ E (mM E h ad τ5) 0 0 _ _ (.int (iI 0) :: _)
          exact m_zret hΓ (by omega) dX3_on_82 ⟨ri (by rw [if_neg hnon]), ⟨fun q => absurd q hnon, fun _ => ⟨by rw [refR, τ5h]; rw [show τ1 13 = σ 13 from funext fun j => (τ1f 13 j (by decide))], funext fun j => ((τ5f 0 j (by decide)).trans (τ1f 0 j (by decide))), ((τ5f 4 0 (by decide)).trans (τ1f 4 0 (by decide))), ((τ5f 12 0 (by decide))).trans τ1h⟩⟩, (fun k j hk => ((τ5f k j (fun e => hk ((show ∀ x ∈ [13], x ∈ [0, 1, 4, 12, 13] by decide) k e))).trans (τ1f k j (fun e => hk ((show ∀ x ∈ [12], x ∈ [0, 1, 4, 12, 13] by decide) k e)))))⟩
        · have ht0 := htp 0 (by omega) (by omega)
          have htE := htp (x2 - 1) (by omega) (by omega)
          refine g_aload_n hΓ rfl dX3_on_44 ?_
          refine m_geta hok hΓ 11 (by decide) rfl rfl q1368 rfl dX3_on_45 ?_
          refine g_iconst hΓ dX3_on_48 ?_
          refine m_ald hok hΓ 11 (by decide) rfl (n := 1600) rfl (by omega) (by decide) dX3_on_49 ?_
          refine g_topi ((τ1f 11 0 (by decide))) ?_
          refine g_bipush hΓ (by decide) dX3_on_50 ?_
          refine g_icmp_gt (tgt := 77) hΓ (by omega) (by omega) dX3_on_52 (by decide) (fun c6 => ?_) (fun c6 => ?_)
          · have hnon : ¬ onC σ := fun z => by
              obtain ⟨z1, z2, z3, z4⟩ := z
              first
              | omega
              | (rw [show (σ 12 0 - 1).toNat = q.toNat by omega, ← hc, ← ex2] at z3; omega)
              | (rw [← e11, ← ex2] at z4; exact absurd z4 (by assumption))
            refine g_aload_n hΓ rfl dX3_on_77 ?_
            refine g_iconst hΓ dX3_on_78 ?_
            refine m_callV (As := [.int (iI 5)]) (rest := []) hok hΓ (m_isRefused hok τ1 5 (by first | assumption | omega)) rfl q1497 q1499 qs58 q131 q1500 ndX3_isRefused rfl (by decide) (by decide) rfl rfl (Nat.le_of_ble_eq_true rfl) dX3_on_79 rfl (fun v7 τ7 τ7h => ?_)
            obtain ⟨rfl, τ7h, τ7f⟩ := τ7h
            show gW Γ E (mM E h ad τ7) 0 0 _ _ (.int (iI 0) :: _)
            exact m_zret hΓ (by omega) dX3_on_82 ⟨ri (by rw [if_neg hnon]), ⟨fun q => absurd q hnon, fun _ => ⟨by rw [refR, τ7h]; rw [show τ1 13 = σ 13 from funext fun j => (τ1f 13 j (by decide))], funext fun j => ((τ7f 0 j (by decide)).trans (τ1f 0 j (by decide))), ((τ7f 4 0 (by decide)).trans (τ1f 4 0 (by decide))), ((τ7f 12 0 (by decide))).trans τ1h⟩⟩, (fun k j hk => ((τ7f k j (fun e => hk ((show ∀ x ∈ [13], x ∈ [0, 1, 4, 12, 13] by decide) k e))).trans (τ1f k j (fun e => hk ((show ∀ x ∈ [12], x ∈ [0, 1, 4, 12, 13] by decide) k e)))))⟩
          · refine g_aload_n hΓ rfl dX3_on_55 ?_
            refine m_geta hok hΓ 11 (by decide) rfl rfl q1368 rfl dX3_on_56 ?_
            refine g_iload_n hΓ rfl dX3_on_59 ?_
            refine g_iconst hΓ dX3_on_60 ?_
            refine g_isub hΓ dX3_on_61 ?_
            refine m_ald hok hΓ 11 (by decide) rfl (n := 1600) rfl (by omega) (by decide) dX3_on_62 ?_
            refine g_topi ((τ1f 11 (x2 - 1) (by decide))) ?_
            refine g_iload_n hΓ rfl dX3_on_63 ?_
            refine g_icmp_ne (tgt := 77) hΓ (by omega) (by omega) dX3_on_64 (by decide) (fun c8 => ?_) (fun c8 => ?_)
            · have hnon : ¬ onC σ := fun z => by
                obtain ⟨z1, z2, z3, z4⟩ := z
                first
                | omega
                | (rw [show (σ 12 0 - 1).toNat = q.toNat by omega, ← hc, ← ex2] at z3; omega)
                | (rw [← e11, ← ex2] at z4; exact absurd z4 (by assumption))
              refine g_aload_n hΓ rfl dX3_on_77 ?_
              refine g_iconst hΓ dX3_on_78 ?_
              refine m_callV (As := [.int (iI 5)]) (rest := []) hok hΓ (m_isRefused hok τ1 5 (by first | assumption | omega)) rfl q1497 q1499 qs58 q131 q1500 ndX3_isRefused rfl (by decide) (by decide) rfl rfl (Nat.le_of_ble_eq_true rfl) dX3_on_79 rfl (fun v9 τ9 τ9h => ?_)
              obtain ⟨rfl, τ9h, τ9f⟩ := τ9h
              show gW Γ E (mM E h ad τ9) 0 0 _ _ (.int (iI 0) :: _)
              exact m_zret hΓ (by omega) dX3_on_82 ⟨ri (by rw [if_neg hnon]), ⟨fun q => absurd q hnon, fun _ => ⟨by rw [refR, τ9h]; rw [show τ1 13 = σ 13 from funext fun j => (τ1f 13 j (by decide))], funext fun j => ((τ9f 0 j (by decide)).trans (τ1f 0 j (by decide))), ((τ9f 4 0 (by decide)).trans (τ1f 4 0 (by decide))), ((τ9f 12 0 (by decide))).trans τ1h⟩⟩, (fun k j hk => ((τ9f k j (fun e => hk ((show ∀ x ∈ [13], x ∈ [0, 1, 4, 12, 13] by decide) k e))).trans (τ1f k j (fun e => hk ((show ∀ x ∈ [12], x ∈ [0, 1, 4, 12, 13] by decide) k e)))))⟩
            · have htp1 : ∀ j, 0 ≤ j → j < 1600 → 0 ≤ τ1 11 j ∧ τ1 11 j < 256 := by rw [e11]; exact htp
              have h10 : τ1 11 0 ≤ 8 := by rw [e11]; omega
              refine g_aload_n hΓ rfl dX3_on_67 ?_
              refine g_iload_n hΓ rfl dX3_on_68 ?_
              refine g_iconst hΓ dX3_on_69 ?_
              refine g_isub hΓ dX3_on_70 ?_
              refine m_callV (As := [.int (iI (x2 - 1))]) (rest := []) hok hΓ (m_takesIn hok τ1 (x2 - 1) (by first | assumption | omega) (by first | assumption | omega) (by first | assumption | omega)) rfl q1986 q1988 qs121 q131 q1989 ndX3_takesIn rfl (by decide) (by decide) rfl rfl (Nat.le_of_ble_eq_true rfl) dX3_on_71 rfl (fun v10 τ10 τ10h => ?_)
              obtain ⟨rfl, τ10h, τ10f⟩ := τ10h
              show gW Γ E (mM E h ad τ10) 0 0 _ _ (.int (iI (if tkP (τ1 11) (x2 - 1) (τ1 11 0).toNat = (x2 - 1) then 1 else 0)) :: _)
              refine g_ifB_ne (tgt := 83) hΓ  dX3_on_74 (by decide) (fun c11 => ?_) (fun c11 => ?_)
              · refine g_aload_n hΓ rfl dX3_on_83 ?_
                refine m_geta hok hΓ 0 (by decide) rfl rfl q1357 rfl dX3_on_84 ?_
                refine g_sipush hΓ (by decide) dX3_on_87 ?_
                refine g_aload_n hΓ rfl dX3_on_90 ?_
                refine m_geta hok hΓ 11 (by decide) rfl rfl q1368 rfl dX3_on_91 ?_
                refine g_iconst hΓ dX3_on_94 ?_
                refine m_ald hok hΓ 11 (by decide) rfl (n := 1600) rfl (by omega) (by decide) dX3_on_95 ?_
                refine g_topi (((τ10f 11 0 (by decide)).trans (τ1f 11 0 (by decide)))) ?_
                refine m_ast hok hΓ 0 (by decide) rfl (n := 1048) rfl (by omega) (by decide) dX3_on_96 (fun τ12 τ12e => ?_)
                have τ12r : τ12 0 1009 = σ 11 0 := by rw [τ12e]; exact us_s _ _ _ _
                have τ12f : ∀ (k9 : Nat) (j9 : Int), (k9 ≠ 0 ∨ j9 ≠ 1009) → τ12 k9 j9 = τ10 k9 j9 := fun k9 j9 hh => by rw [τ12e]; exact us_n hh
                refine g_iconst hΓ dX3_on_97 ?_
                refine g_istore_n hΓ dX3_on_98 rfl (Nat.le_of_ble_eq_true rfl) (lv' := [some (.ref h), some (.int (iI x2)), some (.int (iI c)), some (.int (iI 0)), none]) rfl ?_
                have hon : onC σ := ⟨by omega, by omega, by rw [show (σ 12 0 - 1).toNat = q.toNat by omega, ← hc, ← ex2]; omega, by rw [← e11, ← ex2]; assumption⟩
                obtain ⟨hU, hsm⟩ : tkR (σ 11) (σ 12 0 - 1) (τ10 1) (σ 11 0) ∧ ∀ s', 0 ≤ s' → s' < σ 11 0 → 2 ≤ σ 11 (tkP (σ 11) (σ 12 0 - 1) s'.toNat) ∧ σ 11 (tkP (σ 11) (σ 12 0 - 1) s'.toNat) ≤ 12 := by
                  have z := τ10h
                  rw [e11, ex2] at z
                  exact z hon.2.2.2
                have τ100 : τ10 0 = σ 0 := funext fun j => ((τ10f 0 j (by decide)).trans (τ1f 0 j (by decide)))
                have loop2 : ∀ (fu : Nat) (s : Int) (t : mS), (σ 11 0 - s).toNat < fu → (0 ≤ s ∧ s ≤ σ 11 0) → (t 0 1009 = σ 11 0) → (tkR (σ 11) (σ 12 0 - 1) (t 0) s) → (∀ j, 192 ≤ j → ¬ (960 ≤ j ∧ j < 968) → j ≠ 1009 → t 0 j = σ 0 j) → (∀ (k : Nat) (j : Int), k ∉ [0] → t k j = τ10 k j) → gW Γ E (mM E h ad t) 0 0 99 [some (.ref h), some (.int (iI x2)), some (.int (iI c)), some (.int (iI s)), none] [] := by
                  intro fu
                  induction fu with
                  | zero => intro s t hn; exact absurd hn (Nat.not_lt_zero _)
                  | succ fu ih_loop2 =>
                    intro s t hn hs h9 hR hO tf
                    refine g_iload_n hΓ rfl dX3_on_99 ?_
                    refine g_aload_n hΓ rfl dX3_on_100 ?_
                    refine m_geta hok hΓ 11 (by decide) rfl rfl q1368 rfl dX3_on_101 ?_
                    refine g_iconst hΓ dX3_on_104 ?_
                    refine m_ald hok hΓ 11 (by decide) rfl (n := 1600) rfl (by omega) (by decide) dX3_on_105 ?_
                    refine g_topi ((((tf 11 0 (by decide)).trans (τ10f 11 0 (by decide))).trans (τ1f 11 0 (by decide)))) ?_
                    refine g_icmp_ge (tgt := 179) hΓ (by omega) (by omega) dX3_on_106 (by decide) (fun c13 => ?_) (fun c13 => ?_)
                    · refine g_aload_n hΓ rfl dX3_on_179 ?_
                      refine g_iconst hΓ dX3_on_180 ?_
                      refine m_puti hok hΓ 4 (by decide) rfl rfl q1361 rfl rfl rfl dX3_on_181 (fun τ14 τ14e => ?_)
                      have τ14r : τ14 4 0 = 0 := by rw [τ14e]; exact us_s _ _ _ _
                      have τ14f : ∀ (k9 : Nat) (j9 : Int), (k9 ≠ 4 ∨ j9 ≠ 0) → τ14 k9 j9 = t k9 j9 := fun k9 j9 hh => by rw [τ14e]; exact us_n hh
                      refine g_iconst hΓ dX3_on_184 ?_
                      exact m_zret hΓ (by omega) dX3_on_185 ⟨ri (by rw [if_pos hon]), ⟨fun _ => ⟨⟨(τ14f 0 _ (Or.inl (by decide))).trans h9, by
                          rw [show τ14 0 = t 0 from funext fun j => τ14f 0 j (Or.inl (by decide))]
                          intro s' h0 h1
                          exact hR s' h0 (by omega), hsm, fun j h0 h1 h2 => (τ14f 0 _ (Or.inl (by decide))).trans (hO j h0 h1 h2)⟩, τ14r, funext fun j => ((((τ14f 13 j (Or.inl (by decide))).trans (tf 13 j (by decide))).trans (τ10f 13 j (by decide))).trans (τ1f 13 j (by decide))), ((((τ14f 12 0 (Or.inl (by decide))).trans (tf 12 0 (by decide))).trans (τ10f 12 0 (by decide)))).trans τ1h⟩, fun q => absurd hon q⟩, (fun k j hk => ((((τ14f k j (Or.inl (fun e => hk (by rw [e]; decide)))).trans (tf k j (fun e => hk ((show ∀ x ∈ [0], x ∈ [0, 1, 4, 12, 13] by decide) k e)))).trans (τ10f k j (fun e => hk ((show ∀ x ∈ [1], x ∈ [0, 1, 4, 12, 13] by decide) k e)))).trans (τ1f k j (fun e => hk ((show ∀ x ∈ [12], x ∈ [0, 1, 4, 12, 13] by decide) k e)))))⟩
                    · refine g_aload_n hΓ rfl dX3_on_109 ?_
                      refine m_geta hok hΓ 0 (by decide) rfl rfl q1357 rfl dX3_on_110 ?_
                      refine g_sipush hΓ (by decide) dX3_on_113 ?_
                      refine g_iload_n hΓ rfl dX3_on_116 ?_
                      refine g_iadd hΓ dX3_on_117 ?_
                      refine g_aload_n hΓ rfl dX3_on_118 ?_
                      refine m_geta hok hΓ 1 (by decide) rfl rfl q1358 rfl dX3_on_119 ?_
                      refine g_sipush hΓ (by decide) dX3_on_122 ?_
                      refine g_iload_n hΓ rfl dX3_on_125 ?_
                      refine g_iadd hΓ dX3_on_126 ?_
                      refine m_ald hok hΓ 1 (by decide) rfl (n := 1048) rfl (by omega) (by decide) dX3_on_127 ?_
                      refine g_topi ((tf 1 (960 + s) (by decide))) ?_
                      refine m_ast hok hΓ 0 (by decide) rfl (n := 1048) rfl (by omega) (by decide) dX3_on_128 (fun τ15 τ15e => ?_)
                      have τ15r : τ15 0 (960 + s) = τ10 1 (960 + s) := by rw [τ15e]; exact us_s _ _ _ _
                      have τ15f : ∀ (k9 : Nat) (j9 : Int), (k9 ≠ 0 ∨ j9 ≠ (960 + s)) → τ15 k9 j9 = t k9 j9 := fun k9 j9 hh => by rw [τ15e]; exact us_n hh
                      refine g_iconst hΓ dX3_on_129 ?_
                      refine g_istore hΓ dX3_on_130 rfl (Nat.le_of_ble_eq_true rfl) (lv' := [some (.ref h), some (.int (iI x2)), some (.int (iI c)), some (.int (iI s)), some (.int (iI 0))]) rfl ?_
                      have loop3 : ∀ (fu : Nat) (k : Int) (t : mS), (24 - k).toNat < fu → (0 ≤ k ∧ k ≤ 24) → (t 0 1009 = σ 11 0) → (tkR (σ 11) (σ 12 0 - 1) (t 0) s) → (t 0 (960 + s) = τ10 1 (960 + s)) → (∀ j, 0 ≤ j → j < k → t 0 (24 * s + j) = τ10 1 (24 * s + j)) → (∀ j, 192 ≤ j → ¬ (960 ≤ j ∧ j < 968) → j ≠ 1009 → t 0 j = σ 0 j) → (∀ (k : Nat) (j : Int), k ∉ [0] → t k j = τ10 k j) → gW Γ E (mM E h ad t) 0 0 132 [some (.ref h), some (.int (iI x2)), some (.int (iI c)), some (.int (iI s)), some (.int (iI k))] [] := by
                        intro fu
                        induction fu with
                        | zero => intro k t hn; exact absurd hn (Nat.not_lt_zero _)
                        | succ fu ih_loop3 =>
                          intro k t hn hk h9 hR hM hP hO tf
                          refine g_iload hΓ rfl dX3_on_132 ?_
                          refine g_bipush hΓ (by decide) dX3_on_134 ?_
                          refine g_icmp_ge (tgt := 173) hΓ (by omega) (by omega) dX3_on_136 (by decide) (fun c16 => ?_) (fun c16 => ?_)
                          · obtain ⟨x17, ex17⟩ : ∃ z9 : Int, z9 = s + 1 := ⟨_, rfl⟩
                            refine g_iinc hΓ dX3_on_173 rfl rfl (lv' := [some (.ref h), some (.int (iI x2)), some (.int (iI c)), some (.int (iI x17)), some (.int (iI k))]) (by rw [ex17]; rfl) ?_
                            refine g_goto (tgt := 99) hΓ dX3_on_176 (by decide) ?_
                            refine g_lvw (lv' := [some (.ref h), some (.int (iI x2)), some (.int (iI c)), some (.int (iI x17)), none]) ⟨rfl, ⟨rfl, ⟨rfl, ⟨rfl, trivial⟩⟩⟩⟩ ?_
                            exact ih_loop2 x17 t (by omega) (by omega) h9 (fun s' h0 h1 => by
                                by_cases z : s' = s
                                · have hz := hsm s (by omega) (by omega)
                                  obtain ⟨z1, z2⟩ := hU s (by omega) (by omega)
                                  rw [z]
                                  exact ⟨hM.trans z1, fun j h2 h3 => (hP j h2 (by omega)).trans (z2 j h2 h3)⟩
                                · exact hR s' h0 (by omega)) hO tf
                          · refine g_aload_n hΓ rfl dX3_on_139 ?_
                            refine m_geta hok hΓ 0 (by decide) rfl rfl q1357 rfl dX3_on_140 ?_
                            refine g_iconst hΓ dX3_on_143 ?_
                            refine g_bipush hΓ (by decide) dX3_on_144 ?_
                            refine g_iload_n hΓ rfl dX3_on_146 ?_
                            refine g_imul hΓ dX3_on_147 ?_
                            refine g_iadd hΓ dX3_on_148 ?_
                            refine g_iload hΓ rfl dX3_on_149 ?_
                            refine g_iadd hΓ dX3_on_151 ?_
                            refine g_aload_n hΓ rfl dX3_on_152 ?_
                            refine m_geta hok hΓ 1 (by decide) rfl rfl q1358 rfl dX3_on_153 ?_
                            refine g_iconst hΓ dX3_on_156 ?_
                            refine g_bipush hΓ (by decide) dX3_on_157 ?_
                            refine g_iload_n hΓ rfl dX3_on_159 ?_
                            refine g_imul hΓ dX3_on_160 ?_
                            refine g_iadd hΓ dX3_on_161 ?_
                            refine g_iload hΓ rfl dX3_on_162 ?_
                            refine g_iadd hΓ dX3_on_164 ?_
                            refine m_ald hok hΓ 1 (by decide) rfl (n := 1048) rfl (by omega) (by decide) dX3_on_165 ?_
                            refine g_topi ((tf 1 ((0 + (24 * s)) + k) (by decide))) ?_
                            refine m_ast hok hΓ 0 (by decide) rfl (n := 1048) rfl (by omega) (by decide) dX3_on_166 (fun τ18 τ18e => ?_)
                            have τ18r : τ18 0 ((0 + (24 * s)) + k) = τ10 1 ((0 + (24 * s)) + k) := by rw [τ18e]; exact us_s _ _ _ _
                            have τ18f : ∀ (k9 : Nat) (j9 : Int), (k9 ≠ 0 ∨ j9 ≠ ((0 + (24 * s)) + k)) → τ18 k9 j9 = t k9 j9 := fun k9 j9 hh => by rw [τ18e]; exact us_n hh
                            obtain ⟨x19, ex19⟩ : ∃ z9 : Int, z9 = k + 1 := ⟨_, rfl⟩
                            refine g_iinc hΓ dX3_on_167 rfl rfl (lv' := [some (.ref h), some (.int (iI x2)), some (.int (iI c)), some (.int (iI s)), some (.int (iI x19))]) (by rw [ex19]; rfl) ?_
                            refine g_goto (tgt := 132) hΓ dX3_on_170 (by decide) ?_
                            exact ih_loop3 x19 τ18 (by omega) (by omega) ((τ18f 0 _ (Or.inr (by omega))).trans h9) (fun s' h0 h1 => by
                                have hz := hsm s' h0 (by omega)
                                obtain ⟨z1, z2⟩ := hR s' h0 h1
                                exact ⟨(τ18f 0 _ (Or.inr (by omega))).trans z1, fun j h2 h3 => (τ18f 0 _ (Or.inr (by omega))).trans (z2 j h2 h3)⟩) ((τ18f 0 _ (Or.inr (by omega))).trans hM) (fun j h0 h1 => by
                                by_cases z : j = k
                                · rw [z, show 24 * s + k = 0 + 24 * s + k by omega, τ18r]
                                · exact (τ18f 0 _ (Or.inr (by omega))).trans (hP j h0 (by omega))) (fun j h0 h1 h2 => (τ18f 0 j (Or.inr (by omega))).trans (hO j h0 h1 h2)) (fun k9 j9 hk9 => (τ18f k9 j9 (Or.inl (fun e => hk9 (by rw [e]; decide)))).trans (tf k9 j9 hk9))
                      exact loop3 25 0 τ15 (by omega) (by omega) ((τ15f 0 _ (Or.inr (by omega))).trans h9) (fun s' h0 h1 => by
                          have hz := hsm s' h0 (by omega)
                          obtain ⟨z1, z2⟩ := hR s' h0 h1
                          exact ⟨(τ15f 0 _ (Or.inr (by omega))).trans z1, fun j h2 h3 => (τ15f 0 _ (Or.inr (by omega))).trans (z2 j h2 h3)⟩) τ15r (fun j h0 h1 => absurd h1 (by omega)) (fun j h0 h1 h2 => (τ15f 0 j (Or.inr (by omega))).trans (hO j h0 h1 h2)) (fun k9 j9 hk9 => (τ15f k9 j9 (Or.inl (fun e => hk9 (by rw [e]; decide)))).trans (tf k9 j9 hk9))
                exact loop2 9 0 τ12 (by omega) (by omega) τ12r (fun s' h0 h1 => absurd h1 (by omega)) (fun j h0 h1 h2 => (τ12f 0 j (Or.inr h2)).trans (by rw [τ100])) (fun k9 j9 hk9 => τ12f k9 j9 (Or.inl (fun e => hk9 (by rw [e]; decide))))
              · have hnon : ¬ onC σ := fun z => by
                  obtain ⟨z1, z2, z3, z4⟩ := z
                  first
                  | omega
                  | (rw [show (σ 12 0 - 1).toNat = q.toNat by omega, ← hc, ← ex2] at z3; omega)
                  | (rw [← e11, ← ex2] at z4; exact absurd z4 (by assumption))
                refine g_aload_n hΓ rfl dX3_on_77 ?_
                refine g_iconst hΓ dX3_on_78 ?_
                refine m_callV (As := [.int (iI 5)]) (rest := []) hok hΓ (m_isRefused hok τ10 5 (by first | assumption | omega)) rfl q1497 q1499 qs58 q131 q1500 ndX3_isRefused rfl (by decide) (by decide) rfl rfl (Nat.le_of_ble_eq_true rfl) dX3_on_79 rfl (fun v20 τ20 τ20h => ?_)
                obtain ⟨rfl, τ20h, τ20f⟩ := τ20h
                show gW Γ E (mM E h ad τ20) 0 0 _ _ (.int (iI 0) :: _)
                exact m_zret hΓ (by omega) dX3_on_82 ⟨ri (by rw [if_neg hnon]), ⟨fun q => absurd q hnon, fun _ => ⟨by rw [refR, τ20h]; rw [show τ10 13 = σ 13 from funext fun j => ((τ10f 13 j (by decide)).trans (τ1f 13 j (by decide)))], funext fun j => (((τ20f 0 j (by decide)).trans (τ10f 0 j (by decide))).trans (τ1f 0 j (by decide))), (((τ20f 4 0 (by decide)).trans (τ10f 4 0 (by decide))).trans (τ1f 4 0 (by decide))), (((τ20f 12 0 (by decide)).trans (τ10f 12 0 (by decide)))).trans τ1h⟩⟩, (fun k j hk => (((τ20f k j (fun e => hk ((show ∀ x ∈ [13], x ∈ [0, 1, 4, 12, 13] by decide) k e))).trans (τ10f k j (fun e => hk ((show ∀ x ∈ [1], x ∈ [0, 1, 4, 12, 13] by decide) k e)))).trans (τ1f k j (fun e => hk ((show ∀ x ∈ [12], x ∈ [0, 1, 4, 12, 13] by decide) k e)))))⟩
      · refine g_iconst hΓ dX3_on_18 ?_
        refine g_iload_n hΓ rfl dX3_on_19 ?_
        refine g_imul hΓ dX3_on_20 ?_
        have hvq := htp q (by omega) (by omega)
        refine g_aload_n hΓ rfl dX3_on_21 ?_
        refine m_geta hok hΓ 11 (by decide) rfl rfl q1368 rfl dX3_on_22 ?_
        refine g_iload_n hΓ rfl dX3_on_25 ?_
        refine m_ald hok hΓ 11 (by decide) rfl (n := 1600) rfl (by omega) (by decide) dX3_on_26 ?_
        refine g_topi ((τ1f 11 q (by decide))) ?_
        refine g_iadd hΓ dX3_on_27 ?_
        refine g_sipush hΓ (by decide) dX3_on_28 ?_
        refine g_iremN hΓ (by omega) (by omega) (by omega) dX3_on_31 ?_
        obtain ⟨x21, ex21⟩ : ∃ z9 : Int, z9 = ((3 * c) + (σ 11 q)) % 251 := ⟨_, rfl⟩
        refine g_topi ex21.symm ?_
        refine g_istore_n hΓ dX3_on_32 rfl (Nat.le_of_ble_eq_true rfl) (lv' := [some (.ref h), some (.int (iI x2)), some (.int (iI x21)), some (.int (iI q)), none]) rfl ?_
        obtain ⟨x22, ex22⟩ : ∃ z9 : Int, z9 = q + 1 := ⟨_, rfl⟩
        refine g_iinc hΓ dX3_on_33 rfl rfl (lv' := [some (.ref h), some (.int (iI x2)), some (.int (iI x21)), some (.int (iI x22)), none]) (by rw [ex22]; rfl) ?_
        refine g_goto (tgt := 11) hΓ dX3_on_36 (by decide) ?_
        exact ih_loop x21 x22 (by omega) (by omega) (by rw [show x22.toNat = q.toNat + 1 by omega, ckF, show ((q.toNat : Nat) : Int) = q by omega, ← hc]; omega)
  exact loop 1601 157 0 (by omega) (by omega) rfl
