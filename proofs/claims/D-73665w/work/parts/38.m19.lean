set_option maxRecDepth 100000
set_option maxHeartbeats 4000000 in
theorem m_laysByValues {l : Launch} {E : gE} {h : Nat} {ad : Nat → Nat} (hok : mOK E h ad) (σ : mS)  (k : Int) (q : Int) (hk : 0 ≤ k ∧ k < σ 6 0) (hq : 0 ≤ q ∧ q ≤ 2) (hr : rowOK (σ 0)) (ht : tolOK σ) : mC l E h ad yX3_laysByValues cX3_laysByValues 5 none 7 [.ref h, .int (iI k), .int (iI q)] σ (fun rv σ' => rv = none ∧ (∀ m' v', 0 ≤ m' → m' < σ 0 1000 → 0 ≤ v' → v' < vlN q → σ' 38 (41 * m' + v') = vlS σ k q m' v') ∧ ∀ (k : Nat) (j : Int), k ∉ [22, 23, 24, 25, 26, 27, 28, 29, 38] → σ' k j = σ k j) := by
  refine mC.of (by decide) [some (.ref h), some (.int (iI k)), some (.int (iI q)), none, none] (Nat.le_of_ble_eq_true rfl) rfl rfl (fun Γ hΓ => ?_)
  obtain ⟨h1000, h1009, h1042, h1043, h1044, h1045, h1046, h1047, hms, hsi, hsm, hnm⟩ := id hr
  have ht6 := ht.1
  have htk := ht.2 k (by omega) (by omega)
  have hvl : 0 ≤ vlN q ∧ vlN q ≤ 41 ∧ (q = 2 → vlN q = 17) := by rw [vlN]; split <;> omega
  refine g_iconst hΓ dX3_laysByValues_0 ?_
  refine g_istore_n hΓ dX3_laysByValues_1 rfl (Nat.le_of_ble_eq_true rfl) (lv' := [some (.ref h), some (.int (iI k)), some (.int (iI q)), some (.int (iI 0)), none]) rfl ?_
  have loop : ∀ (fu : Nat) (m : Int) (t : mS), (σ 0 1000 - m).toNat < fu → (0 ≤ m ∧ m ≤ σ 0 1000) → (∀ m' v', 0 ≤ m' → m' < m → 0 ≤ v' → v' < vlN q → t 38 (41 * m' + v') = vlS σ k q m' v') → (∀ (k : Nat) (j : Int), k ∉ [22, 23, 24, 25, 26, 27, 28, 29, 38] → t k j = σ k j) → gW Γ E (mM E h ad t) 0 0 2 [some (.ref h), some (.int (iI k)), some (.int (iI q)), some (.int (iI m)), none] [] := by
    intro fu
    induction fu with
    | zero => intro m t hn; exact absurd hn (Nat.not_lt_zero _)
    | succ fu ih_loop =>
      intro m t hn hm hDn tf
      refine g_iload_n hΓ rfl dX3_laysByValues_2 ?_
      refine g_aload_n hΓ rfl dX3_laysByValues_3 ?_
      refine m_geta hok hΓ 0 (by decide) rfl rfl q1357 rfl dX3_laysByValues_4 ?_
      refine g_sipush hΓ (by decide) dX3_laysByValues_7 ?_
      refine m_ald hok hΓ 0 (by decide) rfl (n := 1048) rfl (by omega) (by decide) dX3_laysByValues_10 ?_
      refine g_topi ((tf 0 1000 (by decide))) ?_
      refine g_icmp_ge (tgt := 163) hΓ (by omega) (by omega) dX3_laysByValues_11 (by decide) (fun c1 => ?_) (fun c1 => ?_)
      · exact m_vret hΓ dX3_laysByValues_163 ⟨rfl, (fun m' v' h0 h1 h2 h3 => hDn m' v' h0 (by omega) h2 h3), tf⟩
      · have hlm := letS_of hr (m := m) (Or.inr ⟨by omega, by omega⟩)
        have hmr := mnS_r hr (m := m) (Or.inr ⟨by omega, by omega⟩)
        have t0 : t 0 = σ 0 := funext fun j => (tf 0 j (by decide))
        have t7 : t 7 = σ 7 := funext fun j => (tf 7 j (by decide))
        have t8 : t 8 = σ 8 := funext fun j => (tf 8 j (by decide))
        have t9 : t 9 = σ 9 := funext fun j => (tf 9 j (by decide))
        have tL := letS_same t0 t7 t8
        have tE := els_same t0 t7 t8
        have tC := cll_same t0 t7 t8
        have tM := mnS_same t0
        have hlat : letS t (40 + 8 * k) (σ 9 k) := by rw [tL]; exact htk.2.2
        have hlbt : letS t (fsS m) (mnS σ m) := by rw [tL]; exact hlm
        have het : 4 ≤ t 0 1042 ∧ t 0 1042 ≤ 16 := by rw [t0]; exact h1042
        have loop2 : ∀ (fu : Nat) (v : Int) (t : mS), (vlN q - v).toNat < fu → (0 ≤ v ∧ v ≤ vlN q) → ((q = 2 ∨ (t 24 0 = σ 9 k ∧ t 25 0 = mnS σ m ∧ ∀ i j, 0 ≤ i → i < σ 9 k → 0 ≤ j → j < mnS σ m → t 26 (8 * i + j) = els σ (40 + 8 * k + i) (fsS m + j) 0 (σ 0 1043) ∧ t 27 (8 * i + j) = els σ (40 + 8 * k + i) (fsS m + j) 1 (σ 0 1043) ∧ t 28 (8 * i + j) = cll σ (40 + 8 * k) (σ 9 k) (fsS m) (mnS σ m) i j))) → (∀ m' v', 0 ≤ m' → m' < m → 0 ≤ v' → v' < vlN q → t 38 (41 * m' + v') = vlS σ k q m' v') → (∀ v', 0 ≤ v' → v' < v → t 38 (41 * m + v') = vlS σ k q m v') → (∀ (k : Nat) (j : Int), k ∉ [22, 23, 24, 25, 26, 27, 28, 29, 38] → t k j = σ k j) → gW Γ E (mM E h ad t) 0 0 57 [some (.ref h), some (.int (iI k)), some (.int (iI q)), some (.int (iI m)), some (.int (iI v))] [] := by
          intro fu
          induction fu with
          | zero => intro v t hn; exact absurd hn (Nat.not_lt_zero _)
          | succ fu ih_loop2 =>
            intro v t hn hv hpt hDn hRow tf
            have t0 : t 0 = σ 0 := funext fun j => (tf 0 j (by decide))
            have t7 : t 7 = σ 7 := funext fun j => (tf 7 j (by decide))
            have t8 : t 8 = σ 8 := funext fun j => (tf 8 j (by decide))
            have t9 : t 9 = σ 9 := funext fun j => (tf 9 j (by decide))
            have tL := letS_same t0 t7 t8
            have tE := els_same t0 t7 t8
            have tC := cll_same t0 t7 t8
            have tM := mnS_same t0
            have hlat : letS t (40 + 8 * k) (σ 9 k) := by rw [tL]; exact htk.2.2
            have hlbt : letS t (fsS m) (mnS σ m) := by rw [tL]; exact hlm
            have het : 4 ≤ t 0 1042 ∧ t 0 1042 ≤ 16 := by rw [t0]; exact h1042
            refine g_iload hΓ rfl dX3_laysByValues_57 ?_
            refine g_iload_n hΓ rfl dX3_laysByValues_59 ?_
            refine m_callS (As := [.int (iI q)]) (rest := [.int (iI v)]) hok hΓ (m_valuesOf hok t q (by first | assumption | omega)) rfl q1912 q1913 q131 q1914 ndX3_valuesOf rfl (by decide) (by decide) rfl (Nat.le_of_ble_eq_true rfl) dX3_laysByValues_60 rfl (fun v2 τ2 τ2h => ?_)
            obtain ⟨rfl, τ2h⟩ := τ2h
            rw [τ2h]
            clear τ2h
            show gW Γ E (mM E h ad t) 0 0 _ _ (.int (iI (vlN q)) :: _)
            refine g_icmp_ge (tgt := 157) hΓ (by omega) (by omega) dX3_laysByValues_63 (by decide) (fun c3 => ?_) (fun c3 => ?_)
            · obtain ⟨x4, ex4⟩ : ∃ z9 : Int, z9 = m + 1 := ⟨_, rfl⟩
              refine g_iinc hΓ dX3_laysByValues_157 rfl rfl (lv' := [some (.ref h), some (.int (iI k)), some (.int (iI q)), some (.int (iI x4)), some (.int (iI v))]) (by rw [ex4]; rfl) ?_
              refine g_goto (tgt := 2) hΓ dX3_laysByValues_160 (by decide) ?_
              refine g_lvw (lv' := [some (.ref h), some (.int (iI k)), some (.int (iI q)), some (.int (iI x4)), none]) ⟨rfl, ⟨rfl, ⟨rfl, ⟨rfl, trivial⟩⟩⟩⟩ ?_
              exact ih_loop x4 t (by omega) (by omega) (fun m' v' h0 h1 h2 h3 => by
                  by_cases z : m' = m
                  · subst z; exact hRow v' h2 (by omega)
                  · exact hDn m' v' h0 (by omega) h2 h3) tf
            · refine g_iload_n hΓ rfl dX3_laysByValues_66 ?_
              refine g_iconst hΓ dX3_laysByValues_67 ?_
              refine g_icmp_ne (tgt := 100) hΓ (by omega) (by omega) dX3_laysByValues_68 (by decide) (fun c5 => ?_) (fun c5 => ?_)
              · have hp9 : t 24 0 = σ 9 k ∧ t 25 0 = mnS σ m ∧ ∀ i j, 0 ≤ i → i < σ 9 k → 0 ≤ j → j < mnS σ m → t 26 (8 * i + j) = els σ (40 + 8 * k + i) (fsS m + j) 0 (σ 0 1043) ∧ t 27 (8 * i + j) = els σ (40 + 8 * k + i) (fsS m + j) 1 (σ 0 1043) ∧ t 28 (8 * i + j) = cll σ (40 + 8 * k) (σ 9 k) (fsS m) (mnS σ m) i j := by
                  rcases hpt with z | z
                  · exfalso; omega
                  · exact z
                obtain ⟨htb, hcs⟩ := pair_tab (w := σ 0 1043) h1042 h1047 h1043.1 htk.2.2 hlm t0 hp9.1 hp9.2.1 hp9.2.2
                refine g_aload_n hΓ rfl dX3_laysByValues_100 ?_
                refine m_geta hok hΓ 38 (by decide) rfl rfl q1395 rfl dX3_laysByValues_101 ?_
                refine g_bipush hΓ (by decide) dX3_laysByValues_104 ?_
                refine g_iload_n hΓ rfl dX3_laysByValues_106 ?_
                refine g_imul hΓ dX3_laysByValues_107 ?_
                refine g_iload hΓ rfl dX3_laysByValues_108 ?_
                refine g_iadd hΓ dX3_laysByValues_110 ?_
                refine g_aload_n hΓ rfl dX3_laysByValues_111 ?_
                refine g_iload_n hΓ rfl dX3_laysByValues_112 ?_
                refine g_if_ne (tgt := 121) hΓ (by omega) dX3_laysByValues_113 (by decide) (fun c6 => ?_) (fun c6 => ?_)
                · refine g_aload_n hΓ rfl dX3_laysByValues_121 ?_
                  refine m_geta hok hΓ 0 (by decide) rfl rfl q1357 rfl dX3_laysByValues_122 ?_
                  refine g_sipush hΓ (by decide) dX3_laysByValues_125 ?_
                  refine m_ald hok hΓ 0 (by decide) rfl (n := 1048) rfl (by omega) (by decide) dX3_laysByValues_128 ?_
                  refine g_topi ((tf 0 1044 (by decide))) ?_
                  refine g_iload_n hΓ rfl dX3_laysByValues_129 ?_
                  refine g_iconst hΓ dX3_laysByValues_130 ?_
                  refine g_icmp_ne (tgt := 139) hΓ (by omega) (by omega) dX3_laysByValues_131 (by decide) (fun c7 => ?_) (fun c7 => ?_)
                  · refine g_aload_n hΓ rfl dX3_laysByValues_139 ?_
                    refine m_geta hok hΓ 0 (by decide) rfl rfl q1357 rfl dX3_laysByValues_140 ?_
                    refine g_sipush hΓ (by decide) dX3_laysByValues_143 ?_
                    refine m_ald hok hΓ 0 (by decide) rfl (n := 1048) rfl (by omega) (by decide) dX3_laysByValues_146 ?_
                    refine g_topi ((tf 0 1045 (by decide))) ?_
                    refine m_callV (As := [.int (iI (σ 0 1044)), .int (iI (σ 0 1045))]) (rest := [.int (iI ((41 * m) + v)), .ref (ad 38)]) hok hΓ (m_scoreBy hok t (σ 0 1044) (σ 0 1045) (by first | assumption | omega) (by first | assumption | omega) (by first | assumption | omega)) rfl q1762 q1764 qs99 q131 q1765 ndX3_scoreBy rfl (by decide) (by decide) rfl rfl (Nat.le_of_ble_eq_true rfl) dX3_laysByValues_147 rfl (fun v8 τ8 τ8h => ?_)
                    obtain ⟨rfl, τ8h, τ8f⟩ := τ8h
                    show gW Γ E (mM E h ad τ8) 0 0 _ _ (.int (iI (bsF (cs3 t (σ 0 1045)) (σ 0 1044) (t 25 0).toNat (t 24 0).toNat (t 24 0).toNat 0)) :: _)
                    refine m_ast hok hΓ 38 (by decide) rfl (n := 328) rfl (by omega) (by decide) dX3_laysByValues_150 (fun τ9 τ9e => ?_)
                    have τ9r : τ9 38 ((41 * m) + v) = bsF (cs3 t (σ 0 1045)) (σ 0 1044) (t 25 0).toNat (t 24 0).toNat (t 24 0).toNat 0 := by rw [τ9e]; exact us_s _ _ _ _
                    have τ9f : ∀ (k9 : Nat) (j9 : Int), (k9 ≠ 38 ∨ j9 ≠ ((41 * m) + v)) → τ9 k9 j9 = τ8 k9 j9 := fun k9 j9 hh => by rw [τ9e]; exact us_n hh
                    obtain ⟨x10, ex10⟩ : ∃ z9 : Int, z9 = v + 1 := ⟨_, rfl⟩
                    refine g_iinc hΓ dX3_laysByValues_151 rfl rfl (lv' := [some (.ref h), some (.int (iI k)), some (.int (iI q)), some (.int (iI m)), some (.int (iI x10))]) (by rw [ex10]; rfl) ?_
                    refine g_goto (tgt := 57) hΓ dX3_laysByValues_154 (by decide) ?_
                    exact ih_loop2 x10 τ9 (by omega) (by omega) (by
                        rcases hpt with z | z
                        · exact Or.inl z
                        · refine Or.inr ⟨((τ9f 24 _ (Or.inl (by decide))).trans (τ8f 24 _ (by decide))).trans z.1, ((τ9f 25 _ (Or.inl (by decide))).trans (τ8f 25 _ (by decide))).trans z.2.1, fun i j h0 h1 h2 h3 => ?_⟩
                          rw [(τ9f 26 _ (Or.inl (by decide))).trans (τ8f 26 _ (by decide)), (τ9f 27 _ (Or.inl (by decide))).trans (τ8f 27 _ (by decide)), (τ9f 28 _ (Or.inl (by decide))).trans (τ8f 28 _ (by decide))]
                          exact z.2.2 i j h0 h1 h2 h3) (fun m' v' h0 h1 h2 h3 => ((τ9f 38 _ (Or.inr (by omega))).trans ((τ8f 38 _ (by decide)))).trans (hDn m' v' h0 h1 h2 h3)) (fun v' h0 h1 => by
                        by_cases z : v' = v
                        · rw [z, τ9r, vlS, scr, hp9.1, hp9.2.1]
                          rw [pair_bs (by omega) (by omega) (hcs (σ 0 1045)) (Nat.le_refl _) (Nat.two_pow_pos _)]
                          first | (exfalso; omega) | rw [if_pos (by omega), if_pos (by omega), if_pos (by omega)] | rw [if_pos (by omega), if_pos (by omega), if_neg (by omega)] | rw [if_pos (by omega), if_neg (by omega), if_pos (by omega)] | rw [if_pos (by omega), if_neg (by omega), if_neg (by omega)] | rw [if_neg (by omega), if_pos (by omega), if_neg (by omega)] | rw [if_neg (by omega), if_neg (by omega), if_pos (by omega)] | rw [if_neg (by omega), if_neg (by omega), if_neg (by omega)]
                        · exact ((τ9f 38 _ (Or.inr (by omega))).trans ((τ8f 38 _ (by decide)))).trans (hRow v' h0 (by omega))) (fun k j hk => (((τ9f k j (Or.inl (fun e => hk (by rw [e]; decide)))).trans (τ8f k j (fun e => hk ((show ∀ x ∈ [29], x ∈ [22, 23, 24, 25, 26, 27, 28, 29, 38] by decide) k e)))).trans (tf k j (fun e => hk ((show ∀ x ∈ [22, 23, 24, 25, 26, 27, 28, 29, 38], x ∈ [22, 23, 24, 25, 26, 27, 28, 29, 38] by decide) k e)))))
                  · refine g_iload hΓ rfl dX3_laysByValues_134 ?_
                    refine g_goto (tgt := 147) hΓ dX3_laysByValues_136 (by decide) ?_
                    refine m_callV (As := [.int (iI (σ 0 1044)), .int (iI v)]) (rest := [.int (iI ((41 * m) + v)), .ref (ad 38)]) hok hΓ (m_scoreBy hok t (σ 0 1044) v (by first | assumption | omega) (by first | assumption | omega) (by first | assumption | omega)) rfl q1762 q1764 qs99 q131 q1765 ndX3_scoreBy rfl (by decide) (by decide) rfl rfl (Nat.le_of_ble_eq_true rfl) dX3_laysByValues_147 rfl (fun v11 τ11 τ11h => ?_)
                    obtain ⟨rfl, τ11h, τ11f⟩ := τ11h
                    show gW Γ E (mM E h ad τ11) 0 0 _ _ (.int (iI (bsF (cs3 t v) (σ 0 1044) (t 25 0).toNat (t 24 0).toNat (t 24 0).toNat 0)) :: _)
                    refine m_ast hok hΓ 38 (by decide) rfl (n := 328) rfl (by omega) (by decide) dX3_laysByValues_150 (fun τ12 τ12e => ?_)
                    have τ12r : τ12 38 ((41 * m) + v) = bsF (cs3 t v) (σ 0 1044) (t 25 0).toNat (t 24 0).toNat (t 24 0).toNat 0 := by rw [τ12e]; exact us_s _ _ _ _
                    have τ12f : ∀ (k9 : Nat) (j9 : Int), (k9 ≠ 38 ∨ j9 ≠ ((41 * m) + v)) → τ12 k9 j9 = τ11 k9 j9 := fun k9 j9 hh => by rw [τ12e]; exact us_n hh
                    obtain ⟨x13, ex13⟩ : ∃ z9 : Int, z9 = v + 1 := ⟨_, rfl⟩
                    refine g_iinc hΓ dX3_laysByValues_151 rfl rfl (lv' := [some (.ref h), some (.int (iI k)), some (.int (iI q)), some (.int (iI m)), some (.int (iI x13))]) (by rw [ex13]; rfl) ?_
                    refine g_goto (tgt := 57) hΓ dX3_laysByValues_154 (by decide) ?_
                    exact ih_loop2 x13 τ12 (by omega) (by omega) (by
                        rcases hpt with z | z
                        · exact Or.inl z
                        · refine Or.inr ⟨((τ12f 24 _ (Or.inl (by decide))).trans (τ11f 24 _ (by decide))).trans z.1, ((τ12f 25 _ (Or.inl (by decide))).trans (τ11f 25 _ (by decide))).trans z.2.1, fun i j h0 h1 h2 h3 => ?_⟩
                          rw [(τ12f 26 _ (Or.inl (by decide))).trans (τ11f 26 _ (by decide)), (τ12f 27 _ (Or.inl (by decide))).trans (τ11f 27 _ (by decide)), (τ12f 28 _ (Or.inl (by decide))).trans (τ11f 28 _ (by decide))]
                          exact z.2.2 i j h0 h1 h2 h3) (fun m' v' h0 h1 h2 h3 => ((τ12f 38 _ (Or.inr (by omega))).trans ((τ11f 38 _ (by decide)))).trans (hDn m' v' h0 h1 h2 h3)) (fun v' h0 h1 => by
                        by_cases z : v' = v
                        · rw [z, τ12r, vlS, scr, hp9.1, hp9.2.1]
                          rw [pair_bs (by omega) (by omega) (hcs v) (Nat.le_refl _) (Nat.two_pow_pos _)]
                          first | (exfalso; omega) | rw [if_pos (by omega), if_pos (by omega), if_pos (by omega)] | rw [if_pos (by omega), if_pos (by omega), if_neg (by omega)] | rw [if_pos (by omega), if_neg (by omega), if_pos (by omega)] | rw [if_pos (by omega), if_neg (by omega), if_neg (by omega)] | rw [if_neg (by omega), if_pos (by omega), if_neg (by omega)] | rw [if_neg (by omega), if_neg (by omega), if_pos (by omega)] | rw [if_neg (by omega), if_neg (by omega), if_neg (by omega)]
                        · exact ((τ12f 38 _ (Or.inr (by omega))).trans ((τ11f 38 _ (by decide)))).trans (hRow v' h0 (by omega))) (fun k j hk => (((τ12f k j (Or.inl (fun e => hk (by rw [e]; decide)))).trans (τ11f k j (fun e => hk ((show ∀ x ∈ [29], x ∈ [22, 23, 24, 25, 26, 27, 28, 29, 38] by decide) k e)))).trans (tf k j (fun e => hk ((show ∀ x ∈ [22, 23, 24, 25, 26, 27, 28, 29, 38], x ∈ [22, 23, 24, 25, 26, 27, 28, 29, 38] by decide) k e)))))
                · refine g_iload hΓ rfl dX3_laysByValues_116 ?_
                  refine g_goto (tgt := 129) hΓ dX3_laysByValues_118 (by decide) ?_
                  refine g_iload_n hΓ rfl dX3_laysByValues_129 ?_
                  refine g_iconst hΓ dX3_laysByValues_130 ?_
                  refine g_icmp_ne (tgt := 139) hΓ (by omega) (by omega) dX3_laysByValues_131 (by decide) (fun c14 => ?_) (fun c14 => ?_)
                  · refine g_aload_n hΓ rfl dX3_laysByValues_139 ?_
                    refine m_geta hok hΓ 0 (by decide) rfl rfl q1357 rfl dX3_laysByValues_140 ?_
                    refine g_sipush hΓ (by decide) dX3_laysByValues_143 ?_
                    refine m_ald hok hΓ 0 (by decide) rfl (n := 1048) rfl (by omega) (by decide) dX3_laysByValues_146 ?_
                    refine g_topi ((tf 0 1045 (by decide))) ?_
                    refine m_callV (As := [.int (iI v), .int (iI (σ 0 1045))]) (rest := [.int (iI ((41 * m) + v)), .ref (ad 38)]) hok hΓ (m_scoreBy hok t v (σ 0 1045) (by first | assumption | omega) (by first | assumption | omega) (by first | assumption | omega)) rfl q1762 q1764 qs99 q131 q1765 ndX3_scoreBy rfl (by decide) (by decide) rfl rfl (Nat.le_of_ble_eq_true rfl) dX3_laysByValues_147 rfl (fun v15 τ15 τ15h => ?_)
                    obtain ⟨rfl, τ15h, τ15f⟩ := τ15h
                    show gW Γ E (mM E h ad τ15) 0 0 _ _ (.int (iI (bsF (cs3 t (σ 0 1045)) v (t 25 0).toNat (t 24 0).toNat (t 24 0).toNat 0)) :: _)
                    refine m_ast hok hΓ 38 (by decide) rfl (n := 328) rfl (by omega) (by decide) dX3_laysByValues_150 (fun τ16 τ16e => ?_)
                    have τ16r : τ16 38 ((41 * m) + v) = bsF (cs3 t (σ 0 1045)) v (t 25 0).toNat (t 24 0).toNat (t 24 0).toNat 0 := by rw [τ16e]; exact us_s _ _ _ _
                    have τ16f : ∀ (k9 : Nat) (j9 : Int), (k9 ≠ 38 ∨ j9 ≠ ((41 * m) + v)) → τ16 k9 j9 = τ15 k9 j9 := fun k9 j9 hh => by rw [τ16e]; exact us_n hh
                    obtain ⟨x17, ex17⟩ : ∃ z9 : Int, z9 = v + 1 := ⟨_, rfl⟩
                    refine g_iinc hΓ dX3_laysByValues_151 rfl rfl (lv' := [some (.ref h), some (.int (iI k)), some (.int (iI q)), some (.int (iI m)), some (.int (iI x17))]) (by rw [ex17]; rfl) ?_
                    refine g_goto (tgt := 57) hΓ dX3_laysByValues_154 (by decide) ?_
                    exact ih_loop2 x17 τ16 (by omega) (by omega) (by
                        rcases hpt with z | z
                        · exact Or.inl z
                        · refine Or.inr ⟨((τ16f 24 _ (Or.inl (by decide))).trans (τ15f 24 _ (by decide))).trans z.1, ((τ16f 25 _ (Or.inl (by decide))).trans (τ15f 25 _ (by decide))).trans z.2.1, fun i j h0 h1 h2 h3 => ?_⟩
                          rw [(τ16f 26 _ (Or.inl (by decide))).trans (τ15f 26 _ (by decide)), (τ16f 27 _ (Or.inl (by decide))).trans (τ15f 27 _ (by decide)), (τ16f 28 _ (Or.inl (by decide))).trans (τ15f 28 _ (by decide))]
                          exact z.2.2 i j h0 h1 h2 h3) (fun m' v' h0 h1 h2 h3 => ((τ16f 38 _ (Or.inr (by omega))).trans ((τ15f 38 _ (by decide)))).trans (hDn m' v' h0 h1 h2 h3)) (fun v' h0 h1 => by
                        by_cases z : v' = v
                        · rw [z, τ16r, vlS, scr, hp9.1, hp9.2.1]
                          rw [pair_bs (by omega) (by omega) (hcs (σ 0 1045)) (Nat.le_refl _) (Nat.two_pow_pos _)]
                          first | (exfalso; omega) | rw [if_pos (by omega), if_pos (by omega), if_pos (by omega)] | rw [if_pos (by omega), if_pos (by omega), if_neg (by omega)] | rw [if_pos (by omega), if_neg (by omega), if_pos (by omega)] | rw [if_pos (by omega), if_neg (by omega), if_neg (by omega)] | rw [if_neg (by omega), if_pos (by omega), if_neg (by omega)] | rw [if_neg (by omega), if_neg (by omega), if_pos (by omega)] | rw [if_neg (by omega), if_neg (by omega), if_neg (by omega)]
                        · exact ((τ16f 38 _ (Or.inr (by omega))).trans ((τ15f 38 _ (by decide)))).trans (hRow v' h0 (by omega))) (fun k j hk => (((τ16f k j (Or.inl (fun e => hk (by rw [e]; decide)))).trans (τ15f k j (fun e => hk ((show ∀ x ∈ [29], x ∈ [22, 23, 24, 25, 26, 27, 28, 29, 38] by decide) k e)))).trans (tf k j (fun e => hk ((show ∀ x ∈ [22, 23, 24, 25, 26, 27, 28, 29, 38], x ∈ [22, 23, 24, 25, 26, 27, 28, 29, 38] by decide) k e)))))
                  · refine g_iload hΓ rfl dX3_laysByValues_134 ?_
                    refine g_goto (tgt := 147) hΓ dX3_laysByValues_136 (by decide) ?_
                    refine m_callV (As := [.int (iI v), .int (iI v)]) (rest := [.int (iI ((41 * m) + v)), .ref (ad 38)]) hok hΓ (m_scoreBy hok t v v (by first | assumption | omega) (by first | assumption | omega) (by first | assumption | omega)) rfl q1762 q1764 qs99 q131 q1765 ndX3_scoreBy rfl (by decide) (by decide) rfl rfl (Nat.le_of_ble_eq_true rfl) dX3_laysByValues_147 rfl (fun v18 τ18 τ18h => ?_)
                    obtain ⟨rfl, τ18h, τ18f⟩ := τ18h
                    show gW Γ E (mM E h ad τ18) 0 0 _ _ (.int (iI (bsF (cs3 t v) v (t 25 0).toNat (t 24 0).toNat (t 24 0).toNat 0)) :: _)
                    refine m_ast hok hΓ 38 (by decide) rfl (n := 328) rfl (by omega) (by decide) dX3_laysByValues_150 (fun τ19 τ19e => ?_)
                    have τ19r : τ19 38 ((41 * m) + v) = bsF (cs3 t v) v (t 25 0).toNat (t 24 0).toNat (t 24 0).toNat 0 := by rw [τ19e]; exact us_s _ _ _ _
                    have τ19f : ∀ (k9 : Nat) (j9 : Int), (k9 ≠ 38 ∨ j9 ≠ ((41 * m) + v)) → τ19 k9 j9 = τ18 k9 j9 := fun k9 j9 hh => by rw [τ19e]; exact us_n hh
                    obtain ⟨x20, ex20⟩ : ∃ z9 : Int, z9 = v + 1 := ⟨_, rfl⟩
                    refine g_iinc hΓ dX3_laysByValues_151 rfl rfl (lv' := [some (.ref h), some (.int (iI k)), some (.int (iI q)), some (.int (iI m)), some (.int (iI x20))]) (by rw [ex20]; rfl) ?_
                    refine g_goto (tgt := 57) hΓ dX3_laysByValues_154 (by decide) ?_
                    exact ih_loop2 x20 τ19 (by omega) (by omega) (by
                        rcases hpt with z | z
                        · exact Or.inl z
                        · refine Or.inr ⟨((τ19f 24 _ (Or.inl (by decide))).trans (τ18f 24 _ (by decide))).trans z.1, ((τ19f 25 _ (Or.inl (by decide))).trans (τ18f 25 _ (by decide))).trans z.2.1, fun i j h0 h1 h2 h3 => ?_⟩
                          rw [(τ19f 26 _ (Or.inl (by decide))).trans (τ18f 26 _ (by decide)), (τ19f 27 _ (Or.inl (by decide))).trans (τ18f 27 _ (by decide)), (τ19f 28 _ (Or.inl (by decide))).trans (τ18f 28 _ (by decide))]
                          exact z.2.2 i j h0 h1 h2 h3) (fun m' v' h0 h1 h2 h3 => ((τ19f 38 _ (Or.inr (by omega))).trans ((τ18f 38 _ (by decide)))).trans (hDn m' v' h0 h1 h2 h3)) (fun v' h0 h1 => by
                        by_cases z : v' = v
                        · rw [z, τ19r, vlS, scr, hp9.1, hp9.2.1]
                          rw [pair_bs (by omega) (by omega) (hcs v) (Nat.le_refl _) (Nat.two_pow_pos _)]
                          first | (exfalso; omega) | rw [if_pos (by omega), if_pos (by omega), if_pos (by omega)] | rw [if_pos (by omega), if_pos (by omega), if_neg (by omega)] | rw [if_pos (by omega), if_neg (by omega), if_pos (by omega)] | rw [if_pos (by omega), if_neg (by omega), if_neg (by omega)] | rw [if_neg (by omega), if_pos (by omega), if_neg (by omega)] | rw [if_neg (by omega), if_neg (by omega), if_pos (by omega)] | rw [if_neg (by omega), if_neg (by omega), if_neg (by omega)]
                        · exact ((τ19f 38 _ (Or.inr (by omega))).trans ((τ18f 38 _ (by decide)))).trans (hRow v' h0 (by omega))) (fun k j hk => (((τ19f k j (Or.inl (fun e => hk (by rw [e]; decide)))).trans (τ18f k j (fun e => hk ((show ∀ x ∈ [29], x ∈ [22, 23, 24, 25, 26, 27, 28, 29, 38] by decide) k e)))).trans (tf k j (fun e => hk ((show ∀ x ∈ [22, 23, 24, 25, 26, 27, 28, 29, 38], x ∈ [22, 23, 24, 25, 26, 27, 28, 29, 38] by decide) k e)))))
              · refine g_aload_n hΓ rfl dX3_laysByValues_71 ?_
                refine g_bipush hΓ (by decide) dX3_laysByValues_72 ?_
                refine g_bipush hΓ (by decide) dX3_laysByValues_74 ?_
                refine g_iload_n hΓ rfl dX3_laysByValues_76 ?_
                refine g_imul hΓ dX3_laysByValues_77 ?_
                refine g_iadd hΓ dX3_laysByValues_78 ?_
                refine g_aload_n hΓ rfl dX3_laysByValues_79 ?_
                refine m_geta hok hΓ 9 (by decide) rfl rfl q1366 rfl dX3_laysByValues_80 ?_
                refine g_iload_n hΓ rfl dX3_laysByValues_83 ?_
                refine m_ald hok hΓ 9 (by decide) rfl (n := 8) rfl (by omega) (by decide) dX3_laysByValues_84 ?_
                refine g_topi ((tf 9 k (by decide))) ?_
                refine g_aload_n hΓ rfl dX3_laysByValues_85 ?_
                refine g_iload_n hΓ rfl dX3_laysByValues_86 ?_
                refine m_callV (As := [.int (iI m)]) (rest := [.int (iI (σ 9 k)), .int (iI (40 + (8 * k))), .ref h]) hok hΓ (m_firstOf hok t m (by first | assumption | omega)) rfl q1618 q1620 qs80 q131 q1621 ndX3_firstOf rfl (by decide) (by decide) rfl rfl (Nat.le_of_ble_eq_true rfl) dX3_laysByValues_87 rfl (fun v21 τ21 τ21h => ?_)
                obtain ⟨rfl, τ21h⟩ := τ21h
                rw [τ21h]
                clear τ21h
                show gW Γ E (mM E h ad t) 0 0 _ _ (.int (iI (fsS m)) :: _)
                refine g_aload_n hΓ rfl dX3_laysByValues_90 ?_
                refine g_iload_n hΓ rfl dX3_laysByValues_91 ?_
                refine m_callV (As := [.int (iI m)]) (rest := [.int (iI (fsS m)), .int (iI (σ 9 k)), .int (iI (40 + (8 * k))), .ref h]) hok hΓ (m_manyOf hok t m (by first | assumption | omega) (by first | assumption | omega)) rfl q1606 q1608 qs78 q131 q1609 ndX3_manyOf rfl (by decide) (by decide) rfl rfl (Nat.le_of_ble_eq_true rfl) dX3_laysByValues_92 rfl (fun v22 τ22 τ22h => ?_)
                obtain ⟨rfl, τ22h⟩ := τ22h
                rw [τ22h]
                clear τ22h
                show gW Γ E (mM E h ad t) 0 0 _ _ (.int (iI (mnS t m)) :: _)
                refine g_topi (show (mnS t m : Int) = (mnS σ m) by simp only [tM]) ?_
                refine g_iload hΓ rfl dX3_laysByValues_95 ?_
                refine m_callV (As := [.int (iI (40 + (8 * k))), .int (iI (σ 9 k)), .int (iI (fsS m)), .int (iI (mnS σ m)), .int (iI v)]) (rest := []) hok hΓ (m_laysPairs hok t (40 + (8 * k)) (σ 9 k) (fsS m) (mnS σ m) v (by first | assumption | omega) (by first | assumption | omega) (by first | assumption | omega) (by first | assumption | omega)) rfl q1754 q1756 qs97 q131 q1757 ndX3_laysPairs rfl (by decide) (by decide) rfl rfl (Nat.le_of_ble_eq_true rfl) dX3_laysByValues_97 rfl (fun v23 τ23 τ23h => ?_)
                obtain ⟨rfl, τ23h, τ23f⟩ := τ23h
                have τ230 : τ23 0 = σ 0 := funext fun j => ((τ23f 0 j (by decide)).trans (tf 0 j (by decide)))
                have τ237 : τ23 7 = σ 7 := funext fun j => ((τ23f 7 j (by decide)).trans (tf 7 j (by decide)))
                have τ238 : τ23 8 = σ 8 := funext fun j => ((τ23f 8 j (by decide)).trans (tf 8 j (by decide)))
                have τ239 : τ23 9 = σ 9 := funext fun j => ((τ23f 9 j (by decide)).trans (tf 9 j (by decide)))
                have τ23L := letS_same τ230 τ237 τ238
                have τ23E := els_same τ230 τ237 τ238
                have τ23C := cll_same τ230 τ237 τ238
                have τ23M := mnS_same τ230
                have hlaτ23 : letS τ23 (40 + 8 * k) (σ 9 k) := by rw [τ23L]; exact htk.2.2
                have hlbτ23 : letS τ23 (fsS m) (mnS σ m) := by rw [τ23L]; exact hlm
                have heτ23 : 4 ≤ τ23 0 1042 ∧ τ23 0 1042 ≤ 16 := by rw [τ230]; exact h1042
                have hp9 : τ23 24 0 = σ 9 k ∧ τ23 25 0 = mnS σ m ∧ ∀ i j, 0 ≤ i → i < σ 9 k → 0 ≤ j → j < mnS σ m → τ23 26 (8 * i + j) = els σ (40 + 8 * k + i) (fsS m + j) 0 v ∧ τ23 27 (8 * i + j) = els σ (40 + 8 * k + i) (fsS m + j) 1 v ∧ τ23 28 (8 * i + j) = cll σ (40 + 8 * k) (σ 9 k) (fsS m) (mnS σ m) i j := by
                  have z := τ23h
                  rw [tE, tC] at z
                  exact z
                obtain ⟨htb, hcs⟩ := pair_tab (w := v) h1042 h1047 (by omega) htk.2.2 hlm τ230 hp9.1 hp9.2.1 hp9.2.2
                refine g_aload_n hΓ rfl dX3_laysByValues_100 ?_
                refine m_geta hok hΓ 38 (by decide) rfl rfl q1395 rfl dX3_laysByValues_101 ?_
                refine g_bipush hΓ (by decide) dX3_laysByValues_104 ?_
                refine g_iload_n hΓ rfl dX3_laysByValues_106 ?_
                refine g_imul hΓ dX3_laysByValues_107 ?_
                refine g_iload hΓ rfl dX3_laysByValues_108 ?_
                refine g_iadd hΓ dX3_laysByValues_110 ?_
                refine g_aload_n hΓ rfl dX3_laysByValues_111 ?_
                refine g_iload_n hΓ rfl dX3_laysByValues_112 ?_
                refine g_if_ne (tgt := 121) hΓ (by omega) dX3_laysByValues_113 (by decide) (fun c24 => ?_) (fun c24 => ?_)
                · refine g_aload_n hΓ rfl dX3_laysByValues_121 ?_
                  refine m_geta hok hΓ 0 (by decide) rfl rfl q1357 rfl dX3_laysByValues_122 ?_
                  refine g_sipush hΓ (by decide) dX3_laysByValues_125 ?_
                  refine m_ald hok hΓ 0 (by decide) rfl (n := 1048) rfl (by omega) (by decide) dX3_laysByValues_128 ?_
                  refine g_topi (((τ23f 0 1044 (by decide)).trans (tf 0 1044 (by decide)))) ?_
                  refine g_iload_n hΓ rfl dX3_laysByValues_129 ?_
                  refine g_iconst hΓ dX3_laysByValues_130 ?_
                  refine g_icmp_ne (tgt := 139) hΓ (by omega) (by omega) dX3_laysByValues_131 (by decide) (fun c25 => ?_) (fun c25 => ?_)
                  · refine g_aload_n hΓ rfl dX3_laysByValues_139 ?_
                    refine m_geta hok hΓ 0 (by decide) rfl rfl q1357 rfl dX3_laysByValues_140 ?_
                    refine g_sipush hΓ (by decide) dX3_laysByValues_143 ?_
                    refine m_ald hok hΓ 0 (by decide) rfl (n := 1048) rfl (by omega) (by decide) dX3_laysByValues_146 ?_
                    refine g_topi (((τ23f 0 1045 (by decide)).trans (tf 0 1045 (by decide)))) ?_
                    refine m_callV (As := [.int (iI (σ 0 1044)), .int (iI (σ 0 1045))]) (rest := [.int (iI ((41 * m) + v)), .ref (ad 38)]) hok hΓ (m_scoreBy hok τ23 (σ 0 1044) (σ 0 1045) (by first | assumption | omega) (by first | assumption | omega) (by first | assumption | omega)) rfl q1762 q1764 qs99 q131 q1765 ndX3_scoreBy rfl (by decide) (by decide) rfl rfl (Nat.le_of_ble_eq_true rfl) dX3_laysByValues_147 rfl (fun v26 τ26 τ26h => ?_)
                    obtain ⟨rfl, τ26h, τ26f⟩ := τ26h
                    show gW Γ E (mM E h ad τ26) 0 0 _ _ (.int (iI (bsF (cs3 τ23 (σ 0 1045)) (σ 0 1044) (τ23 25 0).toNat (τ23 24 0).toNat (τ23 24 0).toNat 0)) :: _)
                    refine m_ast hok hΓ 38 (by decide) rfl (n := 328) rfl (by omega) (by decide) dX3_laysByValues_150 (fun τ27 τ27e => ?_)
                    have τ27r : τ27 38 ((41 * m) + v) = bsF (cs3 τ23 (σ 0 1045)) (σ 0 1044) (τ23 25 0).toNat (τ23 24 0).toNat (τ23 24 0).toNat 0 := by rw [τ27e]; exact us_s _ _ _ _
                    have τ27f : ∀ (k9 : Nat) (j9 : Int), (k9 ≠ 38 ∨ j9 ≠ ((41 * m) + v)) → τ27 k9 j9 = τ26 k9 j9 := fun k9 j9 hh => by rw [τ27e]; exact us_n hh
                    obtain ⟨x28, ex28⟩ : ∃ z9 : Int, z9 = v + 1 := ⟨_, rfl⟩
                    refine g_iinc hΓ dX3_laysByValues_151 rfl rfl (lv' := [some (.ref h), some (.int (iI k)), some (.int (iI q)), some (.int (iI m)), some (.int (iI x28))]) (by rw [ex28]; rfl) ?_
                    refine g_goto (tgt := 57) hΓ dX3_laysByValues_154 (by decide) ?_
                    exact ih_loop2 x28 τ27 (by omega) (by omega) (Or.inl (by omega)) (fun m' v' h0 h1 h2 h3 => ((τ27f 38 _ (Or.inr (by omega))).trans ((τ26f 38 _ (by decide)).trans (τ23f 38 _ (by decide)))).trans (hDn m' v' h0 h1 h2 h3)) (fun v' h0 h1 => by
                        by_cases z : v' = v
                        · rw [z, τ27r, vlS, scr, hp9.1, hp9.2.1]
                          rw [pair_bs (by omega) (by omega) (hcs (σ 0 1045)) (Nat.le_refl _) (Nat.two_pow_pos _)]
                          first | (exfalso; omega) | rw [if_pos (by omega), if_pos (by omega), if_pos (by omega)] | rw [if_pos (by omega), if_pos (by omega), if_neg (by omega)] | rw [if_pos (by omega), if_neg (by omega), if_pos (by omega)] | rw [if_pos (by omega), if_neg (by omega), if_neg (by omega)] | rw [if_neg (by omega), if_pos (by omega), if_neg (by omega)] | rw [if_neg (by omega), if_neg (by omega), if_pos (by omega)] | rw [if_neg (by omega), if_neg (by omega), if_neg (by omega)]
                        · exact ((τ27f 38 _ (Or.inr (by omega))).trans ((τ26f 38 _ (by decide)).trans (τ23f 38 _ (by decide)))).trans (hRow v' h0 (by omega))) (fun k j hk => ((((τ27f k j (Or.inl (fun e => hk (by rw [e]; decide)))).trans (τ26f k j (fun e => hk ((show ∀ x ∈ [29], x ∈ [22, 23, 24, 25, 26, 27, 28, 29, 38] by decide) k e)))).trans (τ23f k j (fun e => hk ((show ∀ x ∈ [22, 23, 24, 25, 26, 27, 28], x ∈ [22, 23, 24, 25, 26, 27, 28, 29, 38] by decide) k e)))).trans (tf k j (fun e => hk ((show ∀ x ∈ [22, 23, 24, 25, 26, 27, 28, 29, 38], x ∈ [22, 23, 24, 25, 26, 27, 28, 29, 38] by decide) k e)))))
                  · refine g_iload hΓ rfl dX3_laysByValues_134 ?_
                    refine g_goto (tgt := 147) hΓ dX3_laysByValues_136 (by decide) ?_
                    refine m_callV (As := [.int (iI (σ 0 1044)), .int (iI v)]) (rest := [.int (iI ((41 * m) + v)), .ref (ad 38)]) hok hΓ (m_scoreBy hok τ23 (σ 0 1044) v (by first | assumption | omega) (by first | assumption | omega) (by first | assumption | omega)) rfl q1762 q1764 qs99 q131 q1765 ndX3_scoreBy rfl (by decide) (by decide) rfl rfl (Nat.le_of_ble_eq_true rfl) dX3_laysByValues_147 rfl (fun v29 τ29 τ29h => ?_)
                    obtain ⟨rfl, τ29h, τ29f⟩ := τ29h
                    show gW Γ E (mM E h ad τ29) 0 0 _ _ (.int (iI (bsF (cs3 τ23 v) (σ 0 1044) (τ23 25 0).toNat (τ23 24 0).toNat (τ23 24 0).toNat 0)) :: _)
                    refine m_ast hok hΓ 38 (by decide) rfl (n := 328) rfl (by omega) (by decide) dX3_laysByValues_150 (fun τ30 τ30e => ?_)
                    have τ30r : τ30 38 ((41 * m) + v) = bsF (cs3 τ23 v) (σ 0 1044) (τ23 25 0).toNat (τ23 24 0).toNat (τ23 24 0).toNat 0 := by rw [τ30e]; exact us_s _ _ _ _
                    have τ30f : ∀ (k9 : Nat) (j9 : Int), (k9 ≠ 38 ∨ j9 ≠ ((41 * m) + v)) → τ30 k9 j9 = τ29 k9 j9 := fun k9 j9 hh => by rw [τ30e]; exact us_n hh
                    obtain ⟨x31, ex31⟩ : ∃ z9 : Int, z9 = v + 1 := ⟨_, rfl⟩
                    refine g_iinc hΓ dX3_laysByValues_151 rfl rfl (lv' := [some (.ref h), some (.int (iI k)), some (.int (iI q)), some (.int (iI m)), some (.int (iI x31))]) (by rw [ex31]; rfl) ?_
                    refine g_goto (tgt := 57) hΓ dX3_laysByValues_154 (by decide) ?_
                    exact ih_loop2 x31 τ30 (by omega) (by omega) (Or.inl (by omega)) (fun m' v' h0 h1 h2 h3 => ((τ30f 38 _ (Or.inr (by omega))).trans ((τ29f 38 _ (by decide)).trans (τ23f 38 _ (by decide)))).trans (hDn m' v' h0 h1 h2 h3)) (fun v' h0 h1 => by
                        by_cases z : v' = v
                        · rw [z, τ30r, vlS, scr, hp9.1, hp9.2.1]
                          rw [pair_bs (by omega) (by omega) (hcs v) (Nat.le_refl _) (Nat.two_pow_pos _)]
                          first | (exfalso; omega) | rw [if_pos (by omega), if_pos (by omega), if_pos (by omega)] | rw [if_pos (by omega), if_pos (by omega), if_neg (by omega)] | rw [if_pos (by omega), if_neg (by omega), if_pos (by omega)] | rw [if_pos (by omega), if_neg (by omega), if_neg (by omega)] | rw [if_neg (by omega), if_pos (by omega), if_neg (by omega)] | rw [if_neg (by omega), if_neg (by omega), if_pos (by omega)] | rw [if_neg (by omega), if_neg (by omega), if_neg (by omega)]
                        · exact ((τ30f 38 _ (Or.inr (by omega))).trans ((τ29f 38 _ (by decide)).trans (τ23f 38 _ (by decide)))).trans (hRow v' h0 (by omega))) (fun k j hk => ((((τ30f k j (Or.inl (fun e => hk (by rw [e]; decide)))).trans (τ29f k j (fun e => hk ((show ∀ x ∈ [29], x ∈ [22, 23, 24, 25, 26, 27, 28, 29, 38] by decide) k e)))).trans (τ23f k j (fun e => hk ((show ∀ x ∈ [22, 23, 24, 25, 26, 27, 28], x ∈ [22, 23, 24, 25, 26, 27, 28, 29, 38] by decide) k e)))).trans (tf k j (fun e => hk ((show ∀ x ∈ [22, 23, 24, 25, 26, 27, 28, 29, 38], x ∈ [22, 23, 24, 25, 26, 27, 28, 29, 38] by decide) k e)))))
                · refine g_iload hΓ rfl dX3_laysByValues_116 ?_
                  refine g_goto (tgt := 129) hΓ dX3_laysByValues_118 (by decide) ?_
                  refine g_iload_n hΓ rfl dX3_laysByValues_129 ?_
                  refine g_iconst hΓ dX3_laysByValues_130 ?_
                  refine g_icmp_ne (tgt := 139) hΓ (by omega) (by omega) dX3_laysByValues_131 (by decide) (fun c32 => ?_) (fun c32 => ?_)
                  · refine g_aload_n hΓ rfl dX3_laysByValues_139 ?_
                    refine m_geta hok hΓ 0 (by decide) rfl rfl q1357 rfl dX3_laysByValues_140 ?_
                    refine g_sipush hΓ (by decide) dX3_laysByValues_143 ?_
                    refine m_ald hok hΓ 0 (by decide) rfl (n := 1048) rfl (by omega) (by decide) dX3_laysByValues_146 ?_
                    refine g_topi (((τ23f 0 1045 (by decide)).trans (tf 0 1045 (by decide)))) ?_
                    refine m_callV (As := [.int (iI v), .int (iI (σ 0 1045))]) (rest := [.int (iI ((41 * m) + v)), .ref (ad 38)]) hok hΓ (m_scoreBy hok τ23 v (σ 0 1045) (by first | assumption | omega) (by first | assumption | omega) (by first | assumption | omega)) rfl q1762 q1764 qs99 q131 q1765 ndX3_scoreBy rfl (by decide) (by decide) rfl rfl (Nat.le_of_ble_eq_true rfl) dX3_laysByValues_147 rfl (fun v33 τ33 τ33h => ?_)
                    obtain ⟨rfl, τ33h, τ33f⟩ := τ33h
                    show gW Γ E (mM E h ad τ33) 0 0 _ _ (.int (iI (bsF (cs3 τ23 (σ 0 1045)) v (τ23 25 0).toNat (τ23 24 0).toNat (τ23 24 0).toNat 0)) :: _)
                    refine m_ast hok hΓ 38 (by decide) rfl (n := 328) rfl (by omega) (by decide) dX3_laysByValues_150 (fun τ34 τ34e => ?_)
                    have τ34r : τ34 38 ((41 * m) + v) = bsF (cs3 τ23 (σ 0 1045)) v (τ23 25 0).toNat (τ23 24 0).toNat (τ23 24 0).toNat 0 := by rw [τ34e]; exact us_s _ _ _ _
                    have τ34f : ∀ (k9 : Nat) (j9 : Int), (k9 ≠ 38 ∨ j9 ≠ ((41 * m) + v)) → τ34 k9 j9 = τ33 k9 j9 := fun k9 j9 hh => by rw [τ34e]; exact us_n hh
                    obtain ⟨x35, ex35⟩ : ∃ z9 : Int, z9 = v + 1 := ⟨_, rfl⟩
                    refine g_iinc hΓ dX3_laysByValues_151 rfl rfl (lv' := [some (.ref h), some (.int (iI k)), some (.int (iI q)), some (.int (iI m)), some (.int (iI x35))]) (by rw [ex35]; rfl) ?_
                    refine g_goto (tgt := 57) hΓ dX3_laysByValues_154 (by decide) ?_
                    exact ih_loop2 x35 τ34 (by omega) (by omega) (Or.inl (by omega)) (fun m' v' h0 h1 h2 h3 => ((τ34f 38 _ (Or.inr (by omega))).trans ((τ33f 38 _ (by decide)).trans (τ23f 38 _ (by decide)))).trans (hDn m' v' h0 h1 h2 h3)) (fun v' h0 h1 => by
                        by_cases z : v' = v
                        · rw [z, τ34r, vlS, scr, hp9.1, hp9.2.1]
                          rw [pair_bs (by omega) (by omega) (hcs (σ 0 1045)) (Nat.le_refl _) (Nat.two_pow_pos _)]
                          first | (exfalso; omega) | rw [if_pos (by omega), if_pos (by omega), if_pos (by omega)] | rw [if_pos (by omega), if_pos (by omega), if_neg (by omega)] | rw [if_pos (by omega), if_neg (by omega), if_pos (by omega)] | rw [if_pos (by omega), if_neg (by omega), if_neg (by omega)] | rw [if_neg (by omega), if_pos (by omega), if_neg (by omega)] | rw [if_neg (by omega), if_neg (by omega), if_pos (by omega)] | rw [if_neg (by omega), if_neg (by omega), if_neg (by omega)]
                        · exact ((τ34f 38 _ (Or.inr (by omega))).trans ((τ33f 38 _ (by decide)).trans (τ23f 38 _ (by decide)))).trans (hRow v' h0 (by omega))) (fun k j hk => ((((τ34f k j (Or.inl (fun e => hk (by rw [e]; decide)))).trans (τ33f k j (fun e => hk ((show ∀ x ∈ [29], x ∈ [22, 23, 24, 25, 26, 27, 28, 29, 38] by decide) k e)))).trans (τ23f k j (fun e => hk ((show ∀ x ∈ [22, 23, 24, 25, 26, 27, 28], x ∈ [22, 23, 24, 25, 26, 27, 28, 29, 38] by decide) k e)))).trans (tf k j (fun e => hk ((show ∀ x ∈ [22, 23, 24, 25, 26, 27, 28, 29, 38], x ∈ [22, 23, 24, 25, 26, 27, 28, 29, 38] by decide) k e)))))
                  · refine g_iload hΓ rfl dX3_laysByValues_134 ?_
                    refine g_goto (tgt := 147) hΓ dX3_laysByValues_136 (by decide) ?_
                    refine m_callV (As := [.int (iI v), .int (iI v)]) (rest := [.int (iI ((41 * m) + v)), .ref (ad 38)]) hok hΓ (m_scoreBy hok τ23 v v (by first | assumption | omega) (by first | assumption | omega) (by first | assumption | omega)) rfl q1762 q1764 qs99 q131 q1765 ndX3_scoreBy rfl (by decide) (by decide) rfl rfl (Nat.le_of_ble_eq_true rfl) dX3_laysByValues_147 rfl (fun v36 τ36 τ36h => ?_)
                    obtain ⟨rfl, τ36h, τ36f⟩ := τ36h
                    show gW Γ E (mM E h ad τ36) 0 0 _ _ (.int (iI (bsF (cs3 τ23 v) v (τ23 25 0).toNat (τ23 24 0).toNat (τ23 24 0).toNat 0)) :: _)
                    refine m_ast hok hΓ 38 (by decide) rfl (n := 328) rfl (by omega) (by decide) dX3_laysByValues_150 (fun τ37 τ37e => ?_)
                    have τ37r : τ37 38 ((41 * m) + v) = bsF (cs3 τ23 v) v (τ23 25 0).toNat (τ23 24 0).toNat (τ23 24 0).toNat 0 := by rw [τ37e]; exact us_s _ _ _ _
                    have τ37f : ∀ (k9 : Nat) (j9 : Int), (k9 ≠ 38 ∨ j9 ≠ ((41 * m) + v)) → τ37 k9 j9 = τ36 k9 j9 := fun k9 j9 hh => by rw [τ37e]; exact us_n hh
                    obtain ⟨x38, ex38⟩ : ∃ z9 : Int, z9 = v + 1 := ⟨_, rfl⟩
                    refine g_iinc hΓ dX3_laysByValues_151 rfl rfl (lv' := [some (.ref h), some (.int (iI k)), some (.int (iI q)), some (.int (iI m)), some (.int (iI x38))]) (by rw [ex38]; rfl) ?_
                    refine g_goto (tgt := 57) hΓ dX3_laysByValues_154 (by decide) ?_
                    exact ih_loop2 x38 τ37 (by omega) (by omega) (Or.inl (by omega)) (fun m' v' h0 h1 h2 h3 => ((τ37f 38 _ (Or.inr (by omega))).trans ((τ36f 38 _ (by decide)).trans (τ23f 38 _ (by decide)))).trans (hDn m' v' h0 h1 h2 h3)) (fun v' h0 h1 => by
                        by_cases z : v' = v
                        · rw [z, τ37r, vlS, scr, hp9.1, hp9.2.1]
                          rw [pair_bs (by omega) (by omega) (hcs v) (Nat.le_refl _) (Nat.two_pow_pos _)]
                          first | (exfalso; omega) | rw [if_pos (by omega), if_pos (by omega), if_pos (by omega)] | rw [if_pos (by omega), if_pos (by omega), if_neg (by omega)] | rw [if_pos (by omega), if_neg (by omega), if_pos (by omega)] | rw [if_pos (by omega), if_neg (by omega), if_neg (by omega)] | rw [if_neg (by omega), if_pos (by omega), if_neg (by omega)] | rw [if_neg (by omega), if_neg (by omega), if_pos (by omega)] | rw [if_neg (by omega), if_neg (by omega), if_neg (by omega)]
                        · exact ((τ37f 38 _ (Or.inr (by omega))).trans ((τ36f 38 _ (by decide)).trans (τ23f 38 _ (by decide)))).trans (hRow v' h0 (by omega))) (fun k j hk => ((((τ37f k j (Or.inl (fun e => hk (by rw [e]; decide)))).trans (τ36f k j (fun e => hk ((show ∀ x ∈ [29], x ∈ [22, 23, 24, 25, 26, 27, 28, 29, 38] by decide) k e)))).trans (τ23f k j (fun e => hk ((show ∀ x ∈ [22, 23, 24, 25, 26, 27, 28], x ∈ [22, 23, 24, 25, 26, 27, 28, 29, 38] by decide) k e)))).trans (tf k j (fun e => hk ((show ∀ x ∈ [22, 23, 24, 25, 26, 27, 28, 29, 38], x ∈ [22, 23, 24, 25, 26, 27, 28, 29, 38] by decide) k e)))))
        refine g_iload_n hΓ rfl dX3_laysByValues_14 ?_
        refine g_iconst hΓ dX3_laysByValues_15 ?_
        refine g_icmp_ge (tgt := 54) hΓ (by omega) (by omega) dX3_laysByValues_16 (by decide) (fun c39 => ?_) (fun c39 => ?_)
        · refine g_iconst hΓ dX3_laysByValues_54 ?_
          refine g_istore hΓ dX3_laysByValues_55 rfl (Nat.le_of_ble_eq_true rfl) (lv' := [some (.ref h), some (.int (iI k)), some (.int (iI q)), some (.int (iI m)), some (.int (iI 0))]) rfl ?_
          exact loop2 42 0 t (by omega) (by omega) (Or.inl (by omega)) hDn (fun v' h0 h1 => absurd h1 (by omega)) tf
        · refine g_aload_n hΓ rfl dX3_laysByValues_19 ?_
          refine g_bipush hΓ (by decide) dX3_laysByValues_20 ?_
          refine g_bipush hΓ (by decide) dX3_laysByValues_22 ?_
          refine g_iload_n hΓ rfl dX3_laysByValues_24 ?_
          refine g_imul hΓ dX3_laysByValues_25 ?_
          refine g_iadd hΓ dX3_laysByValues_26 ?_
          refine g_aload_n hΓ rfl dX3_laysByValues_27 ?_
          refine m_geta hok hΓ 9 (by decide) rfl rfl q1366 rfl dX3_laysByValues_28 ?_
          refine g_iload_n hΓ rfl dX3_laysByValues_31 ?_
          refine m_ald hok hΓ 9 (by decide) rfl (n := 8) rfl (by omega) (by decide) dX3_laysByValues_32 ?_
          refine g_topi ((tf 9 k (by decide))) ?_
          refine g_aload_n hΓ rfl dX3_laysByValues_33 ?_
          refine g_iload_n hΓ rfl dX3_laysByValues_34 ?_
          refine m_callV (As := [.int (iI m)]) (rest := [.int (iI (σ 9 k)), .int (iI (40 + (8 * k))), .ref h]) hok hΓ (m_firstOf hok t m (by first | assumption | omega)) rfl q1618 q1620 qs80 q131 q1621 ndX3_firstOf rfl (by decide) (by decide) rfl rfl (Nat.le_of_ble_eq_true rfl) dX3_laysByValues_35 rfl (fun v40 τ40 τ40h => ?_)
          obtain ⟨rfl, τ40h⟩ := τ40h
          rw [τ40h]
          clear τ40h
          show gW Γ E (mM E h ad t) 0 0 _ _ (.int (iI (fsS m)) :: _)
          refine g_aload_n hΓ rfl dX3_laysByValues_38 ?_
          refine g_iload_n hΓ rfl dX3_laysByValues_39 ?_
          refine m_callV (As := [.int (iI m)]) (rest := [.int (iI (fsS m)), .int (iI (σ 9 k)), .int (iI (40 + (8 * k))), .ref h]) hok hΓ (m_manyOf hok t m (by first | assumption | omega) (by first | assumption | omega)) rfl q1606 q1608 qs78 q131 q1609 ndX3_manyOf rfl (by decide) (by decide) rfl rfl (Nat.le_of_ble_eq_true rfl) dX3_laysByValues_40 rfl (fun v41 τ41 τ41h => ?_)
          obtain ⟨rfl, τ41h⟩ := τ41h
          rw [τ41h]
          clear τ41h
          show gW Γ E (mM E h ad t) 0 0 _ _ (.int (iI (mnS t m)) :: _)
          refine g_topi (show (mnS t m : Int) = (mnS σ m) by simp only [tM]) ?_
          refine g_aload_n hΓ rfl dX3_laysByValues_43 ?_
          refine m_geta hok hΓ 0 (by decide) rfl rfl q1357 rfl dX3_laysByValues_44 ?_
          refine g_sipush hΓ (by decide) dX3_laysByValues_47 ?_
          refine m_ald hok hΓ 0 (by decide) rfl (n := 1048) rfl (by omega) (by decide) dX3_laysByValues_50 ?_
          refine g_topi ((tf 0 1043 (by decide))) ?_
          refine m_callV (As := [.int (iI (40 + (8 * k))), .int (iI (σ 9 k)), .int (iI (fsS m)), .int (iI (mnS σ m)), .int (iI (σ 0 1043))]) (rest := []) hok hΓ (m_laysPairs hok t (40 + (8 * k)) (σ 9 k) (fsS m) (mnS σ m) (σ 0 1043) (by first | assumption | omega) (by first | assumption | omega) (by first | assumption | omega) (by first | assumption | omega)) rfl q1754 q1756 qs97 q131 q1757 ndX3_laysPairs rfl (by decide) (by decide) rfl rfl (Nat.le_of_ble_eq_true rfl) dX3_laysByValues_51 rfl (fun v42 τ42 τ42h => ?_)
          obtain ⟨rfl, τ42h, τ42f⟩ := τ42h
          refine g_iconst hΓ dX3_laysByValues_54 ?_
          refine g_istore hΓ dX3_laysByValues_55 rfl (Nat.le_of_ble_eq_true rfl) (lv' := [some (.ref h), some (.int (iI k)), some (.int (iI q)), some (.int (iI m)), some (.int (iI 0))]) rfl ?_
          exact loop2 42 0 τ42 (by omega) (by omega) (Or.inr (by have z := τ42h; rw [tE, tC] at z; exact z)) (fun m' v' h0 h1 h2 h3 => (τ42f 38 _ (by decide)).trans (hDn m' v' h0 h1 h2 h3)) (fun v' h0 h1 => absurd h1 (by omega)) (fun k j hk => ((τ42f k j (fun e => hk ((show ∀ x ∈ [22, 23, 24, 25, 26, 27, 28], x ∈ [22, 23, 24, 25, 26, 27, 28, 29, 38] by decide) k e))).trans (tf k j (fun e => hk ((show ∀ x ∈ [22, 23, 24, 25, 26, 27, 28, 29, 38], x ∈ [22, 23, 24, 25, 26, 27, 28, 29, 38] by decide) k e)))))
  exact loop 9 0 σ (by omega) (by omega) (fun m' v' h0 h1 => absurd h1 (by omega)) (fun k j _ => rfl)
set_option maxHeartbeats 4000000 in
theorem m_laysRight {l : Launch} {E : gE} {h : Nat} {ad : Nat → Nat} (hok : mOK E h ad) (σ : mS)  (k : Int) (q : Int) (hk : 0 ≤ k ∧ k < σ 6 0) (hq : 0 ≤ q ∧ q ≤ 2) (hr : rowOK (σ 0)) (ht : tolOK σ) (hrb : ∀ v, 0 ≤ v → v < vlN q → (-1584 ≤ σ 37 v ∧ σ 37 v ≤ 100000000)) : mC l E h ad yX3_laysRight cX3_laysRight 9 none 8 [.ref h, .int (iI k), .int (iI q)] σ (fun rv σ' => rv = none ∧ (∀ v', 0 ≤ v' → v' < vlN q → σ' 36 v' = (if (rgE σ k q v').1 = 0 then 0 else σ 36 v') ∧ σ' 37 v' = min (σ 37 v') (rgE σ k q v').2) ∧ ∀ (k : Nat) (j : Int), k ∉ [22, 23, 24, 25, 26, 27, 28, 29, 36, 37, 38] → σ' k j = σ k j) := by
  refine mC.of (by decide) [some (.ref h), some (.int (iI k)), some (.int (iI q)), none, none, none, none, none, none] (Nat.le_of_ble_eq_true rfl) rfl rfl (fun Γ hΓ => ?_)
  obtain ⟨h1000, h1009, h1042, h1043, h1044, h1045, h1046, h1047, hms, hsi, hsm, hnm⟩ := id hr
  have ht6 := ht.1
  have htk := ht.2 k (by omega) (by omega)
  have hvl : 0 ≤ vlN q ∧ vlN q ≤ 41 ∧ (q = 2 → vlN q = 17) := by rw [vlN]; split <;> omega
  refine g_aload_n hΓ rfl dX3_laysRight_0 ?_
  refine g_iload_n hΓ rfl dX3_laysRight_1 ?_
  refine g_iload_n hΓ rfl dX3_laysRight_2 ?_
  refine m_callV (As := [.int (iI k), .int (iI q)]) (rest := []) hok hΓ (m_laysByValues hok σ k q (by first | assumption | omega) (by first | assumption | omega) (by first | assumption | omega) (by first | assumption | omega)) rfl q1908 q1910 qs116 q131 q1911 ndX3_laysByValues rfl (by decide) (by decide) rfl rfl (Nat.le_of_ble_eq_true rfl) dX3_laysRight_3 rfl (fun v1 τ1 τ1h => ?_)
  obtain ⟨rfl, τ1h, τ1f⟩ := τ1h
  refine g_aload_n hΓ rfl dX3_laysRight_6 ?_
  refine m_geta hok hΓ 10 (by decide) rfl rfl q1367 rfl dX3_laysRight_7 ?_
  refine g_iload_n hΓ rfl dX3_laysRight_10 ?_
  refine m_ald hok hΓ 10 (by decide) rfl (n := 8) rfl (by omega) (by decide) dX3_laysRight_11 ?_
  refine g_topi ((τ1f 10 k (by decide))) ?_
  obtain ⟨x2, ex2⟩ : ∃ z9 : Int, z9 = σ 10 k := ⟨_, rfl⟩
  refine g_topi ex2.symm ?_
  refine g_istore_n hΓ dX3_laysRight_12 rfl (Nat.le_of_ble_eq_true rfl) (lv' := [some (.ref h), some (.int (iI k)), some (.int (iI q)), some (.int (iI x2)), none, none, none, none, none]) rfl ?_
  refine g_iconst hΓ dX3_laysRight_13 ?_
  refine g_istore hΓ dX3_laysRight_14 rfl (Nat.le_of_ble_eq_true rfl) (lv' := [some (.ref h), some (.int (iI k)), some (.int (iI q)), some (.int (iI x2)), some (.int (iI 0)), none, none, none, none]) rfl ?_
  have hits : x2 = σ 10 k := ex2
  have hnm : ((nMod σ : Nat) : Int) = σ 0 1000 := by rw [nMod]; omega
  have loop : ∀ (fu : Nat) (v : Int) (t : mS), (vlN q - v).toNat < fu → (0 ≤ v ∧ v ≤ vlN q) → (∀ v', 0 ≤ v' → v' < v → t 36 v' = (if (rgE σ k q v').1 = 0 then 0 else σ 36 v') ∧ t 37 v' = min (σ 37 v') (rgE σ k q v').2) → (∀ v', v ≤ v' → t 36 v' = σ 36 v' ∧ t 37 v' = σ 37 v') → (∀ (k' : Nat) (j : Int), k' ∉ [36, 37] → t k' j = τ1 k' j) → gW Γ E (mM E h ad t) 0 0 16 [some (.ref h), some (.int (iI k)), some (.int (iI q)), some (.int (iI x2)), some (.int (iI v)), none, none, none, none] [] := by
    intro fu
    induction fu with
    | zero => intro v t hn; exact absurd hn (Nat.not_lt_zero _)
    | succ fu ih_loop =>
      intro v t hn hv hD hO tf
      have t0 : t 0 = σ 0 := funext fun j => ((tf 0 j (by decide)).trans (τ1f 0 j (by decide)))
      have hr1 : rowOK (t 0) := by rw [t0]; exact hr
      refine g_iload hΓ rfl dX3_laysRight_16 ?_
      refine g_iload_n hΓ rfl dX3_laysRight_18 ?_
      refine m_callS (As := [.int (iI q)]) (rest := [.int (iI v)]) hok hΓ (m_valuesOf hok t q (by first | assumption | omega)) rfl q1912 q1913 q131 q1914 ndX3_valuesOf rfl (by decide) (by decide) rfl (Nat.le_of_ble_eq_true rfl) dX3_laysRight_19 rfl (fun v3 τ3 τ3h => ?_)
      obtain ⟨rfl, τ3h⟩ := τ3h
      rw [τ3h]
      clear τ3h
      show gW Γ E (mM E h ad t) 0 0 _ _ (.int (iI (vlN q)) :: _)
      refine g_icmp_ge (tgt := 193) hΓ (by omega) (by omega) dX3_laysRight_22 (by decide) (fun c4 => ?_) (fun c4 => ?_)
      · exact m_vret hΓ dX3_laysRight_193 ⟨rfl, (fun v' h0 h1 => hD v' h0 (by omega)), (fun k' j hk' => (tf k' j (fun e => hk' ((show ∀ x ∈ [36, 37], x ∈ [22, 23, 24, 25, 26, 27, 28, 29, 36, 37, 38] by decide) k' e))).trans (τ1f k' j (fun e => hk' ((show ∀ x ∈ [22, 23, 24, 25, 26, 27, 28, 29, 38], x ∈ [22, 23, 24, 25, 26, 27, 28, 29, 36, 37, 38] by decide) k' e))))⟩
      · refine g_ldcw (n := 100000000) hΓ rfl q1716 (by decide) dX3_laysRight_25 ?_
        refine g_istore hΓ dX3_laysRight_28 rfl (Nat.le_of_ble_eq_true rfl) (lv' := [some (.ref h), some (.int (iI k)), some (.int (iI q)), some (.int (iI x2)), some (.int (iI v)), some (.int (iI 100000000)), none, none, none]) rfl ?_
        refine g_aload_n hΓ rfl dX3_laysRight_30 ?_
        refine g_iload_n hΓ rfl dX3_laysRight_31 ?_
        refine m_callV (As := [.int (iI x2)]) (rest := []) hok hΓ (m_isModel hok t x2 (by first | assumption | omega) (by first | assumption | omega)) rfl q1594 q1596 qs76 q131 q1597 ndX3_isModel rfl (by decide) (by decide) rfl rfl (Nat.le_of_ble_eq_true rfl) dX3_laysRight_32 rfl (fun v5 τ5 τ5h => ?_)
        obtain ⟨rfl, τ5h⟩ := τ5h
        rw [τ5h]
        clear τ5h
        show gW Γ E (mM E h ad t) 0 0 _ _ (.int (iI (if 0 ≤ x2 ∧ x2 < t 0 1000 then 1 else 0)) :: _)
        refine g_topi (show (if 0 ≤ x2 ∧ x2 < t 0 1000 then 1 else 0 : Int) = (if 0 ≤ x2 ∧ x2 < σ 0 1000 then 1 else 0) by simp only [t0]) ?_
        obtain ⟨x6, ex6⟩ : ∃ z9 : Int, z9 = if 0 ≤ x2 ∧ x2 < σ 0 1000 then 1 else 0 := ⟨_, rfl⟩
        refine g_topi ex6.symm ?_
        refine g_istore hΓ dX3_laysRight_35 rfl (Nat.le_of_ble_eq_true rfl) (lv' := [some (.ref h), some (.int (iI k)), some (.int (iI q)), some (.int (iI x2)), some (.int (iI v)), some (.int (iI 100000000)), some (.int (iI x6)), none, none]) rfl ?_
        refine g_iconst hΓ dX3_laysRight_37 ?_
        refine g_istore hΓ dX3_laysRight_38 rfl (Nat.le_of_ble_eq_true rfl) (lv' := [some (.ref h), some (.int (iI k)), some (.int (iI q)), some (.int (iI x2)), some (.int (iI v)), some (.int (iI 100000000)), some (.int (iI x6)), some (.int (iI 0)), none]) rfl ?_
        have hV : ∀ m', 0 ≤ m' → m' < σ 0 1000 → τ1 38 (41 * m' + v) = vlS σ k q m' v := fun m' z0 z1 => τ1h m' v z0 z1 (by omega) (by omega)
        have hRr : ∀ j : Nat, j ≤ nMod σ → _ := fun j hj => rgF_r (S := fun m => vlS σ k q m v) (its := x2) (im := isM σ x2) (by rw [isM]; split <;> omega) (N := nMod σ) (fun m z0 z1 => vlS_r hr ht (by omega) ⟨z0, by omega⟩ (by omega)) (by rw [isM]; split; right; omega; exact Or.inl rfl) j hj
        have loop2 : ∀ (fu : Nat) (z : Int) (b : Int) (m : Int), (σ 0 1000 - m).toNat < fu → (0 ≤ m ∧ m ≤ σ 0 1000) → ((b, z) = rgF (fun m => vlS σ k q m v) x2 (isM σ x2) m.toNat) → gW Γ E (mM E h ad t) 0 0 40 [some (.ref h), some (.int (iI k)), some (.int (iI q)), some (.int (iI x2)), some (.int (iI v)), some (.int (iI z)), some (.int (iI b)), some (.int (iI m)), none] [] := by
          intro fu
          induction fu with
          | zero => intro z b m hn; exact absurd hn (Nat.not_lt_zero _)
          | succ fu ih_loop2 =>
            intro z b m hn hm hbz
            have hrr := hRr m.toNat (by omega)
            rw [← hbz] at hrr
            simp only at hrr
            refine g_iload hΓ rfl dX3_laysRight_40 ?_
            refine g_aload_n hΓ rfl dX3_laysRight_42 ?_
            refine m_geta hok hΓ 0 (by decide) rfl rfl q1357 rfl dX3_laysRight_43 ?_
            refine g_sipush hΓ (by decide) dX3_laysRight_46 ?_
            refine m_ald hok hΓ 0 (by decide) rfl (n := 1048) rfl (by omega) (by decide) dX3_laysRight_49 ?_
            refine g_topi (((tf 0 1000 (by decide)).trans (τ1f 0 1000 (by decide)))) ?_
            refine g_icmp_ge (tgt := 145) hΓ (by omega) (by omega) dX3_laysRight_50 (by decide) (fun c7 => ?_) (fun c7 => ?_)
            · have hfin : rgE σ k q v = (b, z) := by rw [rgE, ← hits, show nMod σ = m.toNat by omega, ← hbz]
              have hold := hO v (by omega)
              have h37 := hrb v (by omega) (by omega)
              refine g_aload_n hΓ rfl dX3_laysRight_145 ?_
              refine m_geta hok hΓ 36 (by decide) rfl rfl q1393 rfl dX3_laysRight_146 ?_
              refine g_iload hΓ rfl dX3_laysRight_149 ?_
              refine g_iload hΓ rfl dX3_laysRight_151 ?_
              refine g_if_eq (tgt := 166) hΓ (by omega) dX3_laysRight_153 (by decide) (fun c8 => ?_) (fun c8 => ?_)
              · refine g_iconst hΓ dX3_laysRight_166 ?_
                refine m_ast hok hΓ 36 (by decide) rfl (n := 41) rfl (by omega) (by decide) dX3_laysRight_167 (fun τ9 τ9e => ?_)
                have τ9r : τ9 36 v = 0 := by rw [τ9e]; exact us_s _ _ _ _
                have τ9f : ∀ (k9 : Nat) (j9 : Int), (k9 ≠ 36 ∨ j9 ≠ v) → τ9 k9 j9 = t k9 j9 := fun k9 j9 hh => by rw [τ9e]; exact us_n hh
                refine g_aload_n hΓ rfl dX3_laysRight_168 ?_
                refine m_geta hok hΓ 37 (by decide) rfl rfl q1394 rfl dX3_laysRight_169 ?_
                refine g_iload hΓ rfl dX3_laysRight_172 ?_
                refine g_aload_n hΓ rfl dX3_laysRight_174 ?_
                refine m_geta hok hΓ 37 (by decide) rfl rfl q1394 rfl dX3_laysRight_175 ?_
                refine g_iload hΓ rfl dX3_laysRight_178 ?_
                refine m_ald hok hΓ 37 (by decide) rfl (n := 41) rfl (by omega) (by decide) dX3_laysRight_180 ?_
                refine g_topi ((τ9f 37 v (Or.inl (by decide)))) ?_
                refine g_iload hΓ rfl dX3_laysRight_181 ?_
                refine m_callS (As := [.int (iI (t 37 v)), .int (iI z)]) (rest := [.int (iI v), .ref (ad 37)]) hok hΓ (m_lesser hok τ9 (t 37 v) z (by first | assumption | omega) (by first | assumption | omega)) rfl q1674 q1675 q131 q1676 ndX3_lesser rfl (by decide) (by decide) rfl (Nat.le_of_ble_eq_true rfl) dX3_laysRight_183 rfl (fun v10 τ10 τ10h => ?_)
                obtain ⟨rfl, τ10h⟩ := τ10h
                rw [τ10h]
                clear τ10h
                show gW Γ E (mM E h ad τ9) 0 0 _ _ (.int (iI (min (t 37 v) z)) :: _)
                refine m_ast hok hΓ 37 (by decide) rfl (n := 41) rfl (by omega) (by decide) dX3_laysRight_186 (fun τ11 τ11e => ?_)
                have τ11r : τ11 37 v = min (t 37 v) z := by rw [τ11e]; exact us_s _ _ _ _
                have τ11f : ∀ (k9 : Nat) (j9 : Int), (k9 ≠ 37 ∨ j9 ≠ v) → τ11 k9 j9 = τ9 k9 j9 := fun k9 j9 hh => by rw [τ11e]; exact us_n hh
                obtain ⟨x12, ex12⟩ : ∃ z9 : Int, z9 = v + 1 := ⟨_, rfl⟩
                refine g_iinc hΓ dX3_laysRight_187 rfl rfl (lv' := [some (.ref h), some (.int (iI k)), some (.int (iI q)), some (.int (iI x2)), some (.int (iI x12)), some (.int (iI z)), some (.int (iI b)), some (.int (iI m)), none]) (by rw [ex12]; rfl) ?_
                refine g_goto (tgt := 16) hΓ dX3_laysRight_190 (by decide) ?_
                refine g_lvw (lv' := [some (.ref h), some (.int (iI k)), some (.int (iI q)), some (.int (iI x2)), some (.int (iI x12)), none, none, none, none]) ⟨rfl, ⟨rfl, ⟨rfl, ⟨rfl, ⟨rfl, trivial⟩⟩⟩⟩⟩ ?_
                exact ih_loop x12 τ11 (by omega) (by omega) (fun v' h0 h1 => by
                    by_cases y : v' = v
                    · rw [y, hfin]
                      refine ⟨(τ11f 36 _ (Or.inl (by decide))).trans ?_, τ11r.trans ?_⟩
                      · rw [τ9r]; first | (rw [if_pos (by omega)]; done) | (rw [if_neg (by omega)]; exact hold.1)
                      · rw [hold.2]
                    · have z9 := hD v' h0 (by omega)
                      exact ⟨(τ11f 36 _ (Or.inl (by decide))).trans ((τ9f 36 _ (Or.inr y)).trans z9.1), (τ11f 37 _ (Or.inr y)).trans ((τ9f 37 _ (Or.inl (by decide))).trans z9.2)⟩) (fun v' h0 => by
                    have z9 := hO v' (by omega)
                    exact ⟨(τ11f 36 _ (Or.inl (by decide))).trans ((τ9f 36 _ (Or.inr (by omega))).trans z9.1), (τ11f 37 _ (Or.inr (by omega))).trans ((τ9f 37 _ (Or.inl (by decide))).trans z9.2)⟩) (fun k' j hk' => (τ11f k' j (Or.inl (fun e => hk' (by rw [e]; decide)))).trans ((τ9f k' j (Or.inl (fun e => hk' (by rw [e]; decide)))).trans (tf k' j hk')))
              · refine g_aload_n hΓ rfl dX3_laysRight_156 ?_
                refine m_geta hok hΓ 36 (by decide) rfl rfl q1393 rfl dX3_laysRight_157 ?_
                refine g_iload hΓ rfl dX3_laysRight_160 ?_
                refine m_ald hok hΓ 36 (by decide) rfl (n := 41) rfl (by omega) (by decide) dX3_laysRight_162 ?_
                refine g_goto (tgt := 167) hΓ dX3_laysRight_163 (by decide) ?_
                refine m_ast hok hΓ 36 (by decide) rfl (n := 41) rfl (by omega) (by decide) dX3_laysRight_167 (fun τ13 τ13e => ?_)
                have τ13r : τ13 36 v = t 36 v := by rw [τ13e]; exact us_s _ _ _ _
                have τ13f : ∀ (k9 : Nat) (j9 : Int), (k9 ≠ 36 ∨ j9 ≠ v) → τ13 k9 j9 = t k9 j9 := fun k9 j9 hh => by rw [τ13e]; exact us_n hh
                refine g_aload_n hΓ rfl dX3_laysRight_168 ?_
                refine m_geta hok hΓ 37 (by decide) rfl rfl q1394 rfl dX3_laysRight_169 ?_
                refine g_iload hΓ rfl dX3_laysRight_172 ?_
                refine g_aload_n hΓ rfl dX3_laysRight_174 ?_
                refine m_geta hok hΓ 37 (by decide) rfl rfl q1394 rfl dX3_laysRight_175 ?_
                refine g_iload hΓ rfl dX3_laysRight_178 ?_
                refine m_ald hok hΓ 37 (by decide) rfl (n := 41) rfl (by omega) (by decide) dX3_laysRight_180 ?_
                refine g_topi ((τ13f 37 v (Or.inl (by decide)))) ?_
                refine g_iload hΓ rfl dX3_laysRight_181 ?_
                refine m_callS (As := [.int (iI (t 37 v)), .int (iI z)]) (rest := [.int (iI v), .ref (ad 37)]) hok hΓ (m_lesser hok τ13 (t 37 v) z (by first | assumption | omega) (by first | assumption | omega)) rfl q1674 q1675 q131 q1676 ndX3_lesser rfl (by decide) (by decide) rfl (Nat.le_of_ble_eq_true rfl) dX3_laysRight_183 rfl (fun v14 τ14 τ14h => ?_)
                obtain ⟨rfl, τ14h⟩ := τ14h
                rw [τ14h]
                clear τ14h
                show gW Γ E (mM E h ad τ13) 0 0 _ _ (.int (iI (min (t 37 v) z)) :: _)
                refine m_ast hok hΓ 37 (by decide) rfl (n := 41) rfl (by omega) (by decide) dX3_laysRight_186 (fun τ15 τ15e => ?_)
                have τ15r : τ15 37 v = min (t 37 v) z := by rw [τ15e]; exact us_s _ _ _ _
                have τ15f : ∀ (k9 : Nat) (j9 : Int), (k9 ≠ 37 ∨ j9 ≠ v) → τ15 k9 j9 = τ13 k9 j9 := fun k9 j9 hh => by rw [τ15e]; exact us_n hh
                obtain ⟨x16, ex16⟩ : ∃ z9 : Int, z9 = v + 1 := ⟨_, rfl⟩
                refine g_iinc hΓ dX3_laysRight_187 rfl rfl (lv' := [some (.ref h), some (.int (iI k)), some (.int (iI q)), some (.int (iI x2)), some (.int (iI x16)), some (.int (iI z)), some (.int (iI b)), some (.int (iI m)), none]) (by rw [ex16]; rfl) ?_
                refine g_goto (tgt := 16) hΓ dX3_laysRight_190 (by decide) ?_
                refine g_lvw (lv' := [some (.ref h), some (.int (iI k)), some (.int (iI q)), some (.int (iI x2)), some (.int (iI x16)), none, none, none, none]) ⟨rfl, ⟨rfl, ⟨rfl, ⟨rfl, ⟨rfl, trivial⟩⟩⟩⟩⟩ ?_
                exact ih_loop x16 τ15 (by omega) (by omega) (fun v' h0 h1 => by
                    by_cases y : v' = v
                    · rw [y, hfin]
                      refine ⟨(τ15f 36 _ (Or.inl (by decide))).trans ?_, τ15r.trans ?_⟩
                      · rw [τ13r]; first | (rw [if_pos (by omega)]; done) | (rw [if_neg (by omega)]; exact hold.1)
                      · rw [hold.2]
                    · have z9 := hD v' h0 (by omega)
                      exact ⟨(τ15f 36 _ (Or.inl (by decide))).trans ((τ13f 36 _ (Or.inr y)).trans z9.1), (τ15f 37 _ (Or.inr y)).trans ((τ13f 37 _ (Or.inl (by decide))).trans z9.2)⟩) (fun v' h0 => by
                    have z9 := hO v' (by omega)
                    exact ⟨(τ15f 36 _ (Or.inl (by decide))).trans ((τ13f 36 _ (Or.inr (by omega))).trans z9.1), (τ15f 37 _ (Or.inr (by omega))).trans ((τ13f 37 _ (Or.inl (by decide))).trans z9.2)⟩) (fun k' j hk' => (τ15f k' j (Or.inl (fun e => hk' (by rw [e]; decide)))).trans ((τ13f k' j (Or.inl (fun e => hk' (by rw [e]; decide)))).trans (tf k' j hk')))
            · refine g_iload hΓ rfl dX3_laysRight_53 ?_
              refine g_iload_n hΓ rfl dX3_laysRight_55 ?_
              refine g_icmp_ne (tgt := 62) hΓ (by omega) (by omega) dX3_laysRight_56 (by decide) (fun c17 => ?_) (fun c17 => ?_)
              · have s1 := hV m (by omega) (by omega)
                have s2 := vlS_r hr ht (which := q) (v := v) (m := m) (by omega) (by omega) (by omega)
                refine g_aload_n hΓ rfl dX3_laysRight_62 ?_
                refine m_geta hok hΓ 38 (by decide) rfl rfl q1395 rfl dX3_laysRight_63 ?_
                refine g_bipush hΓ (by decide) dX3_laysRight_66 ?_
                refine g_iload hΓ rfl dX3_laysRight_68 ?_
                refine g_imul hΓ dX3_laysRight_70 ?_
                refine g_iload hΓ rfl dX3_laysRight_71 ?_
                refine g_iadd hΓ dX3_laysRight_73 ?_
                refine m_ald hok hΓ 38 (by decide) rfl (n := 328) rfl (by omega) (by decide) dX3_laysRight_74 ?_
                refine g_topi ((tf 38 ((41 * m) + v) (by decide))) ?_
                refine g_aload_n hΓ rfl dX3_laysRight_75 ?_
                refine g_iload_n hΓ rfl dX3_laysRight_76 ?_
                refine m_callV (As := [.int (iI x2)]) (rest := [.int (iI (τ1 38 ((41 * m) + v)))]) hok hΓ (m_isModel hok t x2 (by first | assumption | omega) (by first | assumption | omega)) rfl q1594 q1596 qs76 q131 q1597 ndX3_isModel rfl (by decide) (by decide) rfl rfl (Nat.le_of_ble_eq_true rfl) dX3_laysRight_77 rfl (fun v18 τ18 τ18h => ?_)
                obtain ⟨rfl, τ18h⟩ := τ18h
                rw [τ18h]
                clear τ18h
                show gW Γ E (mM E h ad t) 0 0 _ _ (.int (iI (if 0 ≤ x2 ∧ x2 < t 0 1000 then 1 else 0)) :: _)
                refine g_topi (show (if 0 ≤ x2 ∧ x2 < t 0 1000 then 1 else 0 : Int) = (if 0 ≤ x2 ∧ x2 < σ 0 1000 then 1 else 0) by simp only [t0]) ?_
                refine g_ifB_eq (tgt := 98) hΓ  dX3_laysRight_80 (by decide) (fun c19 => ?_) (fun c19 => ?_)
                · refine g_iconst hΓ dX3_laysRight_98 ?_
                  refine g_isub hΓ dX3_laysRight_99 ?_
                  obtain ⟨x20, ex20⟩ : ∃ z9 : Int, z9 = (τ1 38 ((41 * m) + v)) - 0 := ⟨_, rfl⟩
                  refine g_topi ex20.symm ?_
                  refine g_istore hΓ dX3_laysRight_100 rfl (Nat.le_of_ble_eq_true rfl) (lv' := [some (.ref h), some (.int (iI k)), some (.int (iI q)), some (.int (iI x2)), some (.int (iI v)), some (.int (iI z)), some (.int (iI b)), some (.int (iI m)), some (.int (iI x20))]) rfl ?_
                  have hby : x20 = vlS σ k q m v - (if isM σ x2 = 0 then 0 else vlS σ k q x2 v) := by
                    by_cases hI : 0 ≤ x2 ∧ x2 < σ 0 1000
                    · have hJ : isM σ x2 = 1 := if_pos hI
                      rw [hJ, if_neg (show ¬ (1 : Int) = 0 by decide)]
                      omega
                    · have hJ : isM σ x2 = 0 := if_neg hI
                      rw [hJ, if_pos rfl]
                      omega
                  refine g_iload hΓ rfl dX3_laysRight_102 ?_
                  refine g_if_eq (tgt := 127) hΓ (by omega) dX3_laysRight_104 (by decide) (fun c21 => ?_) (fun c21 => ?_)
                  · refine g_iconst hΓ dX3_laysRight_127 ?_
                    refine g_istore hΓ dX3_laysRight_128 rfl (Nat.le_of_ble_eq_true rfl) (lv' := [some (.ref h), some (.int (iI k)), some (.int (iI q)), some (.int (iI x2)), some (.int (iI v)), some (.int (iI z)), some (.int (iI 0)), some (.int (iI m)), some (.int (iI x20))]) rfl ?_
                    refine g_iload hΓ rfl dX3_laysRight_130 ?_
                    refine g_iload hΓ rfl dX3_laysRight_132 ?_
                    refine m_callS (As := [.int (iI z), .int (iI x20)]) (rest := []) hok hΓ (m_lesser hok t z x20 (by first | assumption | omega) (by first | assumption | omega)) rfl q1674 q1675 q131 q1676 ndX3_lesser rfl (by decide) (by decide) rfl (Nat.le_of_ble_eq_true rfl) dX3_laysRight_134 rfl (fun v22 τ22 τ22h => ?_)
                    obtain ⟨rfl, τ22h⟩ := τ22h
                    rw [τ22h]
                    clear τ22h
                    show gW Γ E (mM E h ad t) 0 0 _ _ (.int (iI (min z x20)) :: _)
                    obtain ⟨x23, ex23⟩ : ∃ z9 : Int, z9 = min z x20 := ⟨_, rfl⟩
                    refine g_topi ex23.symm ?_
                    refine g_istore hΓ dX3_laysRight_137 rfl (Nat.le_of_ble_eq_true rfl) (lv' := [some (.ref h), some (.int (iI k)), some (.int (iI q)), some (.int (iI x2)), some (.int (iI v)), some (.int (iI x23)), some (.int (iI 0)), some (.int (iI m)), some (.int (iI x20))]) rfl ?_
                    obtain ⟨x24, ex24⟩ : ∃ z9 : Int, z9 = m + 1 := ⟨_, rfl⟩
                    refine g_iinc hΓ dX3_laysRight_139 rfl rfl (lv' := [some (.ref h), some (.int (iI k)), some (.int (iI q)), some (.int (iI x2)), some (.int (iI v)), some (.int (iI x23)), some (.int (iI 0)), some (.int (iI x24)), some (.int (iI x20))]) (by rw [ex24]; rfl) ?_
                    refine g_goto (tgt := 40) hΓ dX3_laysRight_142 (by decide) ?_
                    refine g_lvw (lv' := [some (.ref h), some (.int (iI k)), some (.int (iI q)), some (.int (iI x2)), some (.int (iI v)), some (.int (iI x23)), some (.int (iI 0)), some (.int (iI x24)), none]) ⟨rfl, ⟨rfl, ⟨rfl, ⟨rfl, ⟨rfl, ⟨rfl, ⟨rfl, ⟨rfl, trivial⟩⟩⟩⟩⟩⟩⟩⟩ ?_
                    exact ih_loop2 x23 0 x24 (by omega) (by omega) (by rw [show x24.toNat = m.toNat + 1 by omega, rgF, show ((m.toNat : Nat) : Int) = m by omega, if_neg (by omega), ← hbz]; simp only; rw [← hby]; first | (rw [if_pos (by omega), ex23]; done) | (rw [if_neg (by omega), ex23]))
                  · refine g_iload hΓ rfl dX3_laysRight_107 ?_
                    refine g_if_gt (tgt := 123) hΓ (by omega) dX3_laysRight_109 (by decide) (fun c25 => ?_) (fun c25 => ?_)
                    · refine g_iconst hΓ dX3_laysRight_123 ?_
                      refine g_goto (tgt := 128) hΓ dX3_laysRight_124 (by decide) ?_
                      refine g_istore hΓ dX3_laysRight_128 rfl (Nat.le_of_ble_eq_true rfl) (lv' := [some (.ref h), some (.int (iI k)), some (.int (iI q)), some (.int (iI x2)), some (.int (iI v)), some (.int (iI z)), some (.int (iI 1)), some (.int (iI m)), some (.int (iI x20))]) rfl ?_
                      refine g_iload hΓ rfl dX3_laysRight_130 ?_
                      refine g_iload hΓ rfl dX3_laysRight_132 ?_
                      refine m_callS (As := [.int (iI z), .int (iI x20)]) (rest := []) hok hΓ (m_lesser hok t z x20 (by first | assumption | omega) (by first | assumption | omega)) rfl q1674 q1675 q131 q1676 ndX3_lesser rfl (by decide) (by decide) rfl (Nat.le_of_ble_eq_true rfl) dX3_laysRight_134 rfl (fun v26 τ26 τ26h => ?_)
                      obtain ⟨rfl, τ26h⟩ := τ26h
                      rw [τ26h]
                      clear τ26h
                      show gW Γ E (mM E h ad t) 0 0 _ _ (.int (iI (min z x20)) :: _)
                      obtain ⟨x27, ex27⟩ : ∃ z9 : Int, z9 = min z x20 := ⟨_, rfl⟩
                      refine g_topi ex27.symm ?_
                      refine g_istore hΓ dX3_laysRight_137 rfl (Nat.le_of_ble_eq_true rfl) (lv' := [some (.ref h), some (.int (iI k)), some (.int (iI q)), some (.int (iI x2)), some (.int (iI v)), some (.int (iI x27)), some (.int (iI 1)), some (.int (iI m)), some (.int (iI x20))]) rfl ?_
                      obtain ⟨x28, ex28⟩ : ∃ z9 : Int, z9 = m + 1 := ⟨_, rfl⟩
                      refine g_iinc hΓ dX3_laysRight_139 rfl rfl (lv' := [some (.ref h), some (.int (iI k)), some (.int (iI q)), some (.int (iI x2)), some (.int (iI v)), some (.int (iI x27)), some (.int (iI 1)), some (.int (iI x28)), some (.int (iI x20))]) (by rw [ex28]; rfl) ?_
                      refine g_goto (tgt := 40) hΓ dX3_laysRight_142 (by decide) ?_
                      refine g_lvw (lv' := [some (.ref h), some (.int (iI k)), some (.int (iI q)), some (.int (iI x2)), some (.int (iI v)), some (.int (iI x27)), some (.int (iI 1)), some (.int (iI x28)), none]) ⟨rfl, ⟨rfl, ⟨rfl, ⟨rfl, ⟨rfl, ⟨rfl, ⟨rfl, ⟨rfl, trivial⟩⟩⟩⟩⟩⟩⟩⟩ ?_
                      exact ih_loop2 x27 1 x28 (by omega) (by omega) (by rw [show x28.toNat = m.toNat + 1 by omega, rgF, show ((m.toNat : Nat) : Int) = m by omega, if_neg (by omega), ← hbz]; simp only; rw [← hby]; first | (rw [if_pos (by omega), ex27]; done) | (rw [if_neg (by omega), ex27]))
                    · refine g_iload hΓ rfl dX3_laysRight_112 ?_
                      refine g_if_ne (tgt := 127) hΓ (by omega) dX3_laysRight_114 (by decide) (fun c29 => ?_) (fun c29 => ?_)
                      · refine g_iconst hΓ dX3_laysRight_127 ?_
                        refine g_istore hΓ dX3_laysRight_128 rfl (Nat.le_of_ble_eq_true rfl) (lv' := [some (.ref h), some (.int (iI k)), some (.int (iI q)), some (.int (iI x2)), some (.int (iI v)), some (.int (iI z)), some (.int (iI 0)), some (.int (iI m)), some (.int (iI x20))]) rfl ?_
                        refine g_iload hΓ rfl dX3_laysRight_130 ?_
                        refine g_iload hΓ rfl dX3_laysRight_132 ?_
                        refine m_callS (As := [.int (iI z), .int (iI x20)]) (rest := []) hok hΓ (m_lesser hok t z x20 (by first | assumption | omega) (by first | assumption | omega)) rfl q1674 q1675 q131 q1676 ndX3_lesser rfl (by decide) (by decide) rfl (Nat.le_of_ble_eq_true rfl) dX3_laysRight_134 rfl (fun v30 τ30 τ30h => ?_)
                        obtain ⟨rfl, τ30h⟩ := τ30h
                        rw [τ30h]
                        clear τ30h
                        show gW Γ E (mM E h ad t) 0 0 _ _ (.int (iI (min z x20)) :: _)
                        obtain ⟨x31, ex31⟩ : ∃ z9 : Int, z9 = min z x20 := ⟨_, rfl⟩
                        refine g_topi ex31.symm ?_
                        refine g_istore hΓ dX3_laysRight_137 rfl (Nat.le_of_ble_eq_true rfl) (lv' := [some (.ref h), some (.int (iI k)), some (.int (iI q)), some (.int (iI x2)), some (.int (iI v)), some (.int (iI x31)), some (.int (iI 0)), some (.int (iI m)), some (.int (iI x20))]) rfl ?_
                        obtain ⟨x32, ex32⟩ : ∃ z9 : Int, z9 = m + 1 := ⟨_, rfl⟩
                        refine g_iinc hΓ dX3_laysRight_139 rfl rfl (lv' := [some (.ref h), some (.int (iI k)), some (.int (iI q)), some (.int (iI x2)), some (.int (iI v)), some (.int (iI x31)), some (.int (iI 0)), some (.int (iI x32)), some (.int (iI x20))]) (by rw [ex32]; rfl) ?_
                        refine g_goto (tgt := 40) hΓ dX3_laysRight_142 (by decide) ?_
                        refine g_lvw (lv' := [some (.ref h), some (.int (iI k)), some (.int (iI q)), some (.int (iI x2)), some (.int (iI v)), some (.int (iI x31)), some (.int (iI 0)), some (.int (iI x32)), none]) ⟨rfl, ⟨rfl, ⟨rfl, ⟨rfl, ⟨rfl, ⟨rfl, ⟨rfl, ⟨rfl, trivial⟩⟩⟩⟩⟩⟩⟩⟩ ?_
                        exact ih_loop2 x31 0 x32 (by omega) (by omega) (by rw [show x32.toNat = m.toNat + 1 by omega, rgF, show ((m.toNat : Nat) : Int) = m by omega, if_neg (by omega), ← hbz]; simp only; rw [← hby]; first | (rw [if_pos (by omega), ex31]; done) | (rw [if_neg (by omega), ex31]))
                      · refine g_iload hΓ rfl dX3_laysRight_117 ?_
                        refine g_iload_n hΓ rfl dX3_laysRight_119 ?_
                        refine g_icmp_le (tgt := 127) hΓ (by omega) (by omega) dX3_laysRight_120 (by decide) (fun c33 => ?_) (fun c33 => ?_)
                        · refine g_iconst hΓ dX3_laysRight_127 ?_
                          refine g_istore hΓ dX3_laysRight_128 rfl (Nat.le_of_ble_eq_true rfl) (lv' := [some (.ref h), some (.int (iI k)), some (.int (iI q)), some (.int (iI x2)), some (.int (iI v)), some (.int (iI z)), some (.int (iI 0)), some (.int (iI m)), some (.int (iI x20))]) rfl ?_
                          refine g_iload hΓ rfl dX3_laysRight_130 ?_
                          refine g_iload hΓ rfl dX3_laysRight_132 ?_
                          refine m_callS (As := [.int (iI z), .int (iI x20)]) (rest := []) hok hΓ (m_lesser hok t z x20 (by first | assumption | omega) (by first | assumption | omega)) rfl q1674 q1675 q131 q1676 ndX3_lesser rfl (by decide) (by decide) rfl (Nat.le_of_ble_eq_true rfl) dX3_laysRight_134 rfl (fun v34 τ34 τ34h => ?_)
                          obtain ⟨rfl, τ34h⟩ := τ34h
                          rw [τ34h]
                          clear τ34h
                          show gW Γ E (mM E h ad t) 0 0 _ _ (.int (iI (min z x20)) :: _)
                          obtain ⟨x35, ex35⟩ : ∃ z9 : Int, z9 = min z x20 := ⟨_, rfl⟩
                          refine g_topi ex35.symm ?_
                          refine g_istore hΓ dX3_laysRight_137 rfl (Nat.le_of_ble_eq_true rfl) (lv' := [some (.ref h), some (.int (iI k)), some (.int (iI q)), some (.int (iI x2)), some (.int (iI v)), some (.int (iI x35)), some (.int (iI 0)), some (.int (iI m)), some (.int (iI x20))]) rfl ?_
                          obtain ⟨x36, ex36⟩ : ∃ z9 : Int, z9 = m + 1 := ⟨_, rfl⟩
                          refine g_iinc hΓ dX3_laysRight_139 rfl rfl (lv' := [some (.ref h), some (.int (iI k)), some (.int (iI q)), some (.int (iI x2)), some (.int (iI v)), some (.int (iI x35)), some (.int (iI 0)), some (.int (iI x36)), some (.int (iI x20))]) (by rw [ex36]; rfl) ?_
                          refine g_goto (tgt := 40) hΓ dX3_laysRight_142 (by decide) ?_
                          refine g_lvw (lv' := [some (.ref h), some (.int (iI k)), some (.int (iI q)), some (.int (iI x2)), some (.int (iI v)), some (.int (iI x35)), some (.int (iI 0)), some (.int (iI x36)), none]) ⟨rfl, ⟨rfl, ⟨rfl, ⟨rfl, ⟨rfl, ⟨rfl, ⟨rfl, ⟨rfl, trivial⟩⟩⟩⟩⟩⟩⟩⟩ ?_
                          exact ih_loop2 x35 0 x36 (by omega) (by omega) (by rw [show x36.toNat = m.toNat + 1 by omega, rgF, show ((m.toNat : Nat) : Int) = m by omega, if_neg (by omega), ← hbz]; simp only; rw [← hby]; first | (rw [if_pos (by omega), ex35]; done) | (rw [if_neg (by omega), ex35]))
                        · refine g_iconst hΓ dX3_laysRight_123 ?_
                          refine g_goto (tgt := 128) hΓ dX3_laysRight_124 (by decide) ?_
                          refine g_istore hΓ dX3_laysRight_128 rfl (Nat.le_of_ble_eq_true rfl) (lv' := [some (.ref h), some (.int (iI k)), some (.int (iI q)), some (.int (iI x2)), some (.int (iI v)), some (.int (iI z)), some (.int (iI 1)), some (.int (iI m)), some (.int (iI x20))]) rfl ?_
                          refine g_iload hΓ rfl dX3_laysRight_130 ?_
                          refine g_iload hΓ rfl dX3_laysRight_132 ?_
                          refine m_callS (As := [.int (iI z), .int (iI x20)]) (rest := []) hok hΓ (m_lesser hok t z x20 (by first | assumption | omega) (by first | assumption | omega)) rfl q1674 q1675 q131 q1676 ndX3_lesser rfl (by decide) (by decide) rfl (Nat.le_of_ble_eq_true rfl) dX3_laysRight_134 rfl (fun v37 τ37 τ37h => ?_)
                          obtain ⟨rfl, τ37h⟩ := τ37h
                          rw [τ37h]
                          clear τ37h
                          show gW Γ E (mM E h ad t) 0 0 _ _ (.int (iI (min z x20)) :: _)
                          obtain ⟨x38, ex38⟩ : ∃ z9 : Int, z9 = min z x20 := ⟨_, rfl⟩
                          refine g_topi ex38.symm ?_
                          refine g_istore hΓ dX3_laysRight_137 rfl (Nat.le_of_ble_eq_true rfl) (lv' := [some (.ref h), some (.int (iI k)), some (.int (iI q)), some (.int (iI x2)), some (.int (iI v)), some (.int (iI x38)), some (.int (iI 1)), some (.int (iI m)), some (.int (iI x20))]) rfl ?_
                          obtain ⟨x39, ex39⟩ : ∃ z9 : Int, z9 = m + 1 := ⟨_, rfl⟩
                          refine g_iinc hΓ dX3_laysRight_139 rfl rfl (lv' := [some (.ref h), some (.int (iI k)), some (.int (iI q)), some (.int (iI x2)), some (.int (iI v)), some (.int (iI x38)), some (.int (iI 1)), some (.int (iI x39)), some (.int (iI x20))]) (by rw [ex39]; rfl) ?_
                          refine g_goto (tgt := 40) hΓ dX3_laysRight_142 (by decide) ?_
                          refine g_lvw (lv' := [some (.ref h), some (.int (iI k)), some (.int (iI q)), some (.int (iI x2)), some (.int (iI v)), some (.int (iI x38)), some (.int (iI 1)), some (.int (iI x39)), none]) ⟨rfl, ⟨rfl, ⟨rfl, ⟨rfl, ⟨rfl, ⟨rfl, ⟨rfl, ⟨rfl, trivial⟩⟩⟩⟩⟩⟩⟩⟩ ?_
                          exact ih_loop2 x38 1 x39 (by omega) (by omega) (by rw [show x39.toNat = m.toNat + 1 by omega, rgF, show ((m.toNat : Nat) : Int) = m by omega, if_neg (by omega), ← hbz]; simp only; rw [← hby]; first | (rw [if_pos (by omega), ex38]; done) | (rw [if_neg (by omega), ex38]))
                · have s3 := hV x2 (by omega) (by omega)
                  have s4 := vlS_r hr ht (which := q) (v := v) (m := x2) (by omega) (by omega) (by omega)
                  refine g_aload_n hΓ rfl dX3_laysRight_83 ?_
                  refine m_geta hok hΓ 38 (by decide) rfl rfl q1395 rfl dX3_laysRight_84 ?_
                  refine g_bipush hΓ (by decide) dX3_laysRight_87 ?_
                  refine g_iload_n hΓ rfl dX3_laysRight_89 ?_
                  refine g_imul hΓ dX3_laysRight_90 ?_
                  refine g_iload hΓ rfl dX3_laysRight_91 ?_
                  refine g_iadd hΓ dX3_laysRight_93 ?_
                  refine m_ald hok hΓ 38 (by decide) rfl (n := 328) rfl (by omega) (by decide) dX3_laysRight_94 ?_
                  refine g_topi ((tf 38 ((41 * x2) + v) (by decide))) ?_
                  refine g_goto (tgt := 99) hΓ dX3_laysRight_95 (by decide) ?_
                  refine g_isub hΓ dX3_laysRight_99 ?_
                  obtain ⟨x40, ex40⟩ : ∃ z9 : Int, z9 = (τ1 38 ((41 * m) + v)) - (τ1 38 ((41 * x2) + v)) := ⟨_, rfl⟩
                  refine g_topi ex40.symm ?_
                  refine g_istore hΓ dX3_laysRight_100 rfl (Nat.le_of_ble_eq_true rfl) (lv' := [some (.ref h), some (.int (iI k)), some (.int (iI q)), some (.int (iI x2)), some (.int (iI v)), some (.int (iI z)), some (.int (iI b)), some (.int (iI m)), some (.int (iI x40))]) rfl ?_
                  have hby : x40 = vlS σ k q m v - (if isM σ x2 = 0 then 0 else vlS σ k q x2 v) := by
                    by_cases hI : 0 ≤ x2 ∧ x2 < σ 0 1000
                    · have hJ : isM σ x2 = 1 := if_pos hI
                      rw [hJ, if_neg (show ¬ (1 : Int) = 0 by decide)]
                      omega
                    · have hJ : isM σ x2 = 0 := if_neg hI
                      rw [hJ, if_pos rfl]
                      omega
                  refine g_iload hΓ rfl dX3_laysRight_102 ?_
                  refine g_if_eq (tgt := 127) hΓ (by omega) dX3_laysRight_104 (by decide) (fun c41 => ?_) (fun c41 => ?_)
                  · refine g_iconst hΓ dX3_laysRight_127 ?_
                    refine g_istore hΓ dX3_laysRight_128 rfl (Nat.le_of_ble_eq_true rfl) (lv' := [some (.ref h), some (.int (iI k)), some (.int (iI q)), some (.int (iI x2)), some (.int (iI v)), some (.int (iI z)), some (.int (iI 0)), some (.int (iI m)), some (.int (iI x40))]) rfl ?_
                    refine g_iload hΓ rfl dX3_laysRight_130 ?_
                    refine g_iload hΓ rfl dX3_laysRight_132 ?_
                    refine m_callS (As := [.int (iI z), .int (iI x40)]) (rest := []) hok hΓ (m_lesser hok t z x40 (by first | assumption | omega) (by first | assumption | omega)) rfl q1674 q1675 q131 q1676 ndX3_lesser rfl (by decide) (by decide) rfl (Nat.le_of_ble_eq_true rfl) dX3_laysRight_134 rfl (fun v42 τ42 τ42h => ?_)
                    obtain ⟨rfl, τ42h⟩ := τ42h
                    rw [τ42h]
                    clear τ42h
                    show gW Γ E (mM E h ad t) 0 0 _ _ (.int (iI (min z x40)) :: _)
                    obtain ⟨x43, ex43⟩ : ∃ z9 : Int, z9 = min z x40 := ⟨_, rfl⟩
                    refine g_topi ex43.symm ?_
                    refine g_istore hΓ dX3_laysRight_137 rfl (Nat.le_of_ble_eq_true rfl) (lv' := [some (.ref h), some (.int (iI k)), some (.int (iI q)), some (.int (iI x2)), some (.int (iI v)), some (.int (iI x43)), some (.int (iI 0)), some (.int (iI m)), some (.int (iI x40))]) rfl ?_
                    obtain ⟨x44, ex44⟩ : ∃ z9 : Int, z9 = m + 1 := ⟨_, rfl⟩
                    refine g_iinc hΓ dX3_laysRight_139 rfl rfl (lv' := [some (.ref h), some (.int (iI k)), some (.int (iI q)), some (.int (iI x2)), some (.int (iI v)), some (.int (iI x43)), some (.int (iI 0)), some (.int (iI x44)), some (.int (iI x40))]) (by rw [ex44]; rfl) ?_
                    refine g_goto (tgt := 40) hΓ dX3_laysRight_142 (by decide) ?_
                    refine g_lvw (lv' := [some (.ref h), some (.int (iI k)), some (.int (iI q)), some (.int (iI x2)), some (.int (iI v)), some (.int (iI x43)), some (.int (iI 0)), some (.int (iI x44)), none]) ⟨rfl, ⟨rfl, ⟨rfl, ⟨rfl, ⟨rfl, ⟨rfl, ⟨rfl, ⟨rfl, trivial⟩⟩⟩⟩⟩⟩⟩⟩ ?_
                    exact ih_loop2 x43 0 x44 (by omega) (by omega) (by rw [show x44.toNat = m.toNat + 1 by omega, rgF, show ((m.toNat : Nat) : Int) = m by omega, if_neg (by omega), ← hbz]; simp only; rw [← hby]; first | (rw [if_pos (by omega), ex43]; done) | (rw [if_neg (by omega), ex43]))
                  · refine g_iload hΓ rfl dX3_laysRight_107 ?_
                    refine g_if_gt (tgt := 123) hΓ (by omega) dX3_laysRight_109 (by decide) (fun c45 => ?_) (fun c45 => ?_)
                    · refine g_iconst hΓ dX3_laysRight_123 ?_
                      refine g_goto (tgt := 128) hΓ dX3_laysRight_124 (by decide) ?_
                      refine g_istore hΓ dX3_laysRight_128 rfl (Nat.le_of_ble_eq_true rfl) (lv' := [some (.ref h), some (.int (iI k)), some (.int (iI q)), some (.int (iI x2)), some (.int (iI v)), some (.int (iI z)), some (.int (iI 1)), some (.int (iI m)), some (.int (iI x40))]) rfl ?_
                      refine g_iload hΓ rfl dX3_laysRight_130 ?_
                      refine g_iload hΓ rfl dX3_laysRight_132 ?_
                      refine m_callS (As := [.int (iI z), .int (iI x40)]) (rest := []) hok hΓ (m_lesser hok t z x40 (by first | assumption | omega) (by first | assumption | omega)) rfl q1674 q1675 q131 q1676 ndX3_lesser rfl (by decide) (by decide) rfl (Nat.le_of_ble_eq_true rfl) dX3_laysRight_134 rfl (fun v46 τ46 τ46h => ?_)
                      obtain ⟨rfl, τ46h⟩ := τ46h
                      rw [τ46h]
                      clear τ46h
                      show gW Γ E (mM E h ad t) 0 0 _ _ (.int (iI (min z x40)) :: _)
                      obtain ⟨x47, ex47⟩ : ∃ z9 : Int, z9 = min z x40 := ⟨_, rfl⟩
                      refine g_topi ex47.symm ?_
                      refine g_istore hΓ dX3_laysRight_137 rfl (Nat.le_of_ble_eq_true rfl) (lv' := [some (.ref h), some (.int (iI k)), some (.int (iI q)), some (.int (iI x2)), some (.int (iI v)), some (.int (iI x47)), some (.int (iI 1)), some (.int (iI m)), some (.int (iI x40))]) rfl ?_
                      obtain ⟨x48, ex48⟩ : ∃ z9 : Int, z9 = m + 1 := ⟨_, rfl⟩
                      refine g_iinc hΓ dX3_laysRight_139 rfl rfl (lv' := [some (.ref h), some (.int (iI k)), some (.int (iI q)), some (.int (iI x2)), some (.int (iI v)), some (.int (iI x47)), some (.int (iI 1)), some (.int (iI x48)), some (.int (iI x40))]) (by rw [ex48]; rfl) ?_
                      refine g_goto (tgt := 40) hΓ dX3_laysRight_142 (by decide) ?_
                      refine g_lvw (lv' := [some (.ref h), some (.int (iI k)), some (.int (iI q)), some (.int (iI x2)), some (.int (iI v)), some (.int (iI x47)), some (.int (iI 1)), some (.int (iI x48)), none]) ⟨rfl, ⟨rfl, ⟨rfl, ⟨rfl, ⟨rfl, ⟨rfl, ⟨rfl, ⟨rfl, trivial⟩⟩⟩⟩⟩⟩⟩⟩ ?_
                      exact ih_loop2 x47 1 x48 (by omega) (by omega) (by rw [show x48.toNat = m.toNat + 1 by omega, rgF, show ((m.toNat : Nat) : Int) = m by omega, if_neg (by omega), ← hbz]; simp only; rw [← hby]; first | (rw [if_pos (by omega), ex47]; done) | (rw [if_neg (by omega), ex47]))
                    · refine g_iload hΓ rfl dX3_laysRight_112 ?_
                      refine g_if_ne (tgt := 127) hΓ (by omega) dX3_laysRight_114 (by decide) (fun c49 => ?_) (fun c49 => ?_)
                      · refine g_iconst hΓ dX3_laysRight_127 ?_
                        refine g_istore hΓ dX3_laysRight_128 rfl (Nat.le_of_ble_eq_true rfl) (lv' := [some (.ref h), some (.int (iI k)), some (.int (iI q)), some (.int (iI x2)), some (.int (iI v)), some (.int (iI z)), some (.int (iI 0)), some (.int (iI m)), some (.int (iI x40))]) rfl ?_
                        refine g_iload hΓ rfl dX3_laysRight_130 ?_
                        refine g_iload hΓ rfl dX3_laysRight_132 ?_
                        refine m_callS (As := [.int (iI z), .int (iI x40)]) (rest := []) hok hΓ (m_lesser hok t z x40 (by first | assumption | omega) (by first | assumption | omega)) rfl q1674 q1675 q131 q1676 ndX3_lesser rfl (by decide) (by decide) rfl (Nat.le_of_ble_eq_true rfl) dX3_laysRight_134 rfl (fun v50 τ50 τ50h => ?_)
                        obtain ⟨rfl, τ50h⟩ := τ50h
                        rw [τ50h]
                        clear τ50h
                        show gW Γ E (mM E h ad t) 0 0 _ _ (.int (iI (min z x40)) :: _)
                        obtain ⟨x51, ex51⟩ : ∃ z9 : Int, z9 = min z x40 := ⟨_, rfl⟩
                        refine g_topi ex51.symm ?_
                        refine g_istore hΓ dX3_laysRight_137 rfl (Nat.le_of_ble_eq_true rfl) (lv' := [some (.ref h), some (.int (iI k)), some (.int (iI q)), some (.int (iI x2)), some (.int (iI v)), some (.int (iI x51)), some (.int (iI 0)), some (.int (iI m)), some (.int (iI x40))]) rfl ?_
                        obtain ⟨x52, ex52⟩ : ∃ z9 : Int, z9 = m + 1 := ⟨_, rfl⟩
                        refine g_iinc hΓ dX3_laysRight_139 rfl rfl (lv' := [some (.ref h), some (.int (iI k)), some (.int (iI q)), some (.int (iI x2)), some (.int (iI v)), some (.int (iI x51)), some (.int (iI 0)), some (.int (iI x52)), some (.int (iI x40))]) (by rw [ex52]; rfl) ?_
                        refine g_goto (tgt := 40) hΓ dX3_laysRight_142 (by decide) ?_
                        refine g_lvw (lv' := [some (.ref h), some (.int (iI k)), some (.int (iI q)), some (.int (iI x2)), some (.int (iI v)), some (.int (iI x51)), some (.int (iI 0)), some (.int (iI x52)), none]) ⟨rfl, ⟨rfl, ⟨rfl, ⟨rfl, ⟨rfl, ⟨rfl, ⟨rfl, ⟨rfl, trivial⟩⟩⟩⟩⟩⟩⟩⟩ ?_
                        exact ih_loop2 x51 0 x52 (by omega) (by omega) (by rw [show x52.toNat = m.toNat + 1 by omega, rgF, show ((m.toNat : Nat) : Int) = m by omega, if_neg (by omega), ← hbz]; simp only; rw [← hby]; first | (rw [if_pos (by omega), ex51]; done) | (rw [if_neg (by omega), ex51]))
                      · refine g_iload hΓ rfl dX3_laysRight_117 ?_
                        refine g_iload_n hΓ rfl dX3_laysRight_119 ?_
                        refine g_icmp_le (tgt := 127) hΓ (by omega) (by omega) dX3_laysRight_120 (by decide) (fun c53 => ?_) (fun c53 => ?_)
                        · refine g_iconst hΓ dX3_laysRight_127 ?_
                          refine g_istore hΓ dX3_laysRight_128 rfl (Nat.le_of_ble_eq_true rfl) (lv' := [some (.ref h), some (.int (iI k)), some (.int (iI q)), some (.int (iI x2)), some (.int (iI v)), some (.int (iI z)), some (.int (iI 0)), some (.int (iI m)), some (.int (iI x40))]) rfl ?_
                          refine g_iload hΓ rfl dX3_laysRight_130 ?_
                          refine g_iload hΓ rfl dX3_laysRight_132 ?_
                          refine m_callS (As := [.int (iI z), .int (iI x40)]) (rest := []) hok hΓ (m_lesser hok t z x40 (by first | assumption | omega) (by first | assumption | omega)) rfl q1674 q1675 q131 q1676 ndX3_lesser rfl (by decide) (by decide) rfl (Nat.le_of_ble_eq_true rfl) dX3_laysRight_134 rfl (fun v54 τ54 τ54h => ?_)
                          obtain ⟨rfl, τ54h⟩ := τ54h
                          rw [τ54h]
                          clear τ54h
                          show gW Γ E (mM E h ad t) 0 0 _ _ (.int (iI (min z x40)) :: _)
                          obtain ⟨x55, ex55⟩ : ∃ z9 : Int, z9 = min z x40 := ⟨_, rfl⟩
                          refine g_topi ex55.symm ?_
                          refine g_istore hΓ dX3_laysRight_137 rfl (Nat.le_of_ble_eq_true rfl) (lv' := [some (.ref h), some (.int (iI k)), some (.int (iI q)), some (.int (iI x2)), some (.int (iI v)), some (.int (iI x55)), some (.int (iI 0)), some (.int (iI m)), some (.int (iI x40))]) rfl ?_
                          obtain ⟨x56, ex56⟩ : ∃ z9 : Int, z9 = m + 1 := ⟨_, rfl⟩
                          refine g_iinc hΓ dX3_laysRight_139 rfl rfl (lv' := [some (.ref h), some (.int (iI k)), some (.int (iI q)), some (.int (iI x2)), some (.int (iI v)), some (.int (iI x55)), some (.int (iI 0)), some (.int (iI x56)), some (.int (iI x40))]) (by rw [ex56]; rfl) ?_
                          refine g_goto (tgt := 40) hΓ dX3_laysRight_142 (by decide) ?_
                          refine g_lvw (lv' := [some (.ref h), some (.int (iI k)), some (.int (iI q)), some (.int (iI x2)), some (.int (iI v)), some (.int (iI x55)), some (.int (iI 0)), some (.int (iI x56)), none]) ⟨rfl, ⟨rfl, ⟨rfl, ⟨rfl, ⟨rfl, ⟨rfl, ⟨rfl, ⟨rfl, trivial⟩⟩⟩⟩⟩⟩⟩⟩ ?_
                          exact ih_loop2 x55 0 x56 (by omega) (by omega) (by rw [show x56.toNat = m.toNat + 1 by omega, rgF, show ((m.toNat : Nat) : Int) = m by omega, if_neg (by omega), ← hbz]; simp only; rw [← hby]; first | (rw [if_pos (by omega), ex55]; done) | (rw [if_neg (by omega), ex55]))
                        · refine g_iconst hΓ dX3_laysRight_123 ?_
                          refine g_goto (tgt := 128) hΓ dX3_laysRight_124 (by decide) ?_
                          refine g_istore hΓ dX3_laysRight_128 rfl (Nat.le_of_ble_eq_true rfl) (lv' := [some (.ref h), some (.int (iI k)), some (.int (iI q)), some (.int (iI x2)), some (.int (iI v)), some (.int (iI z)), some (.int (iI 1)), some (.int (iI m)), some (.int (iI x40))]) rfl ?_
                          refine g_iload hΓ rfl dX3_laysRight_130 ?_
                          refine g_iload hΓ rfl dX3_laysRight_132 ?_
                          refine m_callS (As := [.int (iI z), .int (iI x40)]) (rest := []) hok hΓ (m_lesser hok t z x40 (by first | assumption | omega) (by first | assumption | omega)) rfl q1674 q1675 q131 q1676 ndX3_lesser rfl (by decide) (by decide) rfl (Nat.le_of_ble_eq_true rfl) dX3_laysRight_134 rfl (fun v57 τ57 τ57h => ?_)
                          obtain ⟨rfl, τ57h⟩ := τ57h
                          rw [τ57h]
                          clear τ57h
                          show gW Γ E (mM E h ad t) 0 0 _ _ (.int (iI (min z x40)) :: _)
                          obtain ⟨x58, ex58⟩ : ∃ z9 : Int, z9 = min z x40 := ⟨_, rfl⟩
                          refine g_topi ex58.symm ?_
                          refine g_istore hΓ dX3_laysRight_137 rfl (Nat.le_of_ble_eq_true rfl) (lv' := [some (.ref h), some (.int (iI k)), some (.int (iI q)), some (.int (iI x2)), some (.int (iI v)), some (.int (iI x58)), some (.int (iI 1)), some (.int (iI m)), some (.int (iI x40))]) rfl ?_
                          obtain ⟨x59, ex59⟩ : ∃ z9 : Int, z9 = m + 1 := ⟨_, rfl⟩
                          refine g_iinc hΓ dX3_laysRight_139 rfl rfl (lv' := [some (.ref h), some (.int (iI k)), some (.int (iI q)), some (.int (iI x2)), some (.int (iI v)), some (.int (iI x58)), some (.int (iI 1)), some (.int (iI x59)), some (.int (iI x40))]) (by rw [ex59]; rfl) ?_
                          refine g_goto (tgt := 40) hΓ dX3_laysRight_142 (by decide) ?_
                          refine g_lvw (lv' := [some (.ref h), some (.int (iI k)), some (.int (iI q)), some (.int (iI x2)), some (.int (iI v)), some (.int (iI x58)), some (.int (iI 1)), some (.int (iI x59)), none]) ⟨rfl, ⟨rfl, ⟨rfl, ⟨rfl, ⟨rfl, ⟨rfl, ⟨rfl, ⟨rfl, trivial⟩⟩⟩⟩⟩⟩⟩⟩ ?_
                          exact ih_loop2 x58 1 x59 (by omega) (by omega) (by rw [show x59.toNat = m.toNat + 1 by omega, rgF, show ((m.toNat : Nat) : Int) = m by omega, if_neg (by omega), ← hbz]; simp only; rw [← hby]; first | (rw [if_pos (by omega), ex58]; done) | (rw [if_neg (by omega), ex58]))
              · refine g_goto (tgt := 139) hΓ dX3_laysRight_59 (by decide) ?_
                obtain ⟨x60, ex60⟩ : ∃ z9 : Int, z9 = m + 1 := ⟨_, rfl⟩
                refine g_iinc hΓ dX3_laysRight_139 rfl rfl (lv' := [some (.ref h), some (.int (iI k)), some (.int (iI q)), some (.int (iI x2)), some (.int (iI v)), some (.int (iI z)), some (.int (iI b)), some (.int (iI x60)), none]) (by rw [ex60]; rfl) ?_
                refine g_goto (tgt := 40) hΓ dX3_laysRight_142 (by decide) ?_
                exact ih_loop2 z b x60 (by omega) (by omega) (by rw [show x60.toNat = m.toNat + 1 by omega, rgF, show ((m.toNat : Nat) : Int) = m by omega, if_pos (by omega), hbz])
        exact loop2 9 100000000 x6 0 (by omega) (by omega) (by rw [ex6]; rfl)
  exact loop 42 0 τ1 (by omega) (by omega) (fun v' h0 h1 => absurd h1 (by omega)) (fun v' _ => ⟨τ1f 36 v' (by decide), τ1f 37 v' (by decide)⟩) (fun k' j _ => rfl)
