set_option maxRecDepth 100000
set_option maxHeartbeats 4000000 in
theorem m_costOf {l : Launch} {E : gE} {h : Nat} {ad : Nat → Nat} (hok : mOK E h ad) (σ : mS)  (i : Int) (j : Int) (u : Int) (htb : tabOK σ) (hi : 0 ≤ i ∧ i < σ 24 0) (hj : 0 ≤ j ∧ j < σ 25 0) (hu : 0 ≤ u ∧ u ≤ 99) : mC l E h ad yX3_costOf cX3_costOf 4 (some .int) 1 [.ref h, .int (iI i), .int (iI j), .int (iI u)] σ (fun rv σ' => rv = some (.int (iI (cs3 σ u i j))) ∧ σ' = σ) := by
  refine mC.of (by decide) [some (.ref h), some (.int (iI i)), some (.int (iI j)), some (.int (iI u))] (Nat.le_of_ble_eq_true rfl) rfl rfl (fun Γ hΓ => ?_)
  obtain ⟨ht1, ht2, ht3, ht4⟩ := id htb
  have hx := ht4 i j hi.1 hi.2 hj.1 hj.2
  refine g_aload_n hΓ rfl dX3_costOf_0 ?_
  refine m_geta hok hΓ 26 (by decide) rfl rfl q1383 rfl dX3_costOf_1 ?_
  refine g_bipush hΓ (by decide) dX3_costOf_4 ?_
  refine g_iload_n hΓ rfl dX3_costOf_6 ?_
  refine g_imul hΓ dX3_costOf_7 ?_
  refine g_iload_n hΓ rfl dX3_costOf_8 ?_
  refine g_iadd hΓ dX3_costOf_9 ?_
  refine m_ald hok hΓ 26 (by decide) rfl (n := 64) rfl (by omega) (by decide) dX3_costOf_10 ?_
  refine g_aload_n hΓ rfl dX3_costOf_11 ?_
  refine m_geta hok hΓ 27 (by decide) rfl rfl q1384 rfl dX3_costOf_12 ?_
  refine g_bipush hΓ (by decide) dX3_costOf_15 ?_
  refine g_iload_n hΓ rfl dX3_costOf_17 ?_
  refine g_imul hΓ dX3_costOf_18 ?_
  refine g_iload_n hΓ rfl dX3_costOf_19 ?_
  refine g_iadd hΓ dX3_costOf_20 ?_
  refine m_ald hok hΓ 27 (by decide) rfl (n := 64) rfl (by omega) (by decide) dX3_costOf_21 ?_
  refine g_iload_n hΓ rfl dX3_costOf_22 ?_
  refine g_iadd hΓ dX3_costOf_23 ?_
  refine m_callS (As := [.int (iI (σ 26 ((8 * i) + j))), .int (iI ((σ 27 ((8 * i) + j)) + u))]) (rest := []) hok hΓ (m_lesser hok σ (σ 26 ((8 * i) + j)) ((σ 27 ((8 * i) + j)) + u) (by first | assumption | omega) (by first | assumption | omega)) rfl q1674 q1675 q131 q1676 ndX3_lesser rfl (by decide) (by decide) rfl (Nat.le_of_ble_eq_true rfl) dX3_costOf_24 rfl (fun v1 τ1 τ1h => ?_)
  obtain ⟨rfl, τ1h⟩ := τ1h
  rw [τ1h]
  clear τ1h
  show gW Γ E (mM E h ad σ) 0 0 _ _ (.int (iI (min (σ 26 ((8 * i) + j)) ((σ 27 ((8 * i) + j)) + u))) :: _)
  refine g_aload_n hΓ rfl dX3_costOf_27 ?_
  refine m_geta hok hΓ 0 (by decide) rfl rfl q1357 rfl dX3_costOf_28 ?_
  refine g_sipush hΓ (by decide) dX3_costOf_31 ?_
  refine m_ald hok hΓ 0 (by decide) rfl (n := 1048) rfl (by omega) (by decide) dX3_costOf_34 ?_
  refine g_aload_n hΓ rfl dX3_costOf_35 ?_
  refine m_geta hok hΓ 28 (by decide) rfl rfl q1385 rfl dX3_costOf_36 ?_
  refine g_bipush hΓ (by decide) dX3_costOf_39 ?_
  refine g_iload_n hΓ rfl dX3_costOf_41 ?_
  refine g_imul hΓ dX3_costOf_42 ?_
  refine g_iload_n hΓ rfl dX3_costOf_43 ?_
  refine g_iadd hΓ dX3_costOf_44 ?_
  refine m_ald hok hΓ 28 (by decide) rfl (n := 64) rfl (by omega) (by decide) dX3_costOf_45 ?_
  refine g_imul hΓ dX3_costOf_46 ?_
  refine g_iadd hΓ dX3_costOf_47 ?_
  exact m_iret hΓ dX3_costOf_48 ⟨ri (by rw [cs3]), rfl⟩
set_option maxHeartbeats 4000000 in
theorem m_bits {l : Launch} {E : gE} {h : Nat} {ad : Nat → Nat} (hok : mOK E h ad) (σ : mS)  (s : Int) (hs : 0 ≤ s ∧ s < 256) : mC l E h ad yX3_bits cX3_bits 3 (some .int) 0 [.int (iI s)] σ (fun rv σ' => rv = some (.int (iI (pcN s.toNat : Int))) ∧ σ' = σ) := by
  refine mC.of (by decide) [some (.int (iI s)), none, none] (Nat.le_of_ble_eq_true rfl) rfl rfl (fun Γ hΓ => ?_)
  have loop : ∀ (fu : Nat) (u : Int) (v : Int), v.toNat < fu → (0 ≤ v ∧ v < 256) → (u + pcN v.toNat = pcN s.toNat ∧ 0 ≤ u) → gW Γ E (mM E h ad σ) 0 0 4 [some (.int (iI s)), some (.int (iI u)), some (.int (iI v))] [] := by
    intro fu
    induction fu with
    | zero => intro u v hn; exact absurd hn (Nat.not_lt_zero _)
    | succ fu ih_loop =>
      intro u v hn hv hu
      refine g_iload_n hΓ rfl dX3_bits_4 ?_
      refine g_if_eq (tgt := 20) hΓ (by omega) dX3_bits_5 (by decide) (fun c1 => ?_) (fun c1 => ?_)
      · refine g_iload_n hΓ rfl dX3_bits_20 ?_
        exact m_iret hΓ dX3_bits_21 ⟨ri (by have hz : v = 0 := (by omega); rw [hz] at hu; have h0 : pcN (0 : Int).toNat = 0 := (by decide); rw [h0] at hu; omega), rfl⟩
      · have hst := pcN_step v.toNat (by omega) (by omega)
        obtain ⟨x2, ex2⟩ : ∃ z9 : Int, z9 = u + 1 := ⟨_, rfl⟩
        refine g_iinc hΓ dX3_bits_8 rfl rfl (lv' := [some (.int (iI s)), some (.int (iI x2)), some (.int (iI v))]) (by rw [ex2]; rfl) ?_
        refine g_iload_n hΓ rfl dX3_bits_11 ?_
        refine g_iload_n hΓ rfl dX3_bits_12 ?_
        refine g_iconst hΓ dX3_bits_13 ?_
        refine g_isub hΓ dX3_bits_14 ?_
        refine g_iand (a := ((v.toNat &&& (v.toNat - 1) : Nat) : Int)) hΓ (and_I (by omega)) dX3_bits_15 ?_
        obtain ⟨x3, ex3⟩ : ∃ z9 : Int, z9 = ((v.toNat &&& (v.toNat - 1) : Nat) : Int) := ⟨_, rfl⟩
        refine g_topi ex3.symm ?_
        refine g_istore_n hΓ dX3_bits_16 rfl (Nat.le_of_ble_eq_true rfl) (lv' := [some (.int (iI s)), some (.int (iI x2)), some (.int (iI x3))]) rfl ?_
        refine g_goto (tgt := 4) hΓ dX3_bits_17 (by decide) ?_
        exact ih_loop x2 x3 (by omega) (by omega) (by rw [show x3.toNat = v.toNat &&& (v.toNat - 1) by omega]; omega)
  refine g_iconst hΓ dX3_bits_0 ?_
  refine g_istore_n hΓ dX3_bits_1 rfl (Nat.le_of_ble_eq_true rfl) (lv' := [some (.int (iI s)), some (.int (iI 0)), none]) rfl ?_
  refine g_iload_n hΓ rfl dX3_bits_2 ?_
  refine g_istore_n hΓ dX3_bits_3 rfl (Nat.le_of_ble_eq_true rfl) (lv' := [some (.int (iI s)), some (.int (iI 0)), some (.int (iI s))]) rfl ?_
  exact loop 257 0 s (by omega) (by omega) (by omega)
set_option maxHeartbeats 4000000 in
theorem m_scoreBy {l : Launch} {E : gE} {h : Nat} {ad : Nat → Nat} (hok : mOK E h ad) (σ : mS)  (lo : Int) (u : Int) (htb : tabOK σ) (hlo : 0 ≤ lo ∧ lo ≤ 99) (hu : 0 ≤ u ∧ u ≤ 99) : mC l E h ad yX3_scoreBy cX3_scoreBy 8 (some .int) 2 [.ref h, .int (iI lo), .int (iI u)] σ (fun rv σ' => rv = some (.int (iI (bsF (cs3 σ u) lo (σ 25 0).toNat (σ 24 0).toNat (σ 24 0).toNat 0))) ∧ (∀ (i : Int) (T : Nat), 0 ≤ i → i ≤ σ 24 0 → T < 2 ^ (σ 25 0).toNat → σ' 29 (256 * i + T) = bsF (cs3 σ u) lo (σ 25 0).toNat (σ 24 0).toNat (σ 24 0 - i).toNat T) ∧ ∀ (k : Nat) (j : Int), k ∉ [29] → σ' k j = σ k j) := by
  refine mC.of (by decide) [some (.ref h), some (.int (iI lo)), some (.int (iI u)), none, none, none, none, none] (Nat.le_of_ble_eq_true rfl) rfl rfl (fun Γ hΓ => ?_)
  obtain ⟨ht1, ht2, ht3, ht4⟩ := id htb
  obtain ⟨fm, hfm⟩ : ∃ fm : Nat, fm = (σ 24 0).toNat := ⟨_, rfl⟩
  obtain ⟨om, hom⟩ : ∃ om : Nat, om = (σ 25 0).toNat := ⟨_, rfl⟩
  have hP : 2 ^ om ≤ 256 := (show 2 ^ om ≤ 2 ^ 8 from Nat.pow_le_pow_right (by decide) (by omega))
  have hP0 : 0 < 2 ^ om := Nat.two_pow_pos om
  have hbr : ∀ r, r ≤ fm → ∀ S, S < 2 ^ om → 0 ≤ bsF (cs3 σ u) lo om fm r S ∧ bsF (cs3 σ u) lo om fm r S ≤ 1584 := fun r hr S hS => bsF_b hlo (by omega) (by omega) (fun i j h0 h1 h2 h3 => (cs3_r htb hu h0 (by omega) h2 (by omega)).1) r hr S hS
  refine g_iconst hΓ dX3_scoreBy_0 ?_
  refine g_aload_n hΓ rfl dX3_scoreBy_1 ?_
  refine m_geti hok hΓ 25 (by decide) rfl rfl q1382 rfl dX3_scoreBy_2 ?_
  refine g_ishl (a := ((2 ^ om : Nat) : Int)) hΓ (by rw [hom]; exact sh_1 (by omega) (by omega)) dX3_scoreBy_5 ?_
  obtain ⟨x1, ex1⟩ : ∃ z9 : Int, z9 = ((2 ^ om : Nat) : Int) := ⟨_, rfl⟩
  refine g_topi ex1.symm ?_
  refine g_istore_n hΓ dX3_scoreBy_6 rfl (Nat.le_of_ble_eq_true rfl) (lv' := [some (.ref h), some (.int (iI lo)), some (.int (iI u)), some (.int (iI x1)), none, none, none, none]) rfl ?_
  refine g_iconst hΓ dX3_scoreBy_7 ?_
  refine g_istore hΓ dX3_scoreBy_8 rfl (Nat.le_of_ble_eq_true rfl) (lv' := [some (.ref h), some (.int (iI lo)), some (.int (iI u)), some (.int (iI x1)), some (.int (iI 0)), none, none, none]) rfl ?_
  have loopA : ∀ (fu : Nat) (s : Int) (t : mS), ((2 ^ om : Nat) - s).toNat < fu → (0 ≤ s ∧ s ≤ (2 ^ om : Nat)) → (∀ T : Nat, (T : Int) < s → t 29 (256 * σ 24 0 + T) = lo * (σ 25 0 - pcN T)) → (∀ (k : Nat) (j : Int), k ∉ [29] → t k j = σ k j) → gW Γ E (mM E h ad t) 0 0 10 [some (.ref h), some (.int (iI lo)), some (.int (iI u)), some (.int (iI x1)), some (.int (iI s)), none, none, none] [] := by
    intro fu
    induction fu with
    | zero => intro s t hn; exact absurd hn (Nat.not_lt_zero _)
    | succ fu ih_loopA =>
      intro s t hn hs hA tf
      refine g_iload hΓ rfl dX3_scoreBy_10 ?_
      refine g_iload_n hΓ rfl dX3_scoreBy_12 ?_
      refine g_icmp_ge (tgt := 50) hΓ (by omega) (by omega) dX3_scoreBy_13 (by decide) (fun c2 => ?_) (fun c2 => ?_)
      · refine g_aload_n hΓ rfl dX3_scoreBy_50 ?_
        refine m_geti hok hΓ 24 (by decide) rfl rfl q1381 rfl dX3_scoreBy_51 ?_
        refine g_topi ((tf 24 0 (by decide))) ?_
        refine g_iconst hΓ dX3_scoreBy_54 ?_
        refine g_isub hΓ dX3_scoreBy_55 ?_
        obtain ⟨x3, ex3⟩ : ∃ z9 : Int, z9 = (σ 24 0) - 1 := ⟨_, rfl⟩
        refine g_topi ex3.symm ?_
        refine g_istore hΓ dX3_scoreBy_56 rfl (Nat.le_of_ble_eq_true rfl) (lv' := [some (.ref h), some (.int (iI lo)), some (.int (iI u)), some (.int (iI x1)), some (.int (iI x3)), none, none, none]) rfl ?_
        have loopB : ∀ (fu : Nat) (i : Int) (t : mS), (i + 1).toNat < fu → (-1 ≤ i ∧ i < fm) → (∀ (i' : Int) (T : Nat), i < i' → i' ≤ fm → T < 2 ^ om → t 29 (256 * i' + T) = bsF (cs3 σ u) lo om fm (fm - i').toNat T) → (∀ (k : Nat) (j : Int), k ∉ [29] → t k j = σ k j) → gW Γ E (mM E h ad t) 0 0 58 [some (.ref h), some (.int (iI lo)), some (.int (iI u)), some (.int (iI x1)), some (.int (iI i)), none, none, none] [] := by
          intro fu
          induction fu with
          | zero => intro i t hn; exact absurd hn (Nat.not_lt_zero _)
          | succ fu ih_loopB =>
            intro i t hn hi hT tf
            refine g_iload hΓ rfl dX3_scoreBy_58 ?_
            refine g_if_lt (tgt := 186) hΓ (by omega) dX3_scoreBy_60 (by decide) (fun c4 => ?_) (fun c4 => ?_)
            · refine g_aload_n hΓ rfl dX3_scoreBy_186 ?_
              refine m_geta hok hΓ 29 (by decide) rfl rfl q1386 rfl dX3_scoreBy_187 ?_
              refine g_iconst hΓ dX3_scoreBy_190 ?_
              refine m_ald hok hΓ 29 (by decide) rfl (n := 2304) rfl (by omega) (by decide) dX3_scoreBy_191 ?_
              exact m_iret hΓ dX3_scoreBy_192 ⟨ri (by have z := hT 0 0 (by omega) (by omega) hP0; rw [show (fm - (0 : Int)).toNat = fm by omega] at z; rw [← hfm, ← hom, ← z]; rfl), (fun i' T h1 h2 h3 => by rw [hT i' T (by omega) (by omega) (by rw [hom]; exact h3), ← hfm, ← hom, show (fm - i').toNat = (σ 24 0 - i').toNat by omega]), tf⟩
            · refine g_iconst hΓ dX3_scoreBy_63 ?_
              refine g_istore hΓ dX3_scoreBy_64 rfl (Nat.le_of_ble_eq_true rfl) (lv' := [some (.ref h), some (.int (iI lo)), some (.int (iI u)), some (.int (iI x1)), some (.int (iI i)), some (.int (iI 0)), none, none]) rfl ?_
              have loopC : ∀ (fu : Nat) (s : Int) (t : mS), ((2 ^ om : Nat) - s).toNat < fu → (0 ≤ s ∧ s ≤ (2 ^ om : Nat)) → (∀ (i' : Int) (T : Nat), i < i' → i' ≤ fm → T < 2 ^ om → t 29 (256 * i' + T) = bsF (cs3 σ u) lo om fm (fm - i').toNat T) → (∀ T : Nat, (T : Int) < s → t 29 (256 * i + T) = bsF (cs3 σ u) lo om fm (fm - i).toNat T) → (∀ (k : Nat) (j : Int), k ∉ [29] → t k j = σ k j) → gW Γ E (mM E h ad t) 0 0 66 [some (.ref h), some (.int (iI lo)), some (.int (iI u)), some (.int (iI x1)), some (.int (iI i)), some (.int (iI s)), none, none] [] := by
                intro fu
                induction fu with
                | zero => intro s t hn; exact absurd hn (Nat.not_lt_zero _)
                | succ fu ih_loopC =>
                  intro s t hn hs hT hR tf
                  have t0 : t 0 = σ 0 := funext fun j => (tf 0 j (by decide))
                  have t24 : t 24 = σ 24 := funext fun j => (tf 24 j (by decide))
                  have t25 : t 25 = σ 25 := funext fun j => (tf 25 j (by decide))
                  have t26 : t 26 = σ 26 := funext fun j => (tf 26 j (by decide))
                  have t27 : t 27 = σ 27 := funext fun j => (tf 27 j (by decide))
                  have t28 : t 28 = σ 28 := funext fun j => (tf 28 j (by decide))
                  have tC := cs3_same t0 t26 t27 t28
                  have htb' : tabOK t := by rw [tabOK, t0, t24, t25, t26, t27, t28]; exact htb
                  refine g_iload hΓ rfl dX3_scoreBy_66 ?_
                  refine g_iload_n hΓ rfl dX3_scoreBy_68 ?_
                  refine g_icmp_ge (tgt := 180) hΓ (by omega) (by omega) dX3_scoreBy_69 (by decide) (fun c5 => ?_) (fun c5 => ?_)
                  · obtain ⟨x6, ex6⟩ : ∃ z9 : Int, z9 = i + (-1) := ⟨_, rfl⟩
                    refine g_iinc hΓ dX3_scoreBy_180 rfl rfl (lv' := [some (.ref h), some (.int (iI lo)), some (.int (iI u)), some (.int (iI x1)), some (.int (iI x6)), some (.int (iI s)), none, none]) (by rw [ex6]; rfl) ?_
                    refine g_goto (tgt := 58) hΓ dX3_scoreBy_183 (by decide) ?_
                    refine g_lvw (lv' := [some (.ref h), some (.int (iI lo)), some (.int (iI u)), some (.int (iI x1)), some (.int (iI x6)), none, none, none]) ⟨rfl, ⟨rfl, ⟨rfl, ⟨rfl, ⟨rfl, trivial⟩⟩⟩⟩⟩ ?_
                    exact ih_loopB x6 t (by omega) (by omega) (fun i' T h1 h2 h3 => by
                        by_cases q : i' = i
                        · subst q
                          exact hR T (by omega)
                        · exact hT i' T (by omega) h2 h3) tf
                  · have hy := hbr (fm - (i + 1)).toNat (by omega) s.toNat (by omega)
                    refine g_iload_n hΓ rfl dX3_scoreBy_72 ?_
                    refine g_aload_n hΓ rfl dX3_scoreBy_73 ?_
                    refine m_geta hok hΓ 29 (by decide) rfl rfl q1386 rfl dX3_scoreBy_74 ?_
                    refine g_sipush hΓ (by decide) dX3_scoreBy_77 ?_
                    refine g_iload hΓ rfl dX3_scoreBy_80 ?_
                    refine g_iconst hΓ dX3_scoreBy_82 ?_
                    refine g_iadd hΓ dX3_scoreBy_83 ?_
                    refine g_imul hΓ dX3_scoreBy_84 ?_
                    refine g_iload hΓ rfl dX3_scoreBy_85 ?_
                    refine g_iadd hΓ dX3_scoreBy_87 ?_
                    refine m_ald hok hΓ 29 (by decide) rfl (n := 2304) rfl (by omega) (by decide) dX3_scoreBy_88 ?_
                    refine g_iadd hΓ dX3_scoreBy_89 ?_
                    obtain ⟨x7, ex7⟩ : ∃ z9 : Int, z9 = lo + (t 29 ((256 * (i + 1)) + s)) := ⟨_, rfl⟩
                    refine g_topi ex7.symm ?_
                    refine g_istore hΓ dX3_scoreBy_90 rfl (Nat.le_of_ble_eq_true rfl) (lv' := [some (.ref h), some (.int (iI lo)), some (.int (iI u)), some (.int (iI x1)), some (.int (iI i)), some (.int (iI s)), some (.int (iI x7)), none]) rfl ?_
                    refine g_iconst hΓ dX3_scoreBy_92 ?_
                    refine g_istore hΓ dX3_scoreBy_93 rfl (Nat.le_of_ble_eq_true rfl) (lv' := [some (.ref h), some (.int (iI lo)), some (.int (iI u)), some (.int (iI x1)), some (.int (iI i)), some (.int (iI s)), some (.int (iI x7)), some (.int (iI 0))]) rfl ?_
                    have hor : ∀ q : Int, 0 ≤ q → q < σ 25 0 → s.toNat ||| 2 ^ q.toNat < 2 ^ om := fun q h0 h1 => or_lt (by omega) (by omega)
                    have hmr : ∀ q : Nat, q ≤ om → 0 ≤ mnJ (bsF (cs3 σ u) lo om fm (fm - (i + 1)).toNat ) ((cs3 σ u) i) s.toNat (lo + bsF (cs3 σ u) lo om fm (fm - (i + 1)).toNat s.toNat) q ∧ mnJ (bsF (cs3 σ u) lo om fm (fm - (i + 1)).toNat ) ((cs3 σ u) i) s.toNat (lo + bsF (cs3 σ u) lo om fm (fm - (i + 1)).toNat s.toNat) q ≤ 1683 := fun q hq => mnJ_r (om := om) (by omega) (by have := hbr (fm - (i + 1)).toNat (by omega) s.toNat (by omega); omega) (fun T hT => (hbr _ (by omega) T hT).1) q hq (fun a h0 h1 => (cs3_r htb hu (by omega) (by omega) h0 (by omega)).1)
                    have loopD : ∀ (fu : Nat) (v : Int) (j : Int), (σ 25 0 - j).toNat < fu → (0 ≤ j ∧ j ≤ σ 25 0) → (v = mnJ (bsF (cs3 σ u) lo om fm (fm - (i + 1)).toNat ) ((cs3 σ u) i) s.toNat (lo + bsF (cs3 σ u) lo om fm (fm - (i + 1)).toNat s.toNat) j.toNat) → gW Γ E (mM E h ad t) 0 0 95 [some (.ref h), some (.int (iI lo)), some (.int (iI u)), some (.int (iI x1)), some (.int (iI i)), some (.int (iI s)), some (.int (iI v)), some (.int (iI j))] [] := by
                      intro fu
                      induction fu with
                      | zero => intro v j hn; exact absurd hn (Nat.not_lt_zero _)
                      | succ fu ih_loopD =>
                        intro v j hn hj hv
                        have hvr := hmr j.toNat (by omega)
                        rw [← hv] at hvr
                        refine g_iload hΓ rfl dX3_scoreBy_95 ?_
                        refine g_aload_n hΓ rfl dX3_scoreBy_97 ?_
                        refine m_geti hok hΓ 25 (by decide) rfl rfl q1382 rfl dX3_scoreBy_98 ?_
                        refine g_topi ((tf 25 0 (by decide))) ?_
                        refine g_icmp_ge (tgt := 158) hΓ (by omega) (by omega) dX3_scoreBy_101 (by decide) (fun c8 => ?_) (fun c8 => ?_)
                        · refine g_aload_n hΓ rfl dX3_scoreBy_158 ?_
                          refine m_geta hok hΓ 29 (by decide) rfl rfl q1386 rfl dX3_scoreBy_159 ?_
                          refine g_sipush hΓ (by decide) dX3_scoreBy_162 ?_
                          refine g_iload hΓ rfl dX3_scoreBy_165 ?_
                          refine g_imul hΓ dX3_scoreBy_167 ?_
                          refine g_iload hΓ rfl dX3_scoreBy_168 ?_
                          refine g_iadd hΓ dX3_scoreBy_170 ?_
                          refine g_iload hΓ rfl dX3_scoreBy_171 ?_
                          refine m_ast hok hΓ 29 (by decide) rfl (n := 2304) rfl (by omega) (by decide) dX3_scoreBy_173 (fun τ9 τ9e => ?_)
                          have τ9r : τ9 29 ((256 * i) + s) = v := by rw [τ9e]; exact us_s _ _ _ _
                          have τ9f : ∀ (k9 : Nat) (j9 : Int), (k9 ≠ 29 ∨ j9 ≠ ((256 * i) + s)) → τ9 k9 j9 = t k9 j9 := fun k9 j9 hh => by rw [τ9e]; exact us_n hh
                          obtain ⟨x10, ex10⟩ : ∃ z9 : Int, z9 = s + 1 := ⟨_, rfl⟩
                          refine g_iinc hΓ dX3_scoreBy_174 rfl rfl (lv' := [some (.ref h), some (.int (iI lo)), some (.int (iI u)), some (.int (iI x1)), some (.int (iI i)), some (.int (iI x10)), some (.int (iI v)), some (.int (iI j))]) (by rw [ex10]; rfl) ?_
                          refine g_goto (tgt := 66) hΓ dX3_scoreBy_177 (by decide) ?_
                          refine g_lvw (lv' := [some (.ref h), some (.int (iI lo)), some (.int (iI u)), some (.int (iI x1)), some (.int (iI i)), some (.int (iI x10)), none, none]) ⟨rfl, ⟨rfl, ⟨rfl, ⟨rfl, ⟨rfl, ⟨rfl, trivial⟩⟩⟩⟩⟩⟩ ?_
                          exact ih_loopC x10 τ9 (by omega) (by omega) (fun i' T h1 h2 h3 => (τ9f 29 _ (Or.inr (by omega))).trans (hT i' T h1 h2 h3)) (fun T h1 => by
                              by_cases q : T = s.toNat
                              · subst q
                                rw [show ((s.toNat : Nat) : Int) = s by omega, τ9r, show (fm - i).toNat = (fm - (i + 1)).toNat + 1 by omega, bsF, hv, show j.toNat = om by omega, show (fm : Int) - (((fm - (i + 1)).toNat + 1 : Nat) : Int) = i by omega]
                              · exact (τ9f 29 _ (Or.inr (by omega))).trans (hR T (by omega))) (fun k' j' hk' => (τ9f k' j' (Or.inl (fun e => hk' (by rw [e]; decide)))).trans (tf k' j' hk'))
                        · refine g_iload hΓ rfl dX3_scoreBy_104 ?_
                          refine g_iload hΓ rfl dX3_scoreBy_106 ?_
                          refine g_ishr (a := s / 2 ^ j.toNat) hΓ (bsh (by omega) (by omega) (by omega)) dX3_scoreBy_108 ?_
                          refine g_iconst hΓ dX3_scoreBy_109 ?_
                          refine g_iand (a := if s.toNat.testBit j.toNat = true then 1 else 0) hΓ (an_tbI (by omega) _) dX3_scoreBy_110 ?_
                          refine g_ifB_ne (tgt := 152) hΓ  dX3_scoreBy_111 (by decide) (fun c11 => ?_) (fun c11 => ?_)
                          · obtain ⟨x12, ex12⟩ : ∃ z9 : Int, z9 = j + 1 := ⟨_, rfl⟩
                            refine g_iinc hΓ dX3_scoreBy_152 rfl rfl (lv' := [some (.ref h), some (.int (iI lo)), some (.int (iI u)), some (.int (iI x1)), some (.int (iI i)), some (.int (iI s)), some (.int (iI v)), some (.int (iI x12))]) (by rw [ex12]; rfl) ?_
                            refine g_goto (tgt := 95) hΓ dX3_scoreBy_155 (by decide) ?_
                            exact ih_loopD v x12 (by omega) (by omega) (by rw [show x12.toNat = j.toNat + 1 by omega, mnJ, ← hv, show ((j.toNat : Nat) : Int) = j by omega]; rw [if_pos (by assumption)])
                          · have hx1 := hor j (by omega) (by omega)
                            have hx2 := hT (i + 1) _ (by omega) (by omega) hx1
                            have hx3 := hbr (fm - (i + 1)).toNat (by omega) _ hx1
                            have hx4 := cs3_r htb hu (i := i) (j := j) (by omega) (by omega) (by omega) (by omega)
                            refine g_iload hΓ rfl dX3_scoreBy_114 ?_
                            refine g_aload_n hΓ rfl dX3_scoreBy_116 ?_
                            refine g_iload hΓ rfl dX3_scoreBy_117 ?_
                            refine g_iload hΓ rfl dX3_scoreBy_119 ?_
                            refine g_iload_n hΓ rfl dX3_scoreBy_121 ?_
                            refine m_callV (As := [.int (iI i), .int (iI j), .int (iI u)]) (rest := [.int (iI v)]) hok hΓ (m_costOf hok t i j u (by first | assumption | omega | (simp only [t24, t25]; omega)) (by first | assumption | omega | (simp only [t24, t25]; omega)) (by first | assumption | omega | (simp only [t24, t25]; omega)) (by first | assumption | omega | (simp only [t24, t25]; omega))) rfl q1769 q1771 qs100 q131 q1772 ndX3_costOf rfl (by decide) (by decide) rfl rfl (Nat.le_of_ble_eq_true rfl) dX3_scoreBy_122 rfl (fun v13 τ13 τ13h => ?_)
                            obtain ⟨rfl, τ13h⟩ := τ13h
                            rw [τ13h]
                            clear τ13h
                            show gW Γ E (mM E h ad t) 0 0 _ _ (.int (iI (cs3 t u i j)) :: _)
                            refine g_topi (show (cs3 t u i j : Int) = (cs3 σ u i j) by simp only [tC]) ?_
                            refine g_aload_n hΓ rfl dX3_scoreBy_125 ?_
                            refine m_geta hok hΓ 29 (by decide) rfl rfl q1386 rfl dX3_scoreBy_126 ?_
                            refine g_sipush hΓ (by decide) dX3_scoreBy_129 ?_
                            refine g_iload hΓ rfl dX3_scoreBy_132 ?_
                            refine g_iconst hΓ dX3_scoreBy_134 ?_
                            refine g_iadd hΓ dX3_scoreBy_135 ?_
                            refine g_imul hΓ dX3_scoreBy_136 ?_
                            refine g_iload hΓ rfl dX3_scoreBy_137 ?_
                            refine g_iconst hΓ dX3_scoreBy_139 ?_
                            refine g_iload hΓ rfl dX3_scoreBy_140 ?_
                            refine g_ishl (a := ((2 ^ j.toNat : Nat) : Int)) hΓ (sh_1 (by omega) (by omega)) dX3_scoreBy_142 ?_
                            refine g_ior (a := ((s.toNat ||| 2 ^ j.toNat : Nat) : Int)) hΓ (or_I (by omega) _) dX3_scoreBy_143 ?_
                            refine g_iadd hΓ dX3_scoreBy_144 ?_
                            refine m_ald hok hΓ 29 (by decide) rfl (n := 2304) rfl (by omega) (by decide) dX3_scoreBy_145 ?_
                            refine g_iadd hΓ dX3_scoreBy_146 ?_
                            refine m_callS (As := [.int (iI v), .int (iI ((cs3 σ u i j) + (t 29 ((256 * (i + 1)) + ((s.toNat ||| 2 ^ j.toNat : Nat) : Int)))))]) (rest := []) hok hΓ (m_lesser hok t v ((cs3 σ u i j) + (t 29 ((256 * (i + 1)) + ((s.toNat ||| 2 ^ j.toNat : Nat) : Int)))) (by first | assumption | omega) (by first | assumption | omega)) rfl q1674 q1675 q131 q1676 ndX3_lesser rfl (by decide) (by decide) rfl (Nat.le_of_ble_eq_true rfl) dX3_scoreBy_147 rfl (fun v14 τ14 τ14h => ?_)
                            obtain ⟨rfl, τ14h⟩ := τ14h
                            rw [τ14h]
                            clear τ14h
                            show gW Γ E (mM E h ad t) 0 0 _ _ (.int (iI (min v ((cs3 σ u i j) + (t 29 ((256 * (i + 1)) + ((s.toNat ||| 2 ^ j.toNat : Nat) : Int)))))) :: _)
                            obtain ⟨x15, ex15⟩ : ∃ z9 : Int, z9 = min v ((cs3 σ u i j) + (t 29 ((256 * (i + 1)) + ((s.toNat ||| 2 ^ j.toNat : Nat) : Int)))) := ⟨_, rfl⟩
                            refine g_topi ex15.symm ?_
                            refine g_istore hΓ dX3_scoreBy_150 rfl (Nat.le_of_ble_eq_true rfl) (lv' := [some (.ref h), some (.int (iI lo)), some (.int (iI u)), some (.int (iI x1)), some (.int (iI i)), some (.int (iI s)), some (.int (iI x15)), some (.int (iI j))]) rfl ?_
                            obtain ⟨x16, ex16⟩ : ∃ z9 : Int, z9 = j + 1 := ⟨_, rfl⟩
                            refine g_iinc hΓ dX3_scoreBy_152 rfl rfl (lv' := [some (.ref h), some (.int (iI lo)), some (.int (iI u)), some (.int (iI x1)), some (.int (iI i)), some (.int (iI s)), some (.int (iI x15)), some (.int (iI x16))]) (by rw [ex16]; rfl) ?_
                            refine g_goto (tgt := 95) hΓ dX3_scoreBy_155 (by decide) ?_
                            exact ih_loopD x15 x16 (by omega) (by omega) (by rw [show x16.toNat = j.toNat + 1 by omega, mnJ, ← hv, show ((j.toNat : Nat) : Int) = j by omega]; rw [if_neg (by assumption), ex15, hT _ _ (by omega) (by omega) (hor j (by omega) (by omega))])
                    exact loopD 9 x7 0 (by omega) (by omega) (by rw [ex7, ← hT (i + 1) s.toNat (by omega) (by omega) (by omega), show ((s.toNat : Nat) : Int) = s by omega]; rfl)
              exact loopC 257 0 t (by omega) (by omega) hT (fun T h => absurd h (by omega)) tf
        exact loopB 9 x3 t (by omega) (by omega) (fun i' T h1 h2 h3 => by
            have q : i' = fm := by omega
            subst q
            rw [show (fm - (fm : Int)).toNat = 0 by omega, bsF, show (fm : Int) = σ 24 0 by omega, hA T (by omega), show (om : Int) = σ 25 0 by omega]) tf
      · refine g_aload_n hΓ rfl dX3_scoreBy_16 ?_
        refine m_geta hok hΓ 29 (by decide) rfl rfl q1386 rfl dX3_scoreBy_17 ?_
        refine g_sipush hΓ (by decide) dX3_scoreBy_20 ?_
        refine g_aload_n hΓ rfl dX3_scoreBy_23 ?_
        refine m_geti hok hΓ 24 (by decide) rfl rfl q1381 rfl dX3_scoreBy_24 ?_
        refine g_topi ((tf 24 0 (by decide))) ?_
        refine g_imul hΓ dX3_scoreBy_27 ?_
        refine g_iload hΓ rfl dX3_scoreBy_28 ?_
        refine g_iadd hΓ dX3_scoreBy_30 ?_
        refine g_iload_n hΓ rfl dX3_scoreBy_31 ?_
        refine g_aload_n hΓ rfl dX3_scoreBy_32 ?_
        refine m_geti hok hΓ 25 (by decide) rfl rfl q1382 rfl dX3_scoreBy_33 ?_
        refine g_topi ((tf 25 0 (by decide))) ?_
        refine g_iload hΓ rfl dX3_scoreBy_36 ?_
        refine m_callS (As := [.int (iI s)]) (rest := [.int (iI (σ 25 0)), .int (iI lo), .int (iI ((256 * (σ 24 0)) + s)), .ref (ad 29)]) hok hΓ (m_bits hok t s (by first | assumption | omega)) rfl q1766 q1767 q131 q1768 ndX3_bits rfl (by decide) (by decide) rfl (Nat.le_of_ble_eq_true rfl) dX3_scoreBy_38 rfl (fun v17 τ17 τ17h => ?_)
        obtain ⟨rfl, τ17h⟩ := τ17h
        rw [τ17h]
        clear τ17h
        show gW Γ E (mM E h ad t) 0 0 _ _ (.int (iI (pcN s.toNat : Int)) :: _)
        refine g_isub hΓ dX3_scoreBy_41 ?_
        refine g_imul hΓ dX3_scoreBy_42 ?_
        refine m_ast hok hΓ 29 (by decide) rfl (n := 2304) rfl (by omega) (by decide) dX3_scoreBy_43 (fun τ18 τ18e => ?_)
        have τ18r : τ18 29 ((256 * (σ 24 0)) + s) = lo * ((σ 25 0) - (pcN s.toNat : Int)) := by rw [τ18e]; exact us_s _ _ _ _
        have τ18f : ∀ (k9 : Nat) (j9 : Int), (k9 ≠ 29 ∨ j9 ≠ ((256 * (σ 24 0)) + s)) → τ18 k9 j9 = t k9 j9 := fun k9 j9 hh => by rw [τ18e]; exact us_n hh
        obtain ⟨x19, ex19⟩ : ∃ z9 : Int, z9 = s + 1 := ⟨_, rfl⟩
        refine g_iinc hΓ dX3_scoreBy_44 rfl rfl (lv' := [some (.ref h), some (.int (iI lo)), some (.int (iI u)), some (.int (iI x1)), some (.int (iI x19)), none, none, none]) (by rw [ex19]; rfl) ?_
        refine g_goto (tgt := 10) hΓ dX3_scoreBy_47 (by decide) ?_
        exact ih_loopA x19 τ18 (by omega) (by omega) (fun T h1 => by
            by_cases q : T = s.toNat
            · subst q
              rw [show ((s.toNat : Nat) : Int) = s by omega, τ18r]
            · exact (τ18f 29 _ (Or.inr (by omega))).trans (hA T (by omega))) (fun k' j' hk' => (τ18f k' j' (Or.inl (fun e => hk' (by rw [e]; decide)))).trans (tf k' j' hk'))
  exact loopA 257 0 σ (by omega) (by omega) (fun T h => absurd h (by omega)) (fun k j _ => rfl)
