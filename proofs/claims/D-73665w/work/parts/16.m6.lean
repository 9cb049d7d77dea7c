set_option maxRecDepth 100000
set_option maxHeartbeats 4000000 in
theorem m_edgeOf {l : Launch} {E : gE} {h : Nat} {ad : Nat → Nat} (hok : mOK E h ad) (σ : mS)  (a : Int) (n : Int) (x : Int) (b : Int) (hl : letS σ a n) (hn1 : 1 ≤ n) (hx : x = 0 ∨ x = 1) (hb : b = 0 ∨ b = 1) : mC l E h ad yX3_edgeOf cX3_edgeOf 8 (some .int) 1 [.ref h, .int (iI a), .int (iI n), .int (iI x), .int (iI b)] σ (fun rv σ' => rv = some (.int (iI (edge σ a n x b))) ∧ σ' = σ) := by
  refine mC.of (by decide) [some (.ref h), some (.int (iI a)), some (.int (iI n)), some (.int (iI x)), some (.int (iI b)), none, none, none] (Nat.le_of_ble_eq_true rfl) rfl rfl (fun Γ hΓ => ?_)
  obtain ⟨hl0, hl1, hl2, hl3, hl4⟩ := id hl
  have hf := hl4 a (by omega) (by omega)
  have hf1 := hf.1
  have hfp := hf.pt (j := 2 * 0 + x) (by omega) (by omega)
  have loop : ∀ (fu : Nat) (u : Int) (q : Int), (a + n - q).toNat < fu → (a ≤ q ∧ q ≤ a + n) → (u = edS b σ x a (q - a).toNat (nu σ a (2 * 0 + x))) → gW Γ E (mM E h ad σ) 0 0 12 [some (.ref h), some (.int (iI a)), some (.int (iI n)), some (.int (iI x)), some (.int (iI b)), some (.int (iI u)), some (.int (iI q)), none] [] := by
    intro fu
    induction fu with
    | zero => intro u q hn; exact absurd hn (Nat.not_lt_zero _)
    | succ fu ih_loop =>
      intro u q hn hq hu
      have hur := edS_in (b := b) (σ := σ) (ax := x) (first := a) (L := 0) (U := 99) (q - a).toNat (nu σ a (2 * 0 + x)) hfp.1 hfp.2 (fun j hj k hk => (hl4 (a + j) (by omega) (by omega)).pt (by omega) (by omega))
      rw [← hu] at hur
      refine g_iload hΓ rfl dX3_edgeOf_12 ?_
      refine g_iload_n hΓ rfl dX3_edgeOf_14 ?_
      refine g_iload_n hΓ rfl dX3_edgeOf_15 ?_
      refine g_iadd hΓ dX3_edgeOf_16 ?_
      refine g_icmp_ge (tgt := 84) hΓ (by omega) (by omega) dX3_edgeOf_17 (by decide) (fun c1 => ?_) (fun c1 => ?_)
      · refine g_iload hΓ rfl dX3_edgeOf_84 ?_
        exact m_iret hΓ dX3_edgeOf_86 ⟨ri (by rw [hu, edge, show (q - a).toNat = n.toNat by omega]), rfl⟩
      · refine g_iconst hΓ dX3_edgeOf_20 ?_
        refine g_istore hΓ dX3_edgeOf_21 rfl (Nat.le_of_ble_eq_true rfl) (lv' := [some (.ref h), some (.int (iI a)), some (.int (iI n)), some (.int (iI x)), some (.int (iI b)), some (.int (iI u)), some (.int (iI q)), some (.int (iI 0))]) rfl ?_
        have hsq := hl4 q (by omega) (by omega)
        have hsq1 := hsq.1
        have hsq2 := hsq.2.1
        have loop2 : ∀ (fu : Nat) (v : Int) (i : Int), (np σ q - i).toNat < fu → (0 ≤ i ∧ i ≤ np σ q) → (v = edP b (nu σ q) x i.toNat u) → gW Γ E (mM E h ad σ) 0 0 23 [some (.ref h), some (.int (iI a)), some (.int (iI n)), some (.int (iI x)), some (.int (iI b)), some (.int (iI v)), some (.int (iI q)), some (.int (iI i))] [] := by
          intro fu
          induction fu with
          | zero => intro v i hn; exact absurd hn (Nat.not_lt_zero _)
          | succ fu ih_loop2 =>
            intro v i hn hi hv2
            have hvr := edP_in (b := b) (f := nu σ q) (ax := x) (L := 0) (U := 99) i.toNat u hur.1 hur.2 (fun j hj => hsq.pt (by omega) (by omega))
            rw [← hv2] at hvr
            refine g_iload hΓ rfl dX3_edgeOf_23 ?_
            refine g_aload_n hΓ rfl dX3_edgeOf_25 ?_
            refine g_iload hΓ rfl dX3_edgeOf_26 ?_
            refine m_callV (As := [.int (iI q)]) (rest := [.int (iI i)]) hok hΓ (m_pointsOf hok σ q (by first | assumption | omega)) rfl q1622 q1624 qs81 q131 q1625 ndX3_pointsOf rfl (by decide) (by decide) rfl rfl (Nat.le_of_ble_eq_true rfl) dX3_edgeOf_28 rfl (fun v2 τ2 τ2h => ?_)
            obtain ⟨rfl, τ2h⟩ := τ2h
            rw [τ2h]
            clear τ2h
            show gW Γ E (mM E h ad σ) 0 0 _ _ (.int (iI (np σ q)) :: _)
            refine g_icmp_ge (tgt := 78) hΓ (by omega) (by omega) dX3_edgeOf_31 (by decide) (fun c3 => ?_) (fun c3 => ?_)
            · obtain ⟨x4, ex4⟩ : ∃ z9 : Int, z9 = q + 1 := ⟨_, rfl⟩
              refine g_iinc hΓ dX3_edgeOf_78 rfl rfl (lv' := [some (.ref h), some (.int (iI a)), some (.int (iI n)), some (.int (iI x)), some (.int (iI b)), some (.int (iI v)), some (.int (iI x4)), some (.int (iI i))]) (by rw [ex4]; rfl) ?_
              refine g_goto (tgt := 12) hΓ dX3_edgeOf_81 (by decide) ?_
              refine g_lvw (lv' := [some (.ref h), some (.int (iI a)), some (.int (iI n)), some (.int (iI x)), some (.int (iI b)), some (.int (iI v)), some (.int (iI x4)), none]) ⟨rfl, ⟨rfl, ⟨rfl, ⟨rfl, ⟨rfl, ⟨rfl, ⟨rfl, trivial⟩⟩⟩⟩⟩⟩⟩ ?_
              exact ih_loop v x4 (by omega) (by omega) (by rw [show (x4 - a).toNat = (q - a).toNat + 1 by omega, edS, ← hu, show a + ((q - a).toNat : Int) = q by omega, hv2, show i.toNat = (np σ q).toNat by omega])
            · have hpt := hsq.pt (j := 2 * i + x) (by omega) (by omega)
              refine g_iload hΓ rfl dX3_edgeOf_34 ?_
              refine g_if_eq (tgt := 56) hΓ (by omega) dX3_edgeOf_36 (by decide) (fun c5 => ?_) (fun c5 => ?_)
              · refine g_iload hΓ rfl dX3_edgeOf_56 ?_
                refine g_aload_n hΓ rfl dX3_edgeOf_58 ?_
                refine g_iload hΓ rfl dX3_edgeOf_59 ?_
                refine g_iload hΓ rfl dX3_edgeOf_61 ?_
                refine g_iload_n hΓ rfl dX3_edgeOf_63 ?_
                refine m_callV (As := [.int (iI q), .int (iI i), .int (iI x)]) (rest := [.int (iI v)]) hok hΓ (m_numberOf hok σ q i x (by first | assumption | omega) (by first | assumption | omega) (by first | assumption | omega)) rfl q1626 q1628 qs82 q131 q1629 ndX3_numberOf rfl (by decide) (by decide) rfl rfl (Nat.le_of_ble_eq_true rfl) dX3_edgeOf_64 rfl (fun v6 τ6 τ6h => ?_)
                obtain ⟨rfl, τ6h⟩ := τ6h
                rw [τ6h]
                clear τ6h
                show gW Γ E (mM E h ad σ) 0 0 _ _ (.int (iI (nu σ q (2 * i + x))) :: _)
                refine m_callS (As := [.int (iI v), .int (iI (nu σ q (2 * i + x)))]) (rest := []) hok hΓ (m_lesser hok σ v (nu σ q (2 * i + x)) (by first | assumption | omega) (by first | assumption | omega)) rfl q1674 q1675 q131 q1676 ndX3_lesser rfl (by decide) (by decide) rfl (Nat.le_of_ble_eq_true rfl) dX3_edgeOf_67 rfl (fun v7 τ7 τ7h => ?_)
                obtain ⟨rfl, τ7h⟩ := τ7h
                rw [τ7h]
                clear τ7h
                show gW Γ E (mM E h ad σ) 0 0 _ _ (.int (iI (min v (nu σ q (2 * i + x)))) :: _)
                obtain ⟨x8, ex8⟩ : ∃ z9 : Int, z9 = min v (nu σ q (2 * i + x)) := ⟨_, rfl⟩
                refine g_topi ex8.symm ?_
                refine g_istore hΓ dX3_edgeOf_70 rfl (Nat.le_of_ble_eq_true rfl) (lv' := [some (.ref h), some (.int (iI a)), some (.int (iI n)), some (.int (iI x)), some (.int (iI b)), some (.int (iI x8)), some (.int (iI q)), some (.int (iI i))]) rfl ?_
                obtain ⟨x9, ex9⟩ : ∃ z9 : Int, z9 = i + 1 := ⟨_, rfl⟩
                refine g_iinc hΓ dX3_edgeOf_72 rfl rfl (lv' := [some (.ref h), some (.int (iI a)), some (.int (iI n)), some (.int (iI x)), some (.int (iI b)), some (.int (iI x8)), some (.int (iI q)), some (.int (iI x9))]) (by rw [ex9]; rfl) ?_
                refine g_goto (tgt := 23) hΓ dX3_edgeOf_75 (by decide) ?_
                exact ih_loop2 x8 x9 (by omega) (by omega) (by rw [show x9.toNat = i.toNat + 1 by omega, edP, ← hv2, show ((i.toNat : Nat) : Int) = i by omega, ex8]; first | rw [if_pos (by omega)] | rw [if_neg (by omega)])
              · refine g_iload hΓ rfl dX3_edgeOf_39 ?_
                refine g_aload_n hΓ rfl dX3_edgeOf_41 ?_
                refine g_iload hΓ rfl dX3_edgeOf_42 ?_
                refine g_iload hΓ rfl dX3_edgeOf_44 ?_
                refine g_iload_n hΓ rfl dX3_edgeOf_46 ?_
                refine m_callV (As := [.int (iI q), .int (iI i), .int (iI x)]) (rest := [.int (iI v)]) hok hΓ (m_numberOf hok σ q i x (by first | assumption | omega) (by first | assumption | omega) (by first | assumption | omega)) rfl q1626 q1628 qs82 q131 q1629 ndX3_numberOf rfl (by decide) (by decide) rfl rfl (Nat.le_of_ble_eq_true rfl) dX3_edgeOf_47 rfl (fun v10 τ10 τ10h => ?_)
                obtain ⟨rfl, τ10h⟩ := τ10h
                rw [τ10h]
                clear τ10h
                show gW Γ E (mM E h ad σ) 0 0 _ _ (.int (iI (nu σ q (2 * i + x))) :: _)
                refine m_callS (As := [.int (iI v), .int (iI (nu σ q (2 * i + x)))]) (rest := []) hok hΓ (m_greater hok σ v (nu σ q (2 * i + x)) (by first | assumption | omega) (by first | assumption | omega)) rfl q1693 q1694 q131 q1695 ndX3_greater rfl (by decide) (by decide) rfl (Nat.le_of_ble_eq_true rfl) dX3_edgeOf_50 rfl (fun v11 τ11 τ11h => ?_)
                obtain ⟨rfl, τ11h⟩ := τ11h
                rw [τ11h]
                clear τ11h
                show gW Γ E (mM E h ad σ) 0 0 _ _ (.int (iI (max v (nu σ q (2 * i + x)))) :: _)
                refine g_goto (tgt := 70) hΓ dX3_edgeOf_53 (by decide) ?_
                obtain ⟨x12, ex12⟩ : ∃ z9 : Int, z9 = max v (nu σ q (2 * i + x)) := ⟨_, rfl⟩
                refine g_topi ex12.symm ?_
                refine g_istore hΓ dX3_edgeOf_70 rfl (Nat.le_of_ble_eq_true rfl) (lv' := [some (.ref h), some (.int (iI a)), some (.int (iI n)), some (.int (iI x)), some (.int (iI b)), some (.int (iI x12)), some (.int (iI q)), some (.int (iI i))]) rfl ?_
                obtain ⟨x13, ex13⟩ : ∃ z9 : Int, z9 = i + 1 := ⟨_, rfl⟩
                refine g_iinc hΓ dX3_edgeOf_72 rfl rfl (lv' := [some (.ref h), some (.int (iI a)), some (.int (iI n)), some (.int (iI x)), some (.int (iI b)), some (.int (iI x12)), some (.int (iI q)), some (.int (iI x13))]) (by rw [ex13]; rfl) ?_
                refine g_goto (tgt := 23) hΓ dX3_edgeOf_75 (by decide) ?_
                exact ih_loop2 x12 x13 (by omega) (by omega) (by rw [show x13.toNat = i.toNat + 1 by omega, edP, ← hv2, show ((i.toNat : Nat) : Int) = i by omega, ex12]; first | rw [if_pos (by omega)] | rw [if_neg (by omega)])
        exact loop2 13 u 0 (by omega) (by omega) rfl
  refine g_aload_n hΓ rfl dX3_edgeOf_0 ?_
  refine g_iload_n hΓ rfl dX3_edgeOf_1 ?_
  refine g_iconst hΓ dX3_edgeOf_2 ?_
  refine g_iload_n hΓ rfl dX3_edgeOf_3 ?_
  refine m_callV (As := [.int (iI a), .int (iI 0), .int (iI x)]) (rest := []) hok hΓ (m_numberOf hok σ a 0 x (by first | assumption | omega) (by first | assumption | omega) (by first | assumption | omega)) rfl q1626 q1628 qs82 q131 q1629 ndX3_numberOf rfl (by decide) (by decide) rfl rfl (Nat.le_of_ble_eq_true rfl) dX3_edgeOf_4 rfl (fun v14 τ14 τ14h => ?_)
  obtain ⟨rfl, τ14h⟩ := τ14h
  rw [τ14h]
  clear τ14h
  show gW Γ E (mM E h ad σ) 0 0 _ _ (.int (iI (nu σ a (2 * 0 + x))) :: _)
  obtain ⟨x15, ex15⟩ : ∃ z9 : Int, z9 = nu σ a (2 * 0 + x) := ⟨_, rfl⟩
  refine g_topi ex15.symm ?_
  refine g_istore hΓ dX3_edgeOf_7 rfl (Nat.le_of_ble_eq_true rfl) (lv' := [some (.ref h), some (.int (iI a)), some (.int (iI n)), some (.int (iI x)), some (.int (iI b)), some (.int (iI x15)), none, none]) rfl ?_
  refine g_iload_n hΓ rfl dX3_edgeOf_9 ?_
  refine g_istore hΓ dX3_edgeOf_10 rfl (Nat.le_of_ble_eq_true rfl) (lv' := [some (.ref h), some (.int (iI a)), some (.int (iI n)), some (.int (iI x)), some (.int (iI b)), some (.int (iI x15)), some (.int (iI a)), none]) rfl ?_
  exact loop 9 x15 a (by omega) (by omega) (by rw [Int.sub_self, ex15]; rfl)
set_option maxHeartbeats 4000000 in
theorem m_cellOf {l : Launch} {E : gE} {h : Nat} {ad : Nat → Nat} (hok : mOK E h ad) (σ : mS)  (s : Int) (a : Int) (n : Int) (x : Int) (hl : letS σ a n) (hs : a ≤ s ∧ s < a + n) (hx : x = 0 ∨ x = 1) : mC l E h ad yX3_cellOf cX3_cellOf 8 (some .int) 2 [.ref h, .int (iI s), .int (iI a), .int (iI n), .int (iI x)] σ (fun rv σ' => rv = some (.int (iI (celS σ s a n x))) ∧ σ' = σ) := by
  refine mC.of (by decide) [some (.ref h), some (.int (iI s)), some (.int (iI a)), some (.int (iI n)), some (.int (iI x)), none, none, none] (Nat.le_of_ble_eq_true rfl) rfl rfl (fun Γ hΓ => ?_)
  obtain ⟨hl0, hl1, hl2, hl3, hl4⟩ := id hl
  have hls : letS σ s 1 := ⟨by omega, by omega, by omega, by omega, fun q h1 h2 => hl4 q (by omega) (by omega)⟩
  have hcb := celS_b hl hx hs.1 hs.2
  refine g_aload_n hΓ rfl dX3_cellOf_0 ?_
  refine g_iload_n hΓ rfl dX3_cellOf_1 ?_
  refine g_iload_n hΓ rfl dX3_cellOf_2 ?_
  refine g_iload hΓ rfl dX3_cellOf_3 ?_
  refine g_iconst hΓ dX3_cellOf_5 ?_
  refine m_callV (As := [.int (iI a), .int (iI n), .int (iI x), .int (iI 0)]) (rest := []) hok hΓ (m_edgeOf hok σ a n x 0 (by first | assumption | omega) (by first | assumption | omega) (by first | assumption | omega) (by first | assumption | omega)) rfl q1689 q1691 qs88 q131 q1692 ndX3_edgeOf rfl (by decide) (by decide) rfl rfl (Nat.le_of_ble_eq_true rfl) dX3_cellOf_6 rfl (fun v1 τ1 τ1h => ?_)
  obtain ⟨rfl, τ1h⟩ := τ1h
  rw [τ1h]
  clear τ1h
  show gW Γ E (mM E h ad σ) 0 0 _ _ (.int (iI (edge σ a n x 0)) :: _)
  obtain ⟨x2, ex2⟩ : ∃ z9 : Int, z9 = edge σ a n x 0 := ⟨_, rfl⟩
  refine g_topi ex2.symm ?_
  refine g_istore hΓ dX3_cellOf_9 rfl (Nat.le_of_ble_eq_true rfl) (lv' := [some (.ref h), some (.int (iI s)), some (.int (iI a)), some (.int (iI n)), some (.int (iI x)), some (.int (iI x2)), none, none]) rfl ?_
  refine g_aload_n hΓ rfl dX3_cellOf_11 ?_
  refine g_iload_n hΓ rfl dX3_cellOf_12 ?_
  refine g_iload_n hΓ rfl dX3_cellOf_13 ?_
  refine g_iload hΓ rfl dX3_cellOf_14 ?_
  refine g_iconst hΓ dX3_cellOf_16 ?_
  refine m_callV (As := [.int (iI a), .int (iI n), .int (iI x), .int (iI 1)]) (rest := []) hok hΓ (m_edgeOf hok σ a n x 1 (by first | assumption | omega) (by first | assumption | omega) (by first | assumption | omega) (by first | assumption | omega)) rfl q1689 q1691 qs88 q131 q1692 ndX3_edgeOf rfl (by decide) (by decide) rfl rfl (Nat.le_of_ble_eq_true rfl) dX3_cellOf_17 rfl (fun v3 τ3 τ3h => ?_)
  obtain ⟨rfl, τ3h⟩ := τ3h
  rw [τ3h]
  clear τ3h
  show gW Γ E (mM E h ad σ) 0 0 _ _ (.int (iI (edge σ a n x 1)) :: _)
  obtain ⟨x4, ex4⟩ : ∃ z9 : Int, z9 = edge σ a n x 1 := ⟨_, rfl⟩
  refine g_topi ex4.symm ?_
  refine g_istore hΓ dX3_cellOf_20 rfl (Nat.le_of_ble_eq_true rfl) (lv' := [some (.ref h), some (.int (iI s)), some (.int (iI a)), some (.int (iI n)), some (.int (iI x)), some (.int (iI x2)), some (.int (iI x4)), none]) rfl ?_
  refine g_aload_n hΓ rfl dX3_cellOf_22 ?_
  refine g_iload_n hΓ rfl dX3_cellOf_23 ?_
  refine g_iconst hΓ dX3_cellOf_24 ?_
  refine g_iload hΓ rfl dX3_cellOf_25 ?_
  refine g_iconst hΓ dX3_cellOf_27 ?_
  refine m_callV (As := [.int (iI s), .int (iI 1), .int (iI x), .int (iI 0)]) (rest := []) hok hΓ (m_edgeOf hok σ s 1 x 0 (by first | assumption | omega) (by first | assumption | omega) (by first | assumption | omega) (by first | assumption | omega)) rfl q1689 q1691 qs88 q131 q1692 ndX3_edgeOf rfl (by decide) (by decide) rfl rfl (Nat.le_of_ble_eq_true rfl) dX3_cellOf_28 rfl (fun v5 τ5 τ5h => ?_)
  obtain ⟨rfl, τ5h⟩ := τ5h
  rw [τ5h]
  clear τ5h
  show gW Γ E (mM E h ad σ) 0 0 _ _ (.int (iI (edge σ s 1 x 0)) :: _)
  refine g_aload_n hΓ rfl dX3_cellOf_31 ?_
  refine g_iload_n hΓ rfl dX3_cellOf_32 ?_
  refine g_iconst hΓ dX3_cellOf_33 ?_
  refine g_iload hΓ rfl dX3_cellOf_34 ?_
  refine g_iconst hΓ dX3_cellOf_36 ?_
  refine m_callV (As := [.int (iI s), .int (iI 1), .int (iI x), .int (iI 1)]) (rest := [.int (iI (edge σ s 1 x 0))]) hok hΓ (m_edgeOf hok σ s 1 x 1 (by first | assumption | omega) (by first | assumption | omega) (by first | assumption | omega) (by first | assumption | omega)) rfl q1689 q1691 qs88 q131 q1692 ndX3_edgeOf rfl (by decide) (by decide) rfl rfl (Nat.le_of_ble_eq_true rfl) dX3_cellOf_37 rfl (fun v6 τ6 τ6h => ?_)
  obtain ⟨rfl, τ6h⟩ := τ6h
  rw [τ6h]
  clear τ6h
  show gW Γ E (mM E h ad σ) 0 0 _ _ (.int (iI (edge σ s 1 x 1)) :: _)
  refine g_iadd hΓ dX3_cellOf_40 ?_
  obtain ⟨x7, ex7⟩ : ∃ z9 : Int, z9 = (edge σ s 1 x 0) + (edge σ s 1 x 1) := ⟨_, rfl⟩
  refine g_topi ex7.symm ?_
  refine g_istore hΓ dX3_cellOf_41 rfl (Nat.le_of_ble_eq_true rfl) (lv' := [some (.ref h), some (.int (iI s)), some (.int (iI a)), some (.int (iI n)), some (.int (iI x)), some (.int (iI x2)), some (.int (iI x4)), some (.int (iI x7))]) rfl ?_
  refine g_iconst hΓ dX3_cellOf_43 ?_
  refine g_iload hΓ rfl dX3_cellOf_44 ?_
  refine g_iconst hΓ dX3_cellOf_46 ?_
  refine g_iload hΓ rfl dX3_cellOf_47 ?_
  refine g_imul hΓ dX3_cellOf_49 ?_
  refine g_isub hΓ dX3_cellOf_50 ?_
  refine g_imul hΓ dX3_cellOf_51 ?_
  refine g_iconst hΓ dX3_cellOf_52 ?_
  refine g_iload hΓ rfl dX3_cellOf_53 ?_
  refine g_iload hΓ rfl dX3_cellOf_55 ?_
  refine g_isub hΓ dX3_cellOf_57 ?_
  refine g_imul hΓ dX3_cellOf_58 ?_
  refine g_iconst hΓ dX3_cellOf_59 ?_
  refine g_iadd hΓ dX3_cellOf_60 ?_
  refine g_idivN hΓ (by omega) (by omega) (by omega) dX3_cellOf_61 ?_
  exact m_iret hΓ dX3_cellOf_62 ⟨ri (by rw [celS, ex2, ex4, ex7]), rfl⟩
set_option maxHeartbeats 4000000 in
theorem m_cell {l : Launch} {E : gE} {h : Nat} {ad : Nat → Nat} (hok : mOK E h ad) (σ : mS)  (m : Int) (k : Int) (w : Int) (hm : r32 m) (hk : r32 k) (hw : r32 w) (hr : rowOK (σ 0)) : mC l E h ad yX3_cell cX3_cell 5 (some .int) 4 [.ref h, .int (iI m), .int (iI k), .int (iI w)] σ (fun rv σ' => rv = some (.int (iI (sp_cell σ m k w))) ∧ σ' = σ) := by
  refine mC.of (by decide) [some (.ref h), some (.int (iI m)), some (.int (iI k)), some (.int (iI w)), none] (Nat.le_of_ble_eq_true rfl) rfl rfl (fun Γ hΓ => ?_)
  obtain ⟨h1000, h1009, h1042, h1043, h1044, h1045, h1046, h1047, hms, hsi, hsm, hnm⟩ := id hr
  have hst := stO_ok hr m k
  refine g_aload_n hΓ rfl dX3_cell_0 ?_
  refine g_iload_n hΓ rfl dX3_cell_1 ?_
  refine g_iload_n hΓ rfl dX3_cell_2 ?_
  refine m_callV (As := [.int (iI m), .int (iI k)]) (rest := []) hok hΓ (m_strokeOf hok σ m k (by first | assumption | omega) (by first | assumption | omega) (by first | assumption | omega)) rfl q1614 q1616 qs79 q131 q1617 ndX3_strokeOf rfl (by decide) (by decide) rfl rfl (Nat.le_of_ble_eq_true rfl) dX3_cell_3 rfl (fun v1 τ1 τ1h => ?_)
  obtain ⟨rfl, τ1h⟩ := τ1h
  rw [τ1h]
  clear τ1h
  show gW Γ E (mM E h ad σ) 0 0 _ _ (.int (iI (stO σ m k)) :: _)
  obtain ⟨x2, ex2⟩ : ∃ z9 : Int, z9 = stO σ m k := ⟨_, rfl⟩
  refine g_topi ex2.symm ?_
  refine g_istore hΓ dX3_cell_6 rfl (Nat.le_of_ble_eq_true rfl) (lv' := [some (.ref h), some (.int (iI m)), some (.int (iI k)), some (.int (iI w)), some (.int (iI x2))]) rfl ?_
  refine g_iload hΓ rfl dX3_cell_8 ?_
  refine g_iconst hΓ dX3_cell_10 ?_
  refine g_icmp_eq (tgt := 43) hΓ (by omega) (by omega) dX3_cell_11 (by decide) (fun c3 => ?_) (fun c3 => ?_)
  · refine g_iconst hΓ dX3_cell_43 ?_
    exact m_iret hΓ dX3_cell_44 ⟨ri (by rw [sp_cell, ← ex2]; first | rw [if_pos (by omega)] | rw [if_neg (by omega)]), rfl⟩
  · rcases hst with hst | ⟨hl, hk0, hk1, hs2, hs0, hs1, hsk⟩
    · exact absurd hst (by omega)
    rw [← ex2] at hsk hs2 hs0 hs1
    have hlet := letS_of hr hl
    have hmr := mnS_r hr hl
    refine g_iload_n hΓ rfl dX3_cell_14 ?_
    refine g_iconst hΓ dX3_cell_15 ?_
    refine g_iconst hΓ dX3_cell_16 ?_
    refine m_callS (As := [.int (iI w), .int (iI 0), .int (iI 1)]) (rest := []) hok hΓ (m_isIn hok σ w 0 1 (by first | assumption | omega) (by first | assumption | omega) (by first | assumption | omega)) rfl q1549 q1550 q131 q1551 ndX3_isIn rfl (by decide) (by decide) rfl (Nat.le_of_ble_eq_true rfl) dX3_cell_17 rfl (fun v4 τ4 τ4h => ?_)
    obtain ⟨rfl, τ4h⟩ := τ4h
    rw [τ4h]
    clear τ4h
    show gW Γ E (mM E h ad σ) 0 0 _ _ (.int (iI (if 0 ≤ w ∧ w ≤ 1 then 1 else 0)) :: _)
    refine g_ifB_eq (tgt := 43) hΓ  dX3_cell_20 (by decide) (fun c5 => ?_) (fun c5 => ?_)
    · refine g_iconst hΓ dX3_cell_43 ?_
      exact m_iret hΓ dX3_cell_44 ⟨ri (by rw [sp_cell, ← ex2]; first | rw [if_pos (by omega)] | rw [if_neg (by omega)]), rfl⟩
    · refine g_aload_n hΓ rfl dX3_cell_23 ?_
      refine g_iload hΓ rfl dX3_cell_24 ?_
      refine g_aload_n hΓ rfl dX3_cell_26 ?_
      refine g_iload_n hΓ rfl dX3_cell_27 ?_
      refine m_callV (As := [.int (iI m)]) (rest := [.int (iI x2), .ref h]) hok hΓ (m_firstOf hok σ m (by first | assumption | omega)) rfl q1618 q1620 qs80 q131 q1621 ndX3_firstOf rfl (by decide) (by decide) rfl rfl (Nat.le_of_ble_eq_true rfl) dX3_cell_28 rfl (fun v6 τ6 τ6h => ?_)
      obtain ⟨rfl, τ6h⟩ := τ6h
      rw [τ6h]
      clear τ6h
      show gW Γ E (mM E h ad σ) 0 0 _ _ (.int (iI (fsS m)) :: _)
      refine g_aload_n hΓ rfl dX3_cell_31 ?_
      refine g_iload_n hΓ rfl dX3_cell_32 ?_
      refine m_callV (As := [.int (iI m)]) (rest := [.int (iI (fsS m)), .int (iI x2), .ref h]) hok hΓ (m_manyOf hok σ m (by first | assumption | omega) (by first | assumption | omega)) rfl q1606 q1608 qs78 q131 q1609 ndX3_manyOf rfl (by decide) (by decide) rfl rfl (Nat.le_of_ble_eq_true rfl) dX3_cell_33 rfl (fun v7 τ7 τ7h => ?_)
      obtain ⟨rfl, τ7h⟩ := τ7h
      rw [τ7h]
      clear τ7h
      show gW Γ E (mM E h ad σ) 0 0 _ _ (.int (iI (mnS σ m)) :: _)
      refine g_iload_n hΓ rfl dX3_cell_36 ?_
      refine m_callV (As := [.int (iI x2), .int (iI (fsS m)), .int (iI (mnS σ m)), .int (iI w)]) (rest := []) hok hΓ (m_cellOf hok σ x2 (fsS m) (mnS σ m) w (by first | assumption | omega) (by first | assumption | omega) (by first | assumption | omega)) rfl q1685 q1687 qs87 q131 q1688 ndX3_cellOf rfl (by decide) (by decide) rfl rfl (Nat.le_of_ble_eq_true rfl) dX3_cell_37 rfl (fun v8 τ8 τ8h => ?_)
      obtain ⟨rfl, τ8h⟩ := τ8h
      rw [τ8h]
      clear τ8h
      show gW Γ E (mM E h ad σ) 0 0 _ _ (.int (iI (celS σ x2 (fsS m) (mnS σ m) w)) :: _)
      refine g_goto (tgt := 44) hΓ dX3_cell_40 (by decide) ?_
      exact m_iret hΓ dX3_cell_44 ⟨ri (by rw [sp_cell, ← ex2]; first | rw [if_pos (by omega)] | rw [if_neg (by omega)]), rfl⟩
set_option maxHeartbeats 4000000 in
theorem m_codeAt {l : Launch} {E : gE} {h : Nat} {ad : Nat → Nat} (hok : mOK E h ad) (σ : mS)  (s : Int) (k : Int) (b : Int) (hs : 0 ≤ s ∧ s < 104) (hk : 0 ≤ k ∧ k < σ 0 1042) (he : 4 ≤ σ 0 1042 ∧ σ 0 1042 ≤ 16) (hla : ∀ j, 0 ≤ j → j < σ 0 1042 → σ 22 (16 * s + j) = cds σ s j) (hb : b = 0 ∨ b = 1) : mC l E h ad yX3_codeAt cX3_codeAt 4 (some .int) 0 [.ref h, .int (iI s), .int (iI k), .int (iI b)] σ (fun rv σ' => rv = some (.int (iI (cdb σ s k b))) ∧ σ' = σ) := by
  refine mC.of (by decide) [some (.ref h), some (.int (iI s)), some (.int (iI k)), some (.int (iI b))] (Nat.le_of_ble_eq_true rfl) rfl rfl (fun Γ hΓ => ?_)
  have h1 := hla k (by omega) (by omega)
  have h2 := hla (σ 0 1042 - 1 - k) (by omega) (by omega)
  rw [show 16 * s + (σ 0 1042 - 1 - k) = 16 * s + σ 0 1042 - 1 - k by omega] at h2
  have r1 := cds_r σ s k
  have r2 := cds_r σ s (σ 0 1042 - 1 - k)
  refine g_iload_n hΓ rfl dX3_codeAt_0 ?_
  refine g_if_eq (tgt := 34) hΓ (by omega) dX3_codeAt_1 (by decide) (fun c1 => ?_) (fun c1 => ?_)
  · refine g_aload_n hΓ rfl dX3_codeAt_34 ?_
    refine m_geta hok hΓ 22 (by decide) rfl rfl q1379 rfl dX3_codeAt_35 ?_
    refine g_bipush hΓ (by decide) dX3_codeAt_38 ?_
    refine g_iload_n hΓ rfl dX3_codeAt_40 ?_
    refine g_imul hΓ dX3_codeAt_41 ?_
    refine g_iload_n hΓ rfl dX3_codeAt_42 ?_
    refine g_iadd hΓ dX3_codeAt_43 ?_
    refine m_ald hok hΓ 22 (by decide) rfl (n := 1664) rfl (by omega) (by decide) dX3_codeAt_44 ?_
    exact m_iret hΓ dX3_codeAt_45 ⟨ri (by rw [cdb]; first | (rw [if_pos (by omega)]; omega) | (rw [if_neg (by omega)]; omega)), rfl⟩
  · refine g_aload_n hΓ rfl dX3_codeAt_4 ?_
    refine m_geta hok hΓ 22 (by decide) rfl rfl q1379 rfl dX3_codeAt_5 ?_
    refine g_bipush hΓ (by decide) dX3_codeAt_8 ?_
    refine g_iload_n hΓ rfl dX3_codeAt_10 ?_
    refine g_imul hΓ dX3_codeAt_11 ?_
    refine g_aload_n hΓ rfl dX3_codeAt_12 ?_
    refine m_geta hok hΓ 0 (by decide) rfl rfl q1357 rfl dX3_codeAt_13 ?_
    refine g_sipush hΓ (by decide) dX3_codeAt_16 ?_
    refine m_ald hok hΓ 0 (by decide) rfl (n := 1048) rfl (by omega) (by decide) dX3_codeAt_19 ?_
    refine g_iadd hΓ dX3_codeAt_20 ?_
    refine g_iconst hΓ dX3_codeAt_21 ?_
    refine g_isub hΓ dX3_codeAt_22 ?_
    refine g_iload_n hΓ rfl dX3_codeAt_23 ?_
    refine g_isub hΓ dX3_codeAt_24 ?_
    refine m_ald hok hΓ 22 (by decide) rfl (n := 1664) rfl (by omega) (by decide) dX3_codeAt_25 ?_
    refine g_iconst hΓ dX3_codeAt_26 ?_
    refine g_iadd hΓ dX3_codeAt_27 ?_
    refine g_bipush hΓ (by decide) dX3_codeAt_28 ?_
    refine g_iremN hΓ (by omega) (by omega) (by omega) dX3_codeAt_30 ?_
    refine g_goto (tgt := 45) hΓ dX3_codeAt_31 (by decide) ?_
    exact m_iret hΓ dX3_codeAt_45 ⟨ri (by rw [cdb]; first | (rw [if_pos (by omega)]; omega) | (rw [if_neg (by omega)]; omega)), rfl⟩
set_option maxHeartbeats 4000000 in
theorem m_restAt {l : Launch} {E : gE} {h : Nat} {ad : Nat → Nat} (hok : mOK E h ad) (σ : mS)  (i : Int) (j : Int) (hi : 0 ≤ i ∧ i ≤ 16) (hj : 0 ≤ j ∧ j ≤ 16) (he : 4 ≤ σ 0 1042 ∧ σ 0 1042 ≤ 16) : mC l E h ad yX3_restAt cX3_restAt 3 (some .int) 0 [.ref h, .int (iI i), .int (iI j)] σ (fun rv σ' => rv = some (.int (iI (rat σ i j))) ∧ σ' = σ) := by
  refine mC.of (by decide) [some (.ref h), some (.int (iI i)), some (.int (iI j))] (Nat.le_of_ble_eq_true rfl) rfl rfl (fun Γ hΓ => ?_)
  refine g_iload_n hΓ rfl dX3_restAt_0 ?_
  refine g_aload_n hΓ rfl dX3_restAt_1 ?_
  refine m_geta hok hΓ 0 (by decide) rfl rfl q1357 rfl dX3_restAt_2 ?_
  refine g_sipush hΓ (by decide) dX3_restAt_5 ?_
  refine m_ald hok hΓ 0 (by decide) rfl (n := 1048) rfl (by omega) (by decide) dX3_restAt_8 ?_
  refine g_icmp_ge (tgt := 38) hΓ (by omega) (by omega) dX3_restAt_9 (by decide) (fun c1 => ?_) (fun c1 => ?_)
  · refine g_ldcw (n := 100000000) hΓ rfl q1716 (by decide) dX3_restAt_38 ?_
    exact m_iret hΓ dX3_restAt_41 ⟨ri (by rw [rat]; first | rw [if_pos (by omega)] | rw [if_neg (by omega)]), rfl⟩
  · refine g_iload_n hΓ rfl dX3_restAt_12 ?_
    refine g_aload_n hΓ rfl dX3_restAt_13 ?_
    refine m_geta hok hΓ 0 (by decide) rfl rfl q1357 rfl dX3_restAt_14 ?_
    refine g_sipush hΓ (by decide) dX3_restAt_17 ?_
    refine m_ald hok hΓ 0 (by decide) rfl (n := 1048) rfl (by omega) (by decide) dX3_restAt_20 ?_
    refine g_icmp_ge (tgt := 38) hΓ (by omega) (by omega) dX3_restAt_21 (by decide) (fun c2 => ?_) (fun c2 => ?_)
    · refine g_ldcw (n := 100000000) hΓ rfl q1716 (by decide) dX3_restAt_38 ?_
      exact m_iret hΓ dX3_restAt_41 ⟨ri (by rw [rat]; first | rw [if_pos (by omega)] | rw [if_neg (by omega)]), rfl⟩
    · refine g_aload_n hΓ rfl dX3_restAt_24 ?_
      refine m_geta hok hΓ 23 (by decide) rfl rfl q1380 rfl dX3_restAt_25 ?_
      refine g_bipush hΓ (by decide) dX3_restAt_28 ?_
      refine g_iload_n hΓ rfl dX3_restAt_30 ?_
      refine g_imul hΓ dX3_restAt_31 ?_
      refine g_iload_n hΓ rfl dX3_restAt_32 ?_
      refine g_iadd hΓ dX3_restAt_33 ?_
      refine m_ald hok hΓ 23 (by decide) rfl (n := 256) rfl (by omega) (by decide) dX3_restAt_34 ?_
      refine g_goto (tgt := 41) hΓ dX3_restAt_35 (by decide) ?_
      exact m_iret hΓ dX3_restAt_41 ⟨ri (by rw [rat]; first | rw [if_pos (by omega)] | rw [if_neg (by omega)]), rfl⟩
