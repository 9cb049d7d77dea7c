set_option maxRecDepth 100000
set_option maxHeartbeats 4000000 in
theorem x_X0_laysWay {l : Launch} {E : gE} {X : State → Prop} {Z : Nat → Nat} {Y : Nat → Option Nat} (hE : E.2.1 = clsX) (hX : xOK l E X Z Y) (hL : xLam l E X (Z 20) (Z 21)) (S : xS) (D : xD) (R : xR) (P : xPk) (σ : mS) (a b : Nat) (sa sb : Int) (hx : Rx E Z S D R P σ) (ha : skR S D R a (np σ sa) (nu σ sa)) (hb : skR S D R b (np σ sb) (nu σ sb)) : xC l E X yX0_laysWay cX0_laysWay 8 (some .int) 7 0 0 [.ref (P.1), .ref a, .ref b] S D R (fun rv S' D' R' => rv = some (.int (iI ((wayE σ sa sb (-1)).2 + 1))) ∧ (Rx E Z S D' R' P σ ∧ (0 ≤ (wayE σ sa sb (-1)).2 ∧ (wayE σ sa sb (-1)).2 ≤ 30) ∧ ∀ k, 0 ≤ k → (k ≤ (wayE σ sa sb (-1)).2 → wayE σ sa sb k = ((D' (P.2.1 13) k, D' (P.2.1 14) k), k)) ∧ ((wayE σ sa sb (-1)).2 < k → (wayE σ sa sb k).2 < k)) ∧ S' = S ∧ fr S D D' [8003, 42, 43, 44, 112, 63, 64] ∧ fr S R R' [1009, 1010]) := by
  refine xC.of hX.1 (by decide) [some (.ref (P.1)), some (.ref a), some (.ref b), none, none, none, none, none] (Nat.le_of_ble_eq_true rfl) rfl rfl (fun Γ hΓ => ?_)
  obtain ⟨hg, hp, hki, hro, hnw, hbh, hsa, hpd⟩ := id hx
  obtain ⟨N, NI, NM, NV, hN⟩ := (hx).now
  have hAw := hg.2.2.2.2.2.2
  have hG : GS S D R := hg.1
  obtain ⟨h1000, h1009, h1042, h1043, h1044, h1045, h1046, h1047, hms, hsi, hsm, hnm⟩ := id hro
  have eN := hN.2.2.2.2.2.2.2.2.2.2.2.2
  have kNV : (S NV).1 = 45 := by rw [hN.2.2.2.1.2]
  have nNV : (S NV).2.1 = 6 := by rw [hN.2.2.2.1.2]
  refine g_aload_n hΓ rfl dX0_laysWay_0 ?_
  refine x_geta (r := some N) (c := 0) hE hΓ in_X0 rfl hp.1 ⟨by decide, rfl⟩ 4 (ji := 4) rfl (by decide) (by decide) rfl q250 rfl rfl hN.1.1 dX0_laysWay_1 ?_
  show gW Γ E (xM E S D R) 0 0 _ _ (.ref N :: _)
  refine x_geta (r := some NV) (c := 1) hE hΓ in_X1 rfl hN.1.2 ⟨by decide, rfl⟩ 2 (ji := 2) rfl (by decide) (by decide) rfl q203 rfl rfl hN.2.2.2.1.1 dX0_laysWay_4 ?_
  show gW Γ E (xM E S D R) 0 0 _ _ (.ref NV :: _)
  refine g_iconst hΓ dX0_laysWay_7 ?_
  refine x_iald hΓ kNV nNV ⟨by decide, rfl⟩ (by omega) (by omega) dX0_laysWay_8 ?_
  refine g_topi (hN.2.2.2.2.2.2.1) ?_
  refine g_istore_n hΓ dX0_laysWay_9 rfl (Nat.le_of_ble_eq_true rfl) (lv' := [some (.ref (P.1)), some (.ref a), some (.ref b), some (.int (iI (σ 0 1042))), none, none, none, none]) rfl ?_
  refine g_iconst hΓ dX0_laysWay_10 ?_
  refine g_istore hΓ dX0_laysWay_11 rfl (Nat.le_of_ble_eq_true rfl) (lv' := [some (.ref (P.1)), some (.ref a), some (.ref b), some (.int (iI (σ 0 1042))), some (.int (iI 0)), none, none, none]) rfl ?_
  refine g_iconst hΓ dX0_laysWay_13 ?_
  refine g_istore hΓ dX0_laysWay_14 rfl (Nat.le_of_ble_eq_true rfl) (lv' := [some (.ref (P.1)), some (.ref a), some (.ref b), some (.int (iI (σ 0 1042))), some (.int (iI 0)), some (.int (iI 0)), none, none]) rfl ?_
  refine g_iconst hΓ dX0_laysWay_16 ?_
  refine g_istore hΓ dX0_laysWay_17 rfl (Nat.le_of_ble_eq_true rfl) (lv' := [some (.ref (P.1)), some (.ref a), some (.ref b), some (.int (iI (σ 0 1042))), some (.int (iI 0)), some (.int (iI 0)), some (.int (iI 0)), none]) rfl ?_
  refine g_aload_n hΓ rfl dX0_laysWay_19 ?_
  refine g_aload_n hΓ rfl dX0_laysWay_20 ?_
  refine g_aload_n hΓ rfl dX0_laysWay_21 ?_
  refine g_iconst hΓ dX0_laysWay_22 ?_
  refine g_aload_n hΓ rfl dX0_laysWay_23 ?_
  refine x_geta (r := some N) (c := 0) hE hΓ in_X0 rfl hp.1 ⟨by decide, rfl⟩ 4 (ji := 4) rfl (by decide) (by decide) rfl q250 rfl rfl hN.1.1 dX0_laysWay_24 ?_
  show gW Γ E (xM E S D R) 0 0 _ _ (.ref N :: _)
  refine x_geta (r := some NV) (c := 1) hE hΓ in_X1 rfl hN.1.2 ⟨by decide, rfl⟩ 2 (ji := 2) rfl (by decide) (by decide) rfl q203 rfl rfl hN.2.2.2.1.1 dX0_laysWay_27 ?_
  show gW Γ E (xM E S D R) 0 0 _ _ (.ref NV :: _)
  refine g_iconst hΓ dX0_laysWay_30 ?_
  refine x_iald hΓ kNV nNV ⟨by decide, rfl⟩ (by omega) (by omega) dX0_laysWay_31 ?_
  refine g_topi (hN.2.2.2.2.2.2.2.1) ?_
  refine x_callV (As := [.ref a, .ref b, .int (iI 0), .int (iI (σ 0 1043))]) (rest := []) (c := 0) hE hΓ (x_X0_elasticOf hE hX hL S D R P σ a b 0 (σ 0 1043) sa sb hx ha hb (by omega) (by omega) ) hp.1 ⟨by decide, rfl⟩ rfl rfl q994 q996 qs29 q123 q997 ndX0_elasticOf rfl (by decide) (by decide) (Nat.zero_le _) (Nat.zero_le _) rfl (Nat.le_of_ble_eq_true rfl) dX0_laysWay_32 rfl (fun v1 S1 τ1 ρ1 h1 => ?_)
  obtain ⟨rfl, h1, S1e, τ1f, ρ1f⟩ := h1
  have S1e := S1e.symm; subst S1e
  show gW Γ E (xM E S τ1 ρ1) _ _ _ _ (.int (iI (els σ sa sb 0 (σ 0 1043))) :: _)
  obtain ⟨x2, ex2⟩ : ∃ z9 : Int, z9 = els σ sa sb 0 (σ 0 1043) := ⟨_, rfl⟩
  refine g_topi ex2.symm ?_
  refine g_istore hΓ dX0_laysWay_35 rfl (Nat.le_of_ble_eq_true rfl) (lv' := [some (.ref (P.1)), some (.ref a), some (.ref b), some (.int (iI (σ 0 1042))), some (.int (iI 0)), some (.int (iI 0)), some (.int (iI 0)), some (.int (iI x2))]) rfl ?_
  obtain ⟨hx1, hT, ra, rb, kb, hA1, hB1, hkb, hcd⟩ := h1
  have hp1 := hx1.2.1
  have hz : P.1 = Z 21 := hp.2.2.2.2.2.2
  have hcr := csd_r σ sa sb 0
  have hdg := els_64 h1042 sa sb 0 (w := σ 0 1043) (by omega)
  have loop : ∀ (fu : Nat) (t : xD) (i : Int) (j : Int) (m : Int) (lf : Int), (40 - i - j).toNat < fu → ((0 ≤ i ∧ i < σ 0 1042) ∧ (0 ≤ j ∧ j < σ 0 1042)) → (0 ≤ m ∧ m ≤ i + j) → (lf = elT (csd σ sa sb 0) (σ 0 1042) (σ 0 1043) i j ∧ elT (csd σ sa sb 0) (σ 0 1042) (σ 0 1043) i j < 100000000) → (fr S τ1 t [63, 64]) → (∀ k, 0 ≤ k → k < m → wayE σ sa sb k = ((t (P.2.1 13) k, t (P.2.1 14) k), k)) → (∀ k, (k = -1 ∨ m ≤ k) → wayE σ sa sb k = wayL (csd σ sa sb 0) (σ 0 1042) (σ 0 1043) k (32 - m).toNat (i, j) m) → gW Γ E (xM E S t ρ1) 0 0 37 [some (.ref (P.1)), some (.ref a), some (.ref b), some (.int (iI (σ 0 1042))), some (.int (iI i)), some (.int (iI j)), some (.int (iI m)), some (.int (iI lf))] [] := by
    intro fu
    induction fu with
    | zero => intro t i j m lf hn; exact absurd hn (Nat.not_lt_zero _)
    | succ fu ih_loop =>
      intro t i j m lf hn hij hm hlf ht hrec hwy
      have htr0 := elT_r (c := (csd σ sa sb 0)) (e := σ 0 1042) (w := (σ 0 1043)) (i := i) (j := j) hcr
      refine g_aload_n hΓ rfl dX0_laysWay_37 ?_
      refine x_geta (r := some (P.2.1 13)) (c := 0) hE hΓ in_X0 rfl hp.1 ⟨by decide, rfl⟩ 13 (ji := 13) rfl (by decide) (by decide) rfl q259 rfl rfl ((ρ1f (P.1) 13 (by rw [hp.1]; decide)).trans (pA_r hp 13 rfl rfl)) dX0_laysWay_38 ?_
      show gW Γ E (xM E S t ρ1) 0 0 _ _ (.ref (P.2.1 13) :: _)
      refine g_iload hΓ rfl dX0_laysWay_41 ?_
      refine g_iload hΓ rfl dX0_laysWay_43 ?_
      refine x_iast hΓ (pA_k hp 13 rfl (n := 63) rfl) (pA_n hp 13 rfl (n := 32) rfl) ⟨by decide, rfl⟩ (hAw _ (by rw [(pA_k hp 13 rfl (n := 63) rfl)]; rfl)) (by omega) (by omega) dX0_laysWay_45 (fun τ3 τ3e => ?_)
      have τ3r : τ3 (P.2.1 13) m = i := by rw [τ3e]; exact us_s _ _ _ _
      have τ3f : ∀ (q9 : Nat) (j9 : Int), (q9 ≠ (P.2.1 13) ∨ j9 ≠ m) → τ3 q9 j9 = t q9 j9 := fun q9 j9 hh => by rw [τ3e]; exact us_n hh
      refine g_aload_n hΓ rfl dX0_laysWay_46 ?_
      refine x_geta (r := some (P.2.1 14)) (c := 0) hE hΓ in_X0 rfl hp.1 ⟨by decide, rfl⟩ 14 (ji := 14) rfl (by decide) (by decide) rfl q260 rfl rfl ((ρ1f (P.1) 14 (by rw [hp.1]; decide)).trans (pA_r hp 14 rfl rfl)) dX0_laysWay_47 ?_
      show gW Γ E (xM E S τ3 ρ1) 0 0 _ _ (.ref (P.2.1 14) :: _)
      refine g_iload hΓ rfl dX0_laysWay_50 ?_
      refine g_iload hΓ rfl dX0_laysWay_52 ?_
      refine x_iast hΓ (pA_k hp 14 rfl (n := 64) rfl) (pA_n hp 14 rfl (n := 32) rfl) ⟨by decide, rfl⟩ (hAw _ (by rw [(pA_k hp 14 rfl (n := 64) rfl)]; rfl)) (by omega) (by omega) dX0_laysWay_54 (fun τ4 τ4e => ?_)
      have τ4r : τ4 (P.2.1 14) m = j := by rw [τ4e]; exact us_s _ _ _ _
      have τ4f : ∀ (q9 : Nat) (j9 : Int), (q9 ≠ (P.2.1 14) ∨ j9 ≠ m) → τ4 q9 j9 = τ3 q9 j9 := fun q9 j9 hh => by rw [τ4e]; exact us_n hh
      obtain ⟨x5, ex5⟩ : ∃ z9 : Int, z9 = m + 1 := ⟨_, rfl⟩
      refine g_iinc hΓ dX0_laysWay_55 rfl rfl (lv' := [some (.ref (P.1)), some (.ref a), some (.ref b), some (.int (iI (σ 0 1042))), some (.int (iI i)), some (.int (iI j)), some (.int (iI x5)), some (.int (iI lf))]) (by rw [ex5]; rfl) ?_
      have hfw : fr S τ1 τ4 [63, 64] := fr_t ht (fun q9 j9 hk9 => (τ4f q9 j9 (Or.inl (fun e9 => hk9 (by rw [e9, pA_k hp 14 rfl (n := 64) rfl, mdN _ (by decide)]; decide)))).trans (τ3f q9 j9 (Or.inl (fun e9 => hk9 (by rw [e9, pA_k hp 13 rfl (n := 63) rfl, mdN _ (by decide)]; decide)))))
      have hra9 : τ4 ra = τ1 ra := fr_row hfw hA1.2.1 (by decide) (by decide)
      have hrb9 : τ4 rb = τ1 rb := fr_row hfw hB1.2.1 (by omega) (by intro h9; simp at h9; omega)
      have hT9 : ∀ i j, 0 ≤ i → i < σ 0 1042 → 0 ≤ j → j < σ 0 1042 → τ4 (P.2.2 12 i) j = fa (elT (csd σ sa sb 0) (σ 0 1042) (σ 0 1043) i j) := fun i j x y z u => by rw [show τ4 (P.2.2 12 i) = τ1 (P.2.2 12 i) from fr_row hfw (pG_k hp 12 rfl (n := 16) rfl (i := i) (by omega) (m := 112) rfl) (by decide) (by decide)]; exact hT i j x y z u
      have hrA : ∀ k, 0 ≤ k → k < m → τ4 (P.2.1 13) k = t (P.2.1 13) k ∧ τ4 (P.2.1 14) k = t (P.2.1 14) k := fun k x y => ⟨(τ4f _ _ (Or.inl (ne_k (pA_k hp 13 rfl (n := 63) rfl) (pA_k hp 14 rfl (n := 64) rfl) (by decide)))).trans (τ3f _ _ (Or.inr (by omega))), (τ4f _ _ (Or.inr (by omega))).trans (τ3f _ _ (Or.inl (ne_k (pA_k hp 14 rfl (n := 64) rfl) (pA_k hp 13 rfl (n := 63) rfl) (by decide))))⟩
      have hmA : τ4 (P.2.1 13) m = i ∧ τ4 (P.2.1 14) m = j := ⟨(τ4f _ _ (Or.inl (ne_k (pA_k hp 13 rfl (n := 63) rfl) (pA_k hp 14 rfl (n := 64) rfl) (by decide)))).trans τ3r, τ4r⟩
      have hrec2 : ∀ k, 0 ≤ k → k < m + 1 → wayE σ sa sb k = ((τ4 (P.2.1 13) k, τ4 (P.2.1 14) k), k) := fun k x y => by
        by_cases c9 : k = m
        · rw [c9, hmA.1, hmA.2, hwy m (Or.inr (Int.le_refl _))]; exact wayL_stop (fun z => z.1 rfl) _
        · rw [(hrA k x (by omega)).1, (hrA k x (by omega)).2]; exact hrec k x (by omega)
      refine g_iload hΓ rfl dX0_laysWay_58 ?_
      refine g_iload_n hΓ rfl dX0_laysWay_60 ?_
      refine g_iconst hΓ dX0_laysWay_61 ?_
      refine g_isub hΓ dX0_laysWay_62 ?_
      refine g_icmp_ne (tgt := 77) hΓ (by omega) (by omega) dX0_laysWay_63 (by decide) (fun c6 => ?_) (fun c6 => ?_)
      · refine g_iload hΓ rfl dX0_laysWay_77 ?_
        refine g_aload_n hΓ rfl dX0_laysWay_79 ?_
        refine x_geta (r := some (Z 20)) (c := 0) hE hΓ in_X0 rfl hp.1 ⟨by decide, rfl⟩ 11 (ji := 11) rfl (by decide) (by decide) rfl q257 rfl rfl ((ρ1f (P.1) 11 (by rw [hp.1]; decide)).trans hp.2.2.2.2.2.1) dX0_laysWay_80 ?_
        show gW Γ E (xM E S τ4 ρ1) 0 0 _ _ (.ref (Z 20) :: _)
        refine g_iload hΓ rfl dX0_laysWay_83 ?_
        refine g_iload hΓ rfl dX0_laysWay_85 ?_
        refine hL Γ _ _ _ _ _ _ _ _ _ _ _ _ _ [.int (iI lf)] _ _ _ _ hΓ rfl (x_X0_lambda_new_0 hE hX S τ4 ρ1 (Z 21) ra rb kb i j (by rw [← hz]; exact hp.1) (by rw [← hz]; exact hA1) (by rw [← hz]; exact hB1) hkb (by omega) (by omega) (by rw [hra9, hrb9]; exact ⟨by rw [(hcd i (by omega) (by omega)).1]; exact cdb_r _ _ _ _, by rw [(hcd j (by omega) (by omega)).2]; exact cdb_r _ _ _ _⟩)) (by decide) rfl (Nat.le_of_ble_eq_true rfl) dX0_laysWay_87 (fun v7 M7 h7 => ?_)
        obtain ⟨S7, τ7, ρ7, M7e, rfl, S7e, τ7e, ρ7e⟩ := h7
        rw [M7e, S7e, τ7e, ρ7e]
        clear M7e S7e τ7e ρ7e
        show gW Γ E (xM E S τ4 ρ1) _ _ _ _ (.int (iI (apt (τ4 ra i) (τ4 rb j))) :: _)
        refine g_topi (show apt (τ4 ra i) (τ4 rb j) = csd σ sa sb 0 i j by rw [hra9, hrb9, (hcd i (by omega) (by omega)).1, (hcd j (by omega) (by omega)).2]; rfl) ?_
        refine g_isub hΓ dX0_laysWay_92 ?_
        obtain ⟨x8, ex8⟩ : ∃ z9 : Int, z9 = lf - (csd σ sa sb 0 i j) := ⟨_, rfl⟩
        refine g_topi ex8.symm ?_
        refine g_istore hΓ dX0_laysWay_93 rfl (Nat.le_of_ble_eq_true rfl) (lv' := [some (.ref (P.1)), some (.ref a), some (.ref b), some (.int (iI (σ 0 1042))), some (.int (iI i)), some (.int (iI j)), some (.int (iI x5)), some (.int (iI x8))]) rfl ?_
        have hne : ¬ (i = σ 0 1042 - 1 ∧ j = σ 0 1042 - 1) := by omega
        have NX := nxt_cmp hcr h1042.2 (w := (σ 0 1043)) (by omega) (by omega) hlf.2 hne (lf := x8) (by rw [← hlf.1]; exact ex8)
        have NO := nxt_ok hcr (p := (i, j)) (w := (σ 0 1043)) (e := σ 0 1042) (by show i < _; omega) (by show j < _; omega) hlf.2 hne
        have ef1 := fa_r (elT_ok (w := (σ 0 1043)) hcr h1042.2 (i := i + 1) (j := j + 1) (by omega) (by omega))
        have ef2 := fa_r (elT_ok (w := (σ 0 1043)) hcr h1042.2 (i := i + 1) (j := j) (by omega) (by omega))
        have hcij := hcr i j
        have htr := elT_r (c := (csd σ sa sb 0)) (e := σ 0 1042) (w := (σ 0 1043)) (i := i) (j := j) hcr
        refine g_iload hΓ rfl dX0_laysWay_95 ?_
        refine g_iload_n hΓ rfl dX0_laysWay_97 ?_
        refine g_iconst hΓ dX0_laysWay_98 ?_
        refine g_isub hΓ dX0_laysWay_99 ?_
        refine g_icmp_ge (tgt := 139) hΓ (by omega) (by omega) dX0_laysWay_100 (by decide) (fun c9 => ?_) (fun c9 => ?_)
        · refine g_iload hΓ rfl dX0_laysWay_139 ?_
          refine g_iload_n hΓ rfl dX0_laysWay_141 ?_
          refine g_iconst hΓ dX0_laysWay_142 ?_
          refine g_isub hΓ dX0_laysWay_143 ?_
          refine g_icmp_ge (tgt := 170) hΓ (by omega) (by omega) dX0_laysWay_144 (by decide) (fun c10 => ?_) (fun c10 => ?_)
          · obtain ⟨x11, ex11⟩ : ∃ z9 : Int, z9 = j + 1 := ⟨_, rfl⟩
            refine g_iinc hΓ dX0_laysWay_170 rfl rfl (lv' := [some (.ref (P.1)), some (.ref a), some (.ref b), some (.int (iI (σ 0 1042))), some (.int (iI i)), some (.int (iI x11)), some (.int (iI x5)), some (.int (iI x8))]) (by rw [ex11]; rfl) ?_
            refine g_goto (tgt := 37) hΓ dX0_laysWay_173 (by decide) ?_
            have hnx : nxt (csd σ sa sb 0) (σ 0 1042) (σ 0 1043) (i, j) = (i, x11) := by
              first | (rw [show i = i + 1 by omega, show x11 = j + 1 by omega]; exact NX.1 ⟨by omega, by omega, by omega⟩) | (rw [show i = i + 1 by omega]; exact NX.2.1 (by omega) ⟨by omega, by omega⟩) | (rw [show x11 = j + 1 by omega]; exact NX.2.2 (by omega) (by omega))
            rw [hnx] at NO
            simp only [] at NO
            exact ih_loop τ4 i x11 x5 x8 (by omega) (by omega) (by omega) ⟨by rw [NO.2.2.2.2.2.2, ← hlf.1]; exact ex8, NO.2.2.2.2.2.1⟩ hfw (fun k x y => hrec2 k x (by omega)) (fun k x => by rw [hwy k (by omega), show x5 = m + 1 by omega]; exact wayL_go (by omega) (by omega) hne hnx)
          · refine g_aload_n hΓ rfl dX0_laysWay_147 ?_
            refine x_geta (r := some (P.2.1 12)) (c := 0) hE hΓ in_X0 rfl hp.1 ⟨by decide, rfl⟩ 12 (ji := 12) rfl (by decide) (by decide) rfl q258 rfl rfl ((ρ1f (P.1) 12 (by rw [hp.1]; decide)).trans (pA_r hp 12 rfl rfl)) dX0_laysWay_148 ?_
            show gW Γ E (xM E S τ4 ρ1) 0 0 _ _ (.ref (P.2.1 12) :: _)
            refine g_iload hΓ rfl dX0_laysWay_151 ?_
            refine g_iconst hΓ dX0_laysWay_153 ?_
            refine g_iadd hΓ dX0_laysWay_154 ?_
            refine x_aaldG (r := some (P.2.2 12 (i + 1))) hΓ (pA_k hp 12 rfl (n := 62) rfl) (pA_n hp 12 rfl (n := 16) rfl) ⟨by decide, rfl⟩ (by omega) (by omega) (pG_r hp1 12 rfl (n := 16) rfl (i := i + 1) (by omega)) dX0_laysWay_155 ?_
            show gW Γ E (xM E S τ4 ρ1) 0 0 _ _ (.ref (P.2.2 12 (i + 1)) :: _)
            refine g_iload hΓ rfl dX0_laysWay_156 ?_
            refine x_iald hΓ (pG_k hp 12 rfl (n := 16) rfl (i := (i + 1)) (by omega) (m := 112) rfl) (pG_n hp 12 rfl (n := 16) rfl (i := (i + 1)) (by omega) (m := 16) rfl) ⟨by decide, rfl⟩ (by omega) (by omega) dX0_laysWay_158 ?_
            refine g_topi ((hT9 (i + 1) j (by omega) (by omega) (by omega) (by omega))) ?_
            refine g_iload hΓ rfl dX0_laysWay_159 ?_
            refine g_icmp_ne (tgt := 170) hΓ (by omega) (by omega) dX0_laysWay_161 (by decide) (fun c12 => ?_) (fun c12 => ?_)
            · obtain ⟨x13, ex13⟩ : ∃ z9 : Int, z9 = j + 1 := ⟨_, rfl⟩
              refine g_iinc hΓ dX0_laysWay_170 rfl rfl (lv' := [some (.ref (P.1)), some (.ref a), some (.ref b), some (.int (iI (σ 0 1042))), some (.int (iI i)), some (.int (iI x13)), some (.int (iI x5)), some (.int (iI x8))]) (by rw [ex13]; rfl) ?_
              refine g_goto (tgt := 37) hΓ dX0_laysWay_173 (by decide) ?_
              have hnx : nxt (csd σ sa sb 0) (σ 0 1042) (σ 0 1043) (i, j) = (i, x13) := by
                first | (rw [show i = i + 1 by omega, show x13 = j + 1 by omega]; exact NX.1 ⟨by omega, by omega, by omega⟩) | (rw [show i = i + 1 by omega]; exact NX.2.1 (by omega) ⟨by omega, by omega⟩) | (rw [show x13 = j + 1 by omega]; exact NX.2.2 (by omega) (by omega))
              rw [hnx] at NO
              simp only [] at NO
              exact ih_loop τ4 i x13 x5 x8 (by omega) (by omega) (by omega) ⟨by rw [NO.2.2.2.2.2.2, ← hlf.1]; exact ex8, NO.2.2.2.2.2.1⟩ hfw (fun k x y => hrec2 k x (by omega)) (fun k x => by rw [hwy k (by omega), show x5 = m + 1 by omega]; exact wayL_go (by omega) (by omega) hne hnx)
            · obtain ⟨x14, ex14⟩ : ∃ z9 : Int, z9 = i + 1 := ⟨_, rfl⟩
              refine g_iinc hΓ dX0_laysWay_164 rfl rfl (lv' := [some (.ref (P.1)), some (.ref a), some (.ref b), some (.int (iI (σ 0 1042))), some (.int (iI x14)), some (.int (iI j)), some (.int (iI x5)), some (.int (iI x8))]) (by rw [ex14]; rfl) ?_
              refine g_goto (tgt := 37) hΓ dX0_laysWay_167 (by decide) ?_
              have hnx : nxt (csd σ sa sb 0) (σ 0 1042) (σ 0 1043) (i, j) = (x14, j) := by
                first | (rw [show x14 = i + 1 by omega, show j = j + 1 by omega]; exact NX.1 ⟨by omega, by omega, by omega⟩) | (rw [show x14 = i + 1 by omega]; exact NX.2.1 (by omega) ⟨by omega, by omega⟩) | (rw [show j = j + 1 by omega]; exact NX.2.2 (by omega) (by omega))
              rw [hnx] at NO
              simp only [] at NO
              exact ih_loop τ4 x14 j x5 x8 (by omega) (by omega) (by omega) ⟨by rw [NO.2.2.2.2.2.2, ← hlf.1]; exact ex8, NO.2.2.2.2.2.1⟩ hfw (fun k x y => hrec2 k x (by omega)) (fun k x => by rw [hwy k (by omega), show x5 = m + 1 by omega]; exact wayL_go (by omega) (by omega) hne hnx)
        · refine g_iload hΓ rfl dX0_laysWay_103 ?_
          refine g_iload_n hΓ rfl dX0_laysWay_105 ?_
          refine g_iconst hΓ dX0_laysWay_106 ?_
          refine g_isub hΓ dX0_laysWay_107 ?_
          refine g_icmp_ge (tgt := 139) hΓ (by omega) (by omega) dX0_laysWay_108 (by decide) (fun c15 => ?_) (fun c15 => ?_)
          · refine g_iload hΓ rfl dX0_laysWay_139 ?_
            refine g_iload_n hΓ rfl dX0_laysWay_141 ?_
            refine g_iconst hΓ dX0_laysWay_142 ?_
            refine g_isub hΓ dX0_laysWay_143 ?_
            refine g_icmp_ge (tgt := 170) hΓ (by omega) (by omega) dX0_laysWay_144 (by decide) (fun c16 => ?_) (fun c16 => ?_)
            · obtain ⟨x17, ex17⟩ : ∃ z9 : Int, z9 = j + 1 := ⟨_, rfl⟩
              refine g_iinc hΓ dX0_laysWay_170 rfl rfl (lv' := [some (.ref (P.1)), some (.ref a), some (.ref b), some (.int (iI (σ 0 1042))), some (.int (iI i)), some (.int (iI x17)), some (.int (iI x5)), some (.int (iI x8))]) (by rw [ex17]; rfl) ?_
              refine g_goto (tgt := 37) hΓ dX0_laysWay_173 (by decide) ?_
              have hnx : nxt (csd σ sa sb 0) (σ 0 1042) (σ 0 1043) (i, j) = (i, x17) := by
                first | (rw [show i = i + 1 by omega, show x17 = j + 1 by omega]; exact NX.1 ⟨by omega, by omega, by omega⟩) | (rw [show i = i + 1 by omega]; exact NX.2.1 (by omega) ⟨by omega, by omega⟩) | (rw [show x17 = j + 1 by omega]; exact NX.2.2 (by omega) (by omega))
              rw [hnx] at NO
              simp only [] at NO
              exact ih_loop τ4 i x17 x5 x8 (by omega) (by omega) (by omega) ⟨by rw [NO.2.2.2.2.2.2, ← hlf.1]; exact ex8, NO.2.2.2.2.2.1⟩ hfw (fun k x y => hrec2 k x (by omega)) (fun k x => by rw [hwy k (by omega), show x5 = m + 1 by omega]; exact wayL_go (by omega) (by omega) hne hnx)
            · refine g_aload_n hΓ rfl dX0_laysWay_147 ?_
              refine x_geta (r := some (P.2.1 12)) (c := 0) hE hΓ in_X0 rfl hp.1 ⟨by decide, rfl⟩ 12 (ji := 12) rfl (by decide) (by decide) rfl q258 rfl rfl ((ρ1f (P.1) 12 (by rw [hp.1]; decide)).trans (pA_r hp 12 rfl rfl)) dX0_laysWay_148 ?_
              show gW Γ E (xM E S τ4 ρ1) 0 0 _ _ (.ref (P.2.1 12) :: _)
              refine g_iload hΓ rfl dX0_laysWay_151 ?_
              refine g_iconst hΓ dX0_laysWay_153 ?_
              refine g_iadd hΓ dX0_laysWay_154 ?_
              refine x_aaldG (r := some (P.2.2 12 (i + 1))) hΓ (pA_k hp 12 rfl (n := 62) rfl) (pA_n hp 12 rfl (n := 16) rfl) ⟨by decide, rfl⟩ (by omega) (by omega) (pG_r hp1 12 rfl (n := 16) rfl (i := i + 1) (by omega)) dX0_laysWay_155 ?_
              show gW Γ E (xM E S τ4 ρ1) 0 0 _ _ (.ref (P.2.2 12 (i + 1)) :: _)
              refine g_iload hΓ rfl dX0_laysWay_156 ?_
              refine x_iald hΓ (pG_k hp 12 rfl (n := 16) rfl (i := (i + 1)) (by omega) (m := 112) rfl) (pG_n hp 12 rfl (n := 16) rfl (i := (i + 1)) (by omega) (m := 16) rfl) ⟨by decide, rfl⟩ (by omega) (by omega) dX0_laysWay_158 ?_
              refine g_topi ((hT9 (i + 1) j (by omega) (by omega) (by omega) (by omega))) ?_
              refine g_iload hΓ rfl dX0_laysWay_159 ?_
              refine g_icmp_ne (tgt := 170) hΓ (by omega) (by omega) dX0_laysWay_161 (by decide) (fun c18 => ?_) (fun c18 => ?_)
              · obtain ⟨x19, ex19⟩ : ∃ z9 : Int, z9 = j + 1 := ⟨_, rfl⟩
                refine g_iinc hΓ dX0_laysWay_170 rfl rfl (lv' := [some (.ref (P.1)), some (.ref a), some (.ref b), some (.int (iI (σ 0 1042))), some (.int (iI i)), some (.int (iI x19)), some (.int (iI x5)), some (.int (iI x8))]) (by rw [ex19]; rfl) ?_
                refine g_goto (tgt := 37) hΓ dX0_laysWay_173 (by decide) ?_
                have hnx : nxt (csd σ sa sb 0) (σ 0 1042) (σ 0 1043) (i, j) = (i, x19) := by
                  first | (rw [show i = i + 1 by omega, show x19 = j + 1 by omega]; exact NX.1 ⟨by omega, by omega, by omega⟩) | (rw [show i = i + 1 by omega]; exact NX.2.1 (by omega) ⟨by omega, by omega⟩) | (rw [show x19 = j + 1 by omega]; exact NX.2.2 (by omega) (by omega))
                rw [hnx] at NO
                simp only [] at NO
                exact ih_loop τ4 i x19 x5 x8 (by omega) (by omega) (by omega) ⟨by rw [NO.2.2.2.2.2.2, ← hlf.1]; exact ex8, NO.2.2.2.2.2.1⟩ hfw (fun k x y => hrec2 k x (by omega)) (fun k x => by rw [hwy k (by omega), show x5 = m + 1 by omega]; exact wayL_go (by omega) (by omega) hne hnx)
              · obtain ⟨x20, ex20⟩ : ∃ z9 : Int, z9 = i + 1 := ⟨_, rfl⟩
                refine g_iinc hΓ dX0_laysWay_164 rfl rfl (lv' := [some (.ref (P.1)), some (.ref a), some (.ref b), some (.int (iI (σ 0 1042))), some (.int (iI x20)), some (.int (iI j)), some (.int (iI x5)), some (.int (iI x8))]) (by rw [ex20]; rfl) ?_
                refine g_goto (tgt := 37) hΓ dX0_laysWay_167 (by decide) ?_
                have hnx : nxt (csd σ sa sb 0) (σ 0 1042) (σ 0 1043) (i, j) = (x20, j) := by
                  first | (rw [show x20 = i + 1 by omega, show j = j + 1 by omega]; exact NX.1 ⟨by omega, by omega, by omega⟩) | (rw [show x20 = i + 1 by omega]; exact NX.2.1 (by omega) ⟨by omega, by omega⟩) | (rw [show j = j + 1 by omega]; exact NX.2.2 (by omega) (by omega))
                rw [hnx] at NO
                simp only [] at NO
                exact ih_loop τ4 x20 j x5 x8 (by omega) (by omega) (by omega) ⟨by rw [NO.2.2.2.2.2.2, ← hlf.1]; exact ex8, NO.2.2.2.2.2.1⟩ hfw (fun k x y => hrec2 k x (by omega)) (fun k x => by rw [hwy k (by omega), show x5 = m + 1 by omega]; exact wayL_go (by omega) (by omega) hne hnx)
          · refine g_aload_n hΓ rfl dX0_laysWay_111 ?_
            refine x_geta (r := some (P.2.1 12)) (c := 0) hE hΓ in_X0 rfl hp.1 ⟨by decide, rfl⟩ 12 (ji := 12) rfl (by decide) (by decide) rfl q258 rfl rfl ((ρ1f (P.1) 12 (by rw [hp.1]; decide)).trans (pA_r hp 12 rfl rfl)) dX0_laysWay_112 ?_
            show gW Γ E (xM E S τ4 ρ1) 0 0 _ _ (.ref (P.2.1 12) :: _)
            refine g_iload hΓ rfl dX0_laysWay_115 ?_
            refine g_iconst hΓ dX0_laysWay_117 ?_
            refine g_iadd hΓ dX0_laysWay_118 ?_
            refine x_aaldG (r := some (P.2.2 12 (i + 1))) hΓ (pA_k hp 12 rfl (n := 62) rfl) (pA_n hp 12 rfl (n := 16) rfl) ⟨by decide, rfl⟩ (by omega) (by omega) (pG_r hp1 12 rfl (n := 16) rfl (i := i + 1) (by omega)) dX0_laysWay_119 ?_
            show gW Γ E (xM E S τ4 ρ1) 0 0 _ _ (.ref (P.2.2 12 (i + 1)) :: _)
            refine g_iload hΓ rfl dX0_laysWay_120 ?_
            refine g_iconst hΓ dX0_laysWay_122 ?_
            refine g_iadd hΓ dX0_laysWay_123 ?_
            refine x_iald hΓ (pG_k hp 12 rfl (n := 16) rfl (i := (i + 1)) (by omega) (m := 112) rfl) (pG_n hp 12 rfl (n := 16) rfl (i := (i + 1)) (by omega) (m := 16) rfl) ⟨by decide, rfl⟩ (by omega) (by omega) dX0_laysWay_124 ?_
            refine g_topi ((hT9 (i + 1) (j + 1) (by omega) (by omega) (by omega) (by omega))) ?_
            refine g_iload hΓ rfl dX0_laysWay_125 ?_
            refine g_icmp_ne (tgt := 139) hΓ (by omega) (by omega) dX0_laysWay_127 (by decide) (fun c21 => ?_) (fun c21 => ?_)
            · refine g_iload hΓ rfl dX0_laysWay_139 ?_
              refine g_iload_n hΓ rfl dX0_laysWay_141 ?_
              refine g_iconst hΓ dX0_laysWay_142 ?_
              refine g_isub hΓ dX0_laysWay_143 ?_
              refine g_icmp_ge (tgt := 170) hΓ (by omega) (by omega) dX0_laysWay_144 (by decide) (fun c22 => ?_) (fun c22 => ?_)
              · obtain ⟨x23, ex23⟩ : ∃ z9 : Int, z9 = j + 1 := ⟨_, rfl⟩
                refine g_iinc hΓ dX0_laysWay_170 rfl rfl (lv' := [some (.ref (P.1)), some (.ref a), some (.ref b), some (.int (iI (σ 0 1042))), some (.int (iI i)), some (.int (iI x23)), some (.int (iI x5)), some (.int (iI x8))]) (by rw [ex23]; rfl) ?_
                refine g_goto (tgt := 37) hΓ dX0_laysWay_173 (by decide) ?_
                have hnx : nxt (csd σ sa sb 0) (σ 0 1042) (σ 0 1043) (i, j) = (i, x23) := by
                  first | (rw [show i = i + 1 by omega, show x23 = j + 1 by omega]; exact NX.1 ⟨by omega, by omega, by omega⟩) | (rw [show i = i + 1 by omega]; exact NX.2.1 (by omega) ⟨by omega, by omega⟩) | (rw [show x23 = j + 1 by omega]; exact NX.2.2 (by omega) (by omega))
                rw [hnx] at NO
                simp only [] at NO
                exact ih_loop τ4 i x23 x5 x8 (by omega) (by omega) (by omega) ⟨by rw [NO.2.2.2.2.2.2, ← hlf.1]; exact ex8, NO.2.2.2.2.2.1⟩ hfw (fun k x y => hrec2 k x (by omega)) (fun k x => by rw [hwy k (by omega), show x5 = m + 1 by omega]; exact wayL_go (by omega) (by omega) hne hnx)
              · refine g_aload_n hΓ rfl dX0_laysWay_147 ?_
                refine x_geta (r := some (P.2.1 12)) (c := 0) hE hΓ in_X0 rfl hp.1 ⟨by decide, rfl⟩ 12 (ji := 12) rfl (by decide) (by decide) rfl q258 rfl rfl ((ρ1f (P.1) 12 (by rw [hp.1]; decide)).trans (pA_r hp 12 rfl rfl)) dX0_laysWay_148 ?_
                show gW Γ E (xM E S τ4 ρ1) 0 0 _ _ (.ref (P.2.1 12) :: _)
                refine g_iload hΓ rfl dX0_laysWay_151 ?_
                refine g_iconst hΓ dX0_laysWay_153 ?_
                refine g_iadd hΓ dX0_laysWay_154 ?_
                refine x_aaldG (r := some (P.2.2 12 (i + 1))) hΓ (pA_k hp 12 rfl (n := 62) rfl) (pA_n hp 12 rfl (n := 16) rfl) ⟨by decide, rfl⟩ (by omega) (by omega) (pG_r hp1 12 rfl (n := 16) rfl (i := i + 1) (by omega)) dX0_laysWay_155 ?_
                show gW Γ E (xM E S τ4 ρ1) 0 0 _ _ (.ref (P.2.2 12 (i + 1)) :: _)
                refine g_iload hΓ rfl dX0_laysWay_156 ?_
                refine x_iald hΓ (pG_k hp 12 rfl (n := 16) rfl (i := (i + 1)) (by omega) (m := 112) rfl) (pG_n hp 12 rfl (n := 16) rfl (i := (i + 1)) (by omega) (m := 16) rfl) ⟨by decide, rfl⟩ (by omega) (by omega) dX0_laysWay_158 ?_
                refine g_topi ((hT9 (i + 1) j (by omega) (by omega) (by omega) (by omega))) ?_
                refine g_iload hΓ rfl dX0_laysWay_159 ?_
                refine g_icmp_ne (tgt := 170) hΓ (by omega) (by omega) dX0_laysWay_161 (by decide) (fun c24 => ?_) (fun c24 => ?_)
                · obtain ⟨x25, ex25⟩ : ∃ z9 : Int, z9 = j + 1 := ⟨_, rfl⟩
                  refine g_iinc hΓ dX0_laysWay_170 rfl rfl (lv' := [some (.ref (P.1)), some (.ref a), some (.ref b), some (.int (iI (σ 0 1042))), some (.int (iI i)), some (.int (iI x25)), some (.int (iI x5)), some (.int (iI x8))]) (by rw [ex25]; rfl) ?_
                  refine g_goto (tgt := 37) hΓ dX0_laysWay_173 (by decide) ?_
                  have hnx : nxt (csd σ sa sb 0) (σ 0 1042) (σ 0 1043) (i, j) = (i, x25) := by
                    first | (rw [show i = i + 1 by omega, show x25 = j + 1 by omega]; exact NX.1 ⟨by omega, by omega, by omega⟩) | (rw [show i = i + 1 by omega]; exact NX.2.1 (by omega) ⟨by omega, by omega⟩) | (rw [show x25 = j + 1 by omega]; exact NX.2.2 (by omega) (by omega))
                  rw [hnx] at NO
                  simp only [] at NO
                  exact ih_loop τ4 i x25 x5 x8 (by omega) (by omega) (by omega) ⟨by rw [NO.2.2.2.2.2.2, ← hlf.1]; exact ex8, NO.2.2.2.2.2.1⟩ hfw (fun k x y => hrec2 k x (by omega)) (fun k x => by rw [hwy k (by omega), show x5 = m + 1 by omega]; exact wayL_go (by omega) (by omega) hne hnx)
                · obtain ⟨x26, ex26⟩ : ∃ z9 : Int, z9 = i + 1 := ⟨_, rfl⟩
                  refine g_iinc hΓ dX0_laysWay_164 rfl rfl (lv' := [some (.ref (P.1)), some (.ref a), some (.ref b), some (.int (iI (σ 0 1042))), some (.int (iI x26)), some (.int (iI j)), some (.int (iI x5)), some (.int (iI x8))]) (by rw [ex26]; rfl) ?_
                  refine g_goto (tgt := 37) hΓ dX0_laysWay_167 (by decide) ?_
                  have hnx : nxt (csd σ sa sb 0) (σ 0 1042) (σ 0 1043) (i, j) = (x26, j) := by
                    first | (rw [show x26 = i + 1 by omega, show j = j + 1 by omega]; exact NX.1 ⟨by omega, by omega, by omega⟩) | (rw [show x26 = i + 1 by omega]; exact NX.2.1 (by omega) ⟨by omega, by omega⟩) | (rw [show j = j + 1 by omega]; exact NX.2.2 (by omega) (by omega))
                  rw [hnx] at NO
                  simp only [] at NO
                  exact ih_loop τ4 x26 j x5 x8 (by omega) (by omega) (by omega) ⟨by rw [NO.2.2.2.2.2.2, ← hlf.1]; exact ex8, NO.2.2.2.2.2.1⟩ hfw (fun k x y => hrec2 k x (by omega)) (fun k x => by rw [hwy k (by omega), show x5 = m + 1 by omega]; exact wayL_go (by omega) (by omega) hne hnx)
            · obtain ⟨x27, ex27⟩ : ∃ z9 : Int, z9 = i + 1 := ⟨_, rfl⟩
              refine g_iinc hΓ dX0_laysWay_130 rfl rfl (lv' := [some (.ref (P.1)), some (.ref a), some (.ref b), some (.int (iI (σ 0 1042))), some (.int (iI x27)), some (.int (iI j)), some (.int (iI x5)), some (.int (iI x8))]) (by rw [ex27]; rfl) ?_
              obtain ⟨x28, ex28⟩ : ∃ z9 : Int, z9 = j + 1 := ⟨_, rfl⟩
              refine g_iinc hΓ dX0_laysWay_133 rfl rfl (lv' := [some (.ref (P.1)), some (.ref a), some (.ref b), some (.int (iI (σ 0 1042))), some (.int (iI x27)), some (.int (iI x28)), some (.int (iI x5)), some (.int (iI x8))]) (by rw [ex28]; rfl) ?_
              refine g_goto (tgt := 37) hΓ dX0_laysWay_136 (by decide) ?_
              have hnx : nxt (csd σ sa sb 0) (σ 0 1042) (σ 0 1043) (i, j) = (x27, x28) := by
                first | (rw [show x27 = i + 1 by omega, show x28 = j + 1 by omega]; exact NX.1 ⟨by omega, by omega, by omega⟩) | (rw [show x27 = i + 1 by omega]; exact NX.2.1 (by omega) ⟨by omega, by omega⟩) | (rw [show x28 = j + 1 by omega]; exact NX.2.2 (by omega) (by omega))
              rw [hnx] at NO
              simp only [] at NO
              exact ih_loop τ4 x27 x28 x5 x8 (by omega) (by omega) (by omega) ⟨by rw [NO.2.2.2.2.2.2, ← hlf.1]; exact ex8, NO.2.2.2.2.2.1⟩ hfw (fun k x y => hrec2 k x (by omega)) (fun k x => by rw [hwy k (by omega), show x5 = m + 1 by omega]; exact wayL_go (by omega) (by omega) hne hnx)
      · refine g_iload hΓ rfl dX0_laysWay_66 ?_
        refine g_iload_n hΓ rfl dX0_laysWay_68 ?_
        refine g_iconst hΓ dX0_laysWay_69 ?_
        refine g_isub hΓ dX0_laysWay_70 ?_
        refine g_icmp_ne (tgt := 77) hΓ (by omega) (by omega) dX0_laysWay_71 (by decide) (fun c29 => ?_) (fun c29 => ?_)
        · refine g_iload hΓ rfl dX0_laysWay_77 ?_
          refine g_aload_n hΓ rfl dX0_laysWay_79 ?_
          refine x_geta (r := some (Z 20)) (c := 0) hE hΓ in_X0 rfl hp.1 ⟨by decide, rfl⟩ 11 (ji := 11) rfl (by decide) (by decide) rfl q257 rfl rfl ((ρ1f (P.1) 11 (by rw [hp.1]; decide)).trans hp.2.2.2.2.2.1) dX0_laysWay_80 ?_
          show gW Γ E (xM E S τ4 ρ1) 0 0 _ _ (.ref (Z 20) :: _)
          refine g_iload hΓ rfl dX0_laysWay_83 ?_
          refine g_iload hΓ rfl dX0_laysWay_85 ?_
          refine hL Γ _ _ _ _ _ _ _ _ _ _ _ _ _ [.int (iI lf)] _ _ _ _ hΓ rfl (x_X0_lambda_new_0 hE hX S τ4 ρ1 (Z 21) ra rb kb i j (by rw [← hz]; exact hp.1) (by rw [← hz]; exact hA1) (by rw [← hz]; exact hB1) hkb (by omega) (by omega) (by rw [hra9, hrb9]; exact ⟨by rw [(hcd i (by omega) (by omega)).1]; exact cdb_r _ _ _ _, by rw [(hcd j (by omega) (by omega)).2]; exact cdb_r _ _ _ _⟩)) (by decide) rfl (Nat.le_of_ble_eq_true rfl) dX0_laysWay_87 (fun v30 M30 h30 => ?_)
          obtain ⟨S30, τ30, ρ30, M30e, rfl, S30e, τ30e, ρ30e⟩ := h30
          rw [M30e, S30e, τ30e, ρ30e]
          clear M30e S30e τ30e ρ30e
          show gW Γ E (xM E S τ4 ρ1) _ _ _ _ (.int (iI (apt (τ4 ra i) (τ4 rb j))) :: _)
          refine g_topi (show apt (τ4 ra i) (τ4 rb j) = csd σ sa sb 0 i j by rw [hra9, hrb9, (hcd i (by omega) (by omega)).1, (hcd j (by omega) (by omega)).2]; rfl) ?_
          refine g_isub hΓ dX0_laysWay_92 ?_
          obtain ⟨x31, ex31⟩ : ∃ z9 : Int, z9 = lf - (csd σ sa sb 0 i j) := ⟨_, rfl⟩
          refine g_topi ex31.symm ?_
          refine g_istore hΓ dX0_laysWay_93 rfl (Nat.le_of_ble_eq_true rfl) (lv' := [some (.ref (P.1)), some (.ref a), some (.ref b), some (.int (iI (σ 0 1042))), some (.int (iI i)), some (.int (iI j)), some (.int (iI x5)), some (.int (iI x31))]) rfl ?_
          have hne : ¬ (i = σ 0 1042 - 1 ∧ j = σ 0 1042 - 1) := by omega
          have NX := nxt_cmp hcr h1042.2 (w := (σ 0 1043)) (by omega) (by omega) hlf.2 hne (lf := x31) (by rw [← hlf.1]; exact ex31)
          have NO := nxt_ok hcr (p := (i, j)) (w := (σ 0 1043)) (e := σ 0 1042) (by show i < _; omega) (by show j < _; omega) hlf.2 hne
          have ef1 := fa_r (elT_ok (w := (σ 0 1043)) hcr h1042.2 (i := i + 1) (j := j + 1) (by omega) (by omega))
          have ef2 := fa_r (elT_ok (w := (σ 0 1043)) hcr h1042.2 (i := i + 1) (j := j) (by omega) (by omega))
          have hcij := hcr i j
          have htr := elT_r (c := (csd σ sa sb 0)) (e := σ 0 1042) (w := (σ 0 1043)) (i := i) (j := j) hcr
          refine g_iload hΓ rfl dX0_laysWay_95 ?_
          refine g_iload_n hΓ rfl dX0_laysWay_97 ?_
          refine g_iconst hΓ dX0_laysWay_98 ?_
          refine g_isub hΓ dX0_laysWay_99 ?_
          refine g_icmp_ge (tgt := 139) hΓ (by omega) (by omega) dX0_laysWay_100 (by decide) (fun c32 => ?_) (fun c32 => ?_)
          · refine g_iload hΓ rfl dX0_laysWay_139 ?_
            refine g_iload_n hΓ rfl dX0_laysWay_141 ?_
            refine g_iconst hΓ dX0_laysWay_142 ?_
            refine g_isub hΓ dX0_laysWay_143 ?_
            refine g_icmp_ge (tgt := 170) hΓ (by omega) (by omega) dX0_laysWay_144 (by decide) (fun c33 => ?_) (fun c33 => ?_)
            · obtain ⟨x34, ex34⟩ : ∃ z9 : Int, z9 = j + 1 := ⟨_, rfl⟩
              refine g_iinc hΓ dX0_laysWay_170 rfl rfl (lv' := [some (.ref (P.1)), some (.ref a), some (.ref b), some (.int (iI (σ 0 1042))), some (.int (iI i)), some (.int (iI x34)), some (.int (iI x5)), some (.int (iI x31))]) (by rw [ex34]; rfl) ?_
              refine g_goto (tgt := 37) hΓ dX0_laysWay_173 (by decide) ?_
              have hnx : nxt (csd σ sa sb 0) (σ 0 1042) (σ 0 1043) (i, j) = (i, x34) := by
                first | (rw [show i = i + 1 by omega, show x34 = j + 1 by omega]; exact NX.1 ⟨by omega, by omega, by omega⟩) | (rw [show i = i + 1 by omega]; exact NX.2.1 (by omega) ⟨by omega, by omega⟩) | (rw [show x34 = j + 1 by omega]; exact NX.2.2 (by omega) (by omega))
              rw [hnx] at NO
              simp only [] at NO
              exact ih_loop τ4 i x34 x5 x31 (by omega) (by omega) (by omega) ⟨by rw [NO.2.2.2.2.2.2, ← hlf.1]; exact ex31, NO.2.2.2.2.2.1⟩ hfw (fun k x y => hrec2 k x (by omega)) (fun k x => by rw [hwy k (by omega), show x5 = m + 1 by omega]; exact wayL_go (by omega) (by omega) hne hnx)
            · refine g_aload_n hΓ rfl dX0_laysWay_147 ?_
              refine x_geta (r := some (P.2.1 12)) (c := 0) hE hΓ in_X0 rfl hp.1 ⟨by decide, rfl⟩ 12 (ji := 12) rfl (by decide) (by decide) rfl q258 rfl rfl ((ρ1f (P.1) 12 (by rw [hp.1]; decide)).trans (pA_r hp 12 rfl rfl)) dX0_laysWay_148 ?_
              show gW Γ E (xM E S τ4 ρ1) 0 0 _ _ (.ref (P.2.1 12) :: _)
              refine g_iload hΓ rfl dX0_laysWay_151 ?_
              refine g_iconst hΓ dX0_laysWay_153 ?_
              refine g_iadd hΓ dX0_laysWay_154 ?_
              refine x_aaldG (r := some (P.2.2 12 (i + 1))) hΓ (pA_k hp 12 rfl (n := 62) rfl) (pA_n hp 12 rfl (n := 16) rfl) ⟨by decide, rfl⟩ (by omega) (by omega) (pG_r hp1 12 rfl (n := 16) rfl (i := i + 1) (by omega)) dX0_laysWay_155 ?_
              show gW Γ E (xM E S τ4 ρ1) 0 0 _ _ (.ref (P.2.2 12 (i + 1)) :: _)
              refine g_iload hΓ rfl dX0_laysWay_156 ?_
              refine x_iald hΓ (pG_k hp 12 rfl (n := 16) rfl (i := (i + 1)) (by omega) (m := 112) rfl) (pG_n hp 12 rfl (n := 16) rfl (i := (i + 1)) (by omega) (m := 16) rfl) ⟨by decide, rfl⟩ (by omega) (by omega) dX0_laysWay_158 ?_
              refine g_topi ((hT9 (i + 1) j (by omega) (by omega) (by omega) (by omega))) ?_
              refine g_iload hΓ rfl dX0_laysWay_159 ?_
              refine g_icmp_ne (tgt := 170) hΓ (by omega) (by omega) dX0_laysWay_161 (by decide) (fun c35 => ?_) (fun c35 => ?_)
              · obtain ⟨x36, ex36⟩ : ∃ z9 : Int, z9 = j + 1 := ⟨_, rfl⟩
                refine g_iinc hΓ dX0_laysWay_170 rfl rfl (lv' := [some (.ref (P.1)), some (.ref a), some (.ref b), some (.int (iI (σ 0 1042))), some (.int (iI i)), some (.int (iI x36)), some (.int (iI x5)), some (.int (iI x31))]) (by rw [ex36]; rfl) ?_
                refine g_goto (tgt := 37) hΓ dX0_laysWay_173 (by decide) ?_
                have hnx : nxt (csd σ sa sb 0) (σ 0 1042) (σ 0 1043) (i, j) = (i, x36) := by
                  first | (rw [show i = i + 1 by omega, show x36 = j + 1 by omega]; exact NX.1 ⟨by omega, by omega, by omega⟩) | (rw [show i = i + 1 by omega]; exact NX.2.1 (by omega) ⟨by omega, by omega⟩) | (rw [show x36 = j + 1 by omega]; exact NX.2.2 (by omega) (by omega))
                rw [hnx] at NO
                simp only [] at NO
                exact ih_loop τ4 i x36 x5 x31 (by omega) (by omega) (by omega) ⟨by rw [NO.2.2.2.2.2.2, ← hlf.1]; exact ex31, NO.2.2.2.2.2.1⟩ hfw (fun k x y => hrec2 k x (by omega)) (fun k x => by rw [hwy k (by omega), show x5 = m + 1 by omega]; exact wayL_go (by omega) (by omega) hne hnx)
              · obtain ⟨x37, ex37⟩ : ∃ z9 : Int, z9 = i + 1 := ⟨_, rfl⟩
                refine g_iinc hΓ dX0_laysWay_164 rfl rfl (lv' := [some (.ref (P.1)), some (.ref a), some (.ref b), some (.int (iI (σ 0 1042))), some (.int (iI x37)), some (.int (iI j)), some (.int (iI x5)), some (.int (iI x31))]) (by rw [ex37]; rfl) ?_
                refine g_goto (tgt := 37) hΓ dX0_laysWay_167 (by decide) ?_
                have hnx : nxt (csd σ sa sb 0) (σ 0 1042) (σ 0 1043) (i, j) = (x37, j) := by
                  first | (rw [show x37 = i + 1 by omega, show j = j + 1 by omega]; exact NX.1 ⟨by omega, by omega, by omega⟩) | (rw [show x37 = i + 1 by omega]; exact NX.2.1 (by omega) ⟨by omega, by omega⟩) | (rw [show j = j + 1 by omega]; exact NX.2.2 (by omega) (by omega))
                rw [hnx] at NO
                simp only [] at NO
                exact ih_loop τ4 x37 j x5 x31 (by omega) (by omega) (by omega) ⟨by rw [NO.2.2.2.2.2.2, ← hlf.1]; exact ex31, NO.2.2.2.2.2.1⟩ hfw (fun k x y => hrec2 k x (by omega)) (fun k x => by rw [hwy k (by omega), show x5 = m + 1 by omega]; exact wayL_go (by omega) (by omega) hne hnx)
          · refine g_iload hΓ rfl dX0_laysWay_103 ?_
            refine g_iload_n hΓ rfl dX0_laysWay_105 ?_
            refine g_iconst hΓ dX0_laysWay_106 ?_
            refine g_isub hΓ dX0_laysWay_107 ?_
            refine g_icmp_ge (tgt := 139) hΓ (by omega) (by omega) dX0_laysWay_108 (by decide) (fun c38 => ?_) (fun c38 => ?_)
            · refine g_iload hΓ rfl dX0_laysWay_139 ?_
              refine g_iload_n hΓ rfl dX0_laysWay_141 ?_
              refine g_iconst hΓ dX0_laysWay_142 ?_
              refine g_isub hΓ dX0_laysWay_143 ?_
              refine g_icmp_ge (tgt := 170) hΓ (by omega) (by omega) dX0_laysWay_144 (by decide) (fun c39 => ?_) (fun c39 => ?_)
              · obtain ⟨x40, ex40⟩ : ∃ z9 : Int, z9 = j + 1 := ⟨_, rfl⟩
                refine g_iinc hΓ dX0_laysWay_170 rfl rfl (lv' := [some (.ref (P.1)), some (.ref a), some (.ref b), some (.int (iI (σ 0 1042))), some (.int (iI i)), some (.int (iI x40)), some (.int (iI x5)), some (.int (iI x31))]) (by rw [ex40]; rfl) ?_
                refine g_goto (tgt := 37) hΓ dX0_laysWay_173 (by decide) ?_
                have hnx : nxt (csd σ sa sb 0) (σ 0 1042) (σ 0 1043) (i, j) = (i, x40) := by
                  first | (rw [show i = i + 1 by omega, show x40 = j + 1 by omega]; exact NX.1 ⟨by omega, by omega, by omega⟩) | (rw [show i = i + 1 by omega]; exact NX.2.1 (by omega) ⟨by omega, by omega⟩) | (rw [show x40 = j + 1 by omega]; exact NX.2.2 (by omega) (by omega))
                rw [hnx] at NO
                simp only [] at NO
                exact ih_loop τ4 i x40 x5 x31 (by omega) (by omega) (by omega) ⟨by rw [NO.2.2.2.2.2.2, ← hlf.1]; exact ex31, NO.2.2.2.2.2.1⟩ hfw (fun k x y => hrec2 k x (by omega)) (fun k x => by rw [hwy k (by omega), show x5 = m + 1 by omega]; exact wayL_go (by omega) (by omega) hne hnx)
              · refine g_aload_n hΓ rfl dX0_laysWay_147 ?_
                refine x_geta (r := some (P.2.1 12)) (c := 0) hE hΓ in_X0 rfl hp.1 ⟨by decide, rfl⟩ 12 (ji := 12) rfl (by decide) (by decide) rfl q258 rfl rfl ((ρ1f (P.1) 12 (by rw [hp.1]; decide)).trans (pA_r hp 12 rfl rfl)) dX0_laysWay_148 ?_
                show gW Γ E (xM E S τ4 ρ1) 0 0 _ _ (.ref (P.2.1 12) :: _)
                refine g_iload hΓ rfl dX0_laysWay_151 ?_
                refine g_iconst hΓ dX0_laysWay_153 ?_
                refine g_iadd hΓ dX0_laysWay_154 ?_
                refine x_aaldG (r := some (P.2.2 12 (i + 1))) hΓ (pA_k hp 12 rfl (n := 62) rfl) (pA_n hp 12 rfl (n := 16) rfl) ⟨by decide, rfl⟩ (by omega) (by omega) (pG_r hp1 12 rfl (n := 16) rfl (i := i + 1) (by omega)) dX0_laysWay_155 ?_
                show gW Γ E (xM E S τ4 ρ1) 0 0 _ _ (.ref (P.2.2 12 (i + 1)) :: _)
                refine g_iload hΓ rfl dX0_laysWay_156 ?_
                refine x_iald hΓ (pG_k hp 12 rfl (n := 16) rfl (i := (i + 1)) (by omega) (m := 112) rfl) (pG_n hp 12 rfl (n := 16) rfl (i := (i + 1)) (by omega) (m := 16) rfl) ⟨by decide, rfl⟩ (by omega) (by omega) dX0_laysWay_158 ?_
                refine g_topi ((hT9 (i + 1) j (by omega) (by omega) (by omega) (by omega))) ?_
                refine g_iload hΓ rfl dX0_laysWay_159 ?_
                refine g_icmp_ne (tgt := 170) hΓ (by omega) (by omega) dX0_laysWay_161 (by decide) (fun c41 => ?_) (fun c41 => ?_)
                · obtain ⟨x42, ex42⟩ : ∃ z9 : Int, z9 = j + 1 := ⟨_, rfl⟩
                  refine g_iinc hΓ dX0_laysWay_170 rfl rfl (lv' := [some (.ref (P.1)), some (.ref a), some (.ref b), some (.int (iI (σ 0 1042))), some (.int (iI i)), some (.int (iI x42)), some (.int (iI x5)), some (.int (iI x31))]) (by rw [ex42]; rfl) ?_
                  refine g_goto (tgt := 37) hΓ dX0_laysWay_173 (by decide) ?_
                  have hnx : nxt (csd σ sa sb 0) (σ 0 1042) (σ 0 1043) (i, j) = (i, x42) := by
                    first | (rw [show i = i + 1 by omega, show x42 = j + 1 by omega]; exact NX.1 ⟨by omega, by omega, by omega⟩) | (rw [show i = i + 1 by omega]; exact NX.2.1 (by omega) ⟨by omega, by omega⟩) | (rw [show x42 = j + 1 by omega]; exact NX.2.2 (by omega) (by omega))
                  rw [hnx] at NO
                  simp only [] at NO
                  exact ih_loop τ4 i x42 x5 x31 (by omega) (by omega) (by omega) ⟨by rw [NO.2.2.2.2.2.2, ← hlf.1]; exact ex31, NO.2.2.2.2.2.1⟩ hfw (fun k x y => hrec2 k x (by omega)) (fun k x => by rw [hwy k (by omega), show x5 = m + 1 by omega]; exact wayL_go (by omega) (by omega) hne hnx)
                · obtain ⟨x43, ex43⟩ : ∃ z9 : Int, z9 = i + 1 := ⟨_, rfl⟩
                  refine g_iinc hΓ dX0_laysWay_164 rfl rfl (lv' := [some (.ref (P.1)), some (.ref a), some (.ref b), some (.int (iI (σ 0 1042))), some (.int (iI x43)), some (.int (iI j)), some (.int (iI x5)), some (.int (iI x31))]) (by rw [ex43]; rfl) ?_
                  refine g_goto (tgt := 37) hΓ dX0_laysWay_167 (by decide) ?_
                  have hnx : nxt (csd σ sa sb 0) (σ 0 1042) (σ 0 1043) (i, j) = (x43, j) := by
                    first | (rw [show x43 = i + 1 by omega, show j = j + 1 by omega]; exact NX.1 ⟨by omega, by omega, by omega⟩) | (rw [show x43 = i + 1 by omega]; exact NX.2.1 (by omega) ⟨by omega, by omega⟩) | (rw [show j = j + 1 by omega]; exact NX.2.2 (by omega) (by omega))
                  rw [hnx] at NO
                  simp only [] at NO
                  exact ih_loop τ4 x43 j x5 x31 (by omega) (by omega) (by omega) ⟨by rw [NO.2.2.2.2.2.2, ← hlf.1]; exact ex31, NO.2.2.2.2.2.1⟩ hfw (fun k x y => hrec2 k x (by omega)) (fun k x => by rw [hwy k (by omega), show x5 = m + 1 by omega]; exact wayL_go (by omega) (by omega) hne hnx)
            · refine g_aload_n hΓ rfl dX0_laysWay_111 ?_
              refine x_geta (r := some (P.2.1 12)) (c := 0) hE hΓ in_X0 rfl hp.1 ⟨by decide, rfl⟩ 12 (ji := 12) rfl (by decide) (by decide) rfl q258 rfl rfl ((ρ1f (P.1) 12 (by rw [hp.1]; decide)).trans (pA_r hp 12 rfl rfl)) dX0_laysWay_112 ?_
              show gW Γ E (xM E S τ4 ρ1) 0 0 _ _ (.ref (P.2.1 12) :: _)
              refine g_iload hΓ rfl dX0_laysWay_115 ?_
              refine g_iconst hΓ dX0_laysWay_117 ?_
              refine g_iadd hΓ dX0_laysWay_118 ?_
              refine x_aaldG (r := some (P.2.2 12 (i + 1))) hΓ (pA_k hp 12 rfl (n := 62) rfl) (pA_n hp 12 rfl (n := 16) rfl) ⟨by decide, rfl⟩ (by omega) (by omega) (pG_r hp1 12 rfl (n := 16) rfl (i := i + 1) (by omega)) dX0_laysWay_119 ?_
              show gW Γ E (xM E S τ4 ρ1) 0 0 _ _ (.ref (P.2.2 12 (i + 1)) :: _)
              refine g_iload hΓ rfl dX0_laysWay_120 ?_
              refine g_iconst hΓ dX0_laysWay_122 ?_
              refine g_iadd hΓ dX0_laysWay_123 ?_
              refine x_iald hΓ (pG_k hp 12 rfl (n := 16) rfl (i := (i + 1)) (by omega) (m := 112) rfl) (pG_n hp 12 rfl (n := 16) rfl (i := (i + 1)) (by omega) (m := 16) rfl) ⟨by decide, rfl⟩ (by omega) (by omega) dX0_laysWay_124 ?_
              refine g_topi ((hT9 (i + 1) (j + 1) (by omega) (by omega) (by omega) (by omega))) ?_
              refine g_iload hΓ rfl dX0_laysWay_125 ?_
              refine g_icmp_ne (tgt := 139) hΓ (by omega) (by omega) dX0_laysWay_127 (by decide) (fun c44 => ?_) (fun c44 => ?_)
              · refine g_iload hΓ rfl dX0_laysWay_139 ?_
                refine g_iload_n hΓ rfl dX0_laysWay_141 ?_
                refine g_iconst hΓ dX0_laysWay_142 ?_
                refine g_isub hΓ dX0_laysWay_143 ?_
                refine g_icmp_ge (tgt := 170) hΓ (by omega) (by omega) dX0_laysWay_144 (by decide) (fun c45 => ?_) (fun c45 => ?_)
                · obtain ⟨x46, ex46⟩ : ∃ z9 : Int, z9 = j + 1 := ⟨_, rfl⟩
                  refine g_iinc hΓ dX0_laysWay_170 rfl rfl (lv' := [some (.ref (P.1)), some (.ref a), some (.ref b), some (.int (iI (σ 0 1042))), some (.int (iI i)), some (.int (iI x46)), some (.int (iI x5)), some (.int (iI x31))]) (by rw [ex46]; rfl) ?_
                  refine g_goto (tgt := 37) hΓ dX0_laysWay_173 (by decide) ?_
                  have hnx : nxt (csd σ sa sb 0) (σ 0 1042) (σ 0 1043) (i, j) = (i, x46) := by
                    first | (rw [show i = i + 1 by omega, show x46 = j + 1 by omega]; exact NX.1 ⟨by omega, by omega, by omega⟩) | (rw [show i = i + 1 by omega]; exact NX.2.1 (by omega) ⟨by omega, by omega⟩) | (rw [show x46 = j + 1 by omega]; exact NX.2.2 (by omega) (by omega))
                  rw [hnx] at NO
                  simp only [] at NO
                  exact ih_loop τ4 i x46 x5 x31 (by omega) (by omega) (by omega) ⟨by rw [NO.2.2.2.2.2.2, ← hlf.1]; exact ex31, NO.2.2.2.2.2.1⟩ hfw (fun k x y => hrec2 k x (by omega)) (fun k x => by rw [hwy k (by omega), show x5 = m + 1 by omega]; exact wayL_go (by omega) (by omega) hne hnx)
                · refine g_aload_n hΓ rfl dX0_laysWay_147 ?_
                  refine x_geta (r := some (P.2.1 12)) (c := 0) hE hΓ in_X0 rfl hp.1 ⟨by decide, rfl⟩ 12 (ji := 12) rfl (by decide) (by decide) rfl q258 rfl rfl ((ρ1f (P.1) 12 (by rw [hp.1]; decide)).trans (pA_r hp 12 rfl rfl)) dX0_laysWay_148 ?_
                  show gW Γ E (xM E S τ4 ρ1) 0 0 _ _ (.ref (P.2.1 12) :: _)
                  refine g_iload hΓ rfl dX0_laysWay_151 ?_
                  refine g_iconst hΓ dX0_laysWay_153 ?_
                  refine g_iadd hΓ dX0_laysWay_154 ?_
                  refine x_aaldG (r := some (P.2.2 12 (i + 1))) hΓ (pA_k hp 12 rfl (n := 62) rfl) (pA_n hp 12 rfl (n := 16) rfl) ⟨by decide, rfl⟩ (by omega) (by omega) (pG_r hp1 12 rfl (n := 16) rfl (i := i + 1) (by omega)) dX0_laysWay_155 ?_
                  show gW Γ E (xM E S τ4 ρ1) 0 0 _ _ (.ref (P.2.2 12 (i + 1)) :: _)
                  refine g_iload hΓ rfl dX0_laysWay_156 ?_
                  refine x_iald hΓ (pG_k hp 12 rfl (n := 16) rfl (i := (i + 1)) (by omega) (m := 112) rfl) (pG_n hp 12 rfl (n := 16) rfl (i := (i + 1)) (by omega) (m := 16) rfl) ⟨by decide, rfl⟩ (by omega) (by omega) dX0_laysWay_158 ?_
                  refine g_topi ((hT9 (i + 1) j (by omega) (by omega) (by omega) (by omega))) ?_
                  refine g_iload hΓ rfl dX0_laysWay_159 ?_
                  refine g_icmp_ne (tgt := 170) hΓ (by omega) (by omega) dX0_laysWay_161 (by decide) (fun c47 => ?_) (fun c47 => ?_)
                  · obtain ⟨x48, ex48⟩ : ∃ z9 : Int, z9 = j + 1 := ⟨_, rfl⟩
                    refine g_iinc hΓ dX0_laysWay_170 rfl rfl (lv' := [some (.ref (P.1)), some (.ref a), some (.ref b), some (.int (iI (σ 0 1042))), some (.int (iI i)), some (.int (iI x48)), some (.int (iI x5)), some (.int (iI x31))]) (by rw [ex48]; rfl) ?_
                    refine g_goto (tgt := 37) hΓ dX0_laysWay_173 (by decide) ?_
                    have hnx : nxt (csd σ sa sb 0) (σ 0 1042) (σ 0 1043) (i, j) = (i, x48) := by
                      first | (rw [show i = i + 1 by omega, show x48 = j + 1 by omega]; exact NX.1 ⟨by omega, by omega, by omega⟩) | (rw [show i = i + 1 by omega]; exact NX.2.1 (by omega) ⟨by omega, by omega⟩) | (rw [show x48 = j + 1 by omega]; exact NX.2.2 (by omega) (by omega))
                    rw [hnx] at NO
                    simp only [] at NO
                    exact ih_loop τ4 i x48 x5 x31 (by omega) (by omega) (by omega) ⟨by rw [NO.2.2.2.2.2.2, ← hlf.1]; exact ex31, NO.2.2.2.2.2.1⟩ hfw (fun k x y => hrec2 k x (by omega)) (fun k x => by rw [hwy k (by omega), show x5 = m + 1 by omega]; exact wayL_go (by omega) (by omega) hne hnx)
                  · obtain ⟨x49, ex49⟩ : ∃ z9 : Int, z9 = i + 1 := ⟨_, rfl⟩
                    refine g_iinc hΓ dX0_laysWay_164 rfl rfl (lv' := [some (.ref (P.1)), some (.ref a), some (.ref b), some (.int (iI (σ 0 1042))), some (.int (iI x49)), some (.int (iI j)), some (.int (iI x5)), some (.int (iI x31))]) (by rw [ex49]; rfl) ?_
                    refine g_goto (tgt := 37) hΓ dX0_laysWay_167 (by decide) ?_
                    have hnx : nxt (csd σ sa sb 0) (σ 0 1042) (σ 0 1043) (i, j) = (x49, j) := by
                      first | (rw [show x49 = i + 1 by omega, show j = j + 1 by omega]; exact NX.1 ⟨by omega, by omega, by omega⟩) | (rw [show x49 = i + 1 by omega]; exact NX.2.1 (by omega) ⟨by omega, by omega⟩) | (rw [show j = j + 1 by omega]; exact NX.2.2 (by omega) (by omega))
                    rw [hnx] at NO
                    simp only [] at NO
                    exact ih_loop τ4 x49 j x5 x31 (by omega) (by omega) (by omega) ⟨by rw [NO.2.2.2.2.2.2, ← hlf.1]; exact ex31, NO.2.2.2.2.2.1⟩ hfw (fun k x y => hrec2 k x (by omega)) (fun k x => by rw [hwy k (by omega), show x5 = m + 1 by omega]; exact wayL_go (by omega) (by omega) hne hnx)
              · obtain ⟨x50, ex50⟩ : ∃ z9 : Int, z9 = i + 1 := ⟨_, rfl⟩
                refine g_iinc hΓ dX0_laysWay_130 rfl rfl (lv' := [some (.ref (P.1)), some (.ref a), some (.ref b), some (.int (iI (σ 0 1042))), some (.int (iI x50)), some (.int (iI j)), some (.int (iI x5)), some (.int (iI x31))]) (by rw [ex50]; rfl) ?_
                obtain ⟨x51, ex51⟩ : ∃ z9 : Int, z9 = j + 1 := ⟨_, rfl⟩
                refine g_iinc hΓ dX0_laysWay_133 rfl rfl (lv' := [some (.ref (P.1)), some (.ref a), some (.ref b), some (.int (iI (σ 0 1042))), some (.int (iI x50)), some (.int (iI x51)), some (.int (iI x5)), some (.int (iI x31))]) (by rw [ex51]; rfl) ?_
                refine g_goto (tgt := 37) hΓ dX0_laysWay_136 (by decide) ?_
                have hnx : nxt (csd σ sa sb 0) (σ 0 1042) (σ 0 1043) (i, j) = (x50, x51) := by
                  first | (rw [show x50 = i + 1 by omega, show x51 = j + 1 by omega]; exact NX.1 ⟨by omega, by omega, by omega⟩) | (rw [show x50 = i + 1 by omega]; exact NX.2.1 (by omega) ⟨by omega, by omega⟩) | (rw [show x51 = j + 1 by omega]; exact NX.2.2 (by omega) (by omega))
                rw [hnx] at NO
                simp only [] at NO
                exact ih_loop τ4 x50 x51 x5 x31 (by omega) (by omega) (by omega) ⟨by rw [NO.2.2.2.2.2.2, ← hlf.1]; exact ex31, NO.2.2.2.2.2.1⟩ hfw (fun k x y => hrec2 k x (by omega)) (fun k x => by rw [hwy k (by omega), show x5 = m + 1 by omega]; exact wayL_go (by omega) (by omega) hne hnx)
        · refine g_iload hΓ rfl dX0_laysWay_74 ?_
          have hend : ∀ k, (k = -1 ∨ m ≤ k) → wayE σ sa sb k = ((i, j), m) := fun k x => by rw [hwy k x]; exact wayL_stop (fun z => z.2 ⟨by omega, by omega⟩) _
          have he1 : (wayE σ sa sb (-1)).2 = m := by rw [hend (-1) (Or.inl rfl)]
          exact x_iret hΓ dX0_laysWay_76 (Nat.zero_le _) (Nat.zero_le _) ⟨ri (by rw [he1]; exact ex5), ⟨Rx_scr hx1 (fr_w hfw (by decide)) fr_rfl (GS_fr hx1.1.1 hfw (m' := []) fr_rfl (by decide) (by decide)), by omega, fun k x => ⟨fun y => hrec2 k x (by omega), fun y => by rw [hend k (by omega)]; show m < k; omega⟩⟩, rfl, fr_t (fun q9 j9 hk9 => by exact (τ1f q9 j9 (fun e9 => hk9 ((show ∀ x ∈ [8003, 42, 43, 44, 112], x ∈ [8003, 42, 43, 44, 112, 63, 64] by decide) _ e9)))) (fr_w hfw (by decide)), (fun q9 j9 hk9 => by exact (ρ1f q9 j9 (fun e9 => hk9 ((show ∀ x ∈ [1009, 1010], x ∈ [1009, 1010] by decide) _ e9))))⟩
  exact loop 41 τ1 0 0 0 x2 (by omega) (by omega) (by omega) ⟨ex2, by have h9 : elT (csd σ sa sb 0) (σ 0 1042) (σ 0 1043) 0 0 = els σ sa sb 0 (σ 0 1043) := rfl; omega⟩ fr_rfl (fun k x y => absurd x (by omega)) (fun k x => rfl)
set_option maxHeartbeats 4000000 in
theorem x_X0_way {l : Launch} {E : gE} {X : State → Prop} {Z : Nat → Nat} {Y : Nat → Option Nat} (hE : E.2.1 = clsX) (hX : xOK l E X Z Y) (hL : xLam l E X (Z 20) (Z 21)) (S : xS) (D : xD) (R : xR) (P : xPk) (σ : mS) (a b k u : Int) (hx : Rx E Z S D R P σ) (ha : r32 a) (hb : r32 b) (hk : r32 k) (hu : r32 u) : xC l E X yX0_way cX0_way 8 (some .int) 8 0 0 [.ref (P.1), .int (iI a), .int (iI b), .int (iI k), .int (iI u)] S D R (fun rv S' D' R' => rv = some (.int (iI (sp_way σ a b k u))) ∧ (Rx E Z S D' R' P σ) ∧ S' = S ∧ fr S D D' [8003, 42, 43, 44, 112, 63, 64] ∧ fr S R R' [1009, 1010]) := by
  refine xC.of hX.1 (by decide) [some (.ref (P.1)), some (.int (iI a)), some (.int (iI b)), some (.int (iI k)), some (.int (iI u)), none, none, none] (Nat.le_of_ble_eq_true rfl) rfl rfl (fun Γ hΓ => ?_)
  obtain ⟨hg, hp, hki, hro, hnw, hbh, hsa, hpd⟩ := id hx
  obtain ⟨N, NI, NM, NV, hN⟩ := (hx).now
  have hAw := hg.2.2.2.2.2.2
  have hG : GS S D R := hg.1
  obtain ⟨h1000, h1009, h1042, h1043, h1044, h1045, h1046, h1047, hms, hsi, hsm, hnm⟩ := id hro
  have eN := hN.2.2.2.2.2.2.2.2.2.2.2.2
  have kNV : (S NV).1 = 45 := by rw [hN.2.2.2.1.2]
  have nNV : (S NV).2.1 = 6 := by rw [hN.2.2.2.1.2]
  refine g_aload_n hΓ rfl dX0_way_0 ?_
  refine g_iload_n hΓ rfl dX0_way_1 ?_
  refine x_callV (As := [.int (iI a)]) (rest := []) (c := 0) hE hΓ (x_X0_told hE hX S D R P σ a hx (by first | assumption | omega) ) hp.1 ⟨by decide, rfl⟩ rfl rfl q990 q992 qs28 q123 q993 ndX0_told rfl (by decide) (by decide) (Nat.zero_le _) (Nat.zero_le _) rfl (Nat.le_of_ble_eq_true rfl) dX0_way_2 rfl (fun v1 S1 τ1 ρ1 h1 => ?_)
  obtain ⟨rfl, h1, S1e, τ1f, ρ1e⟩ := h1
  have S1e := S1e.symm; subst S1e
  have ρ1e := ρ1e.symm; subst ρ1e
  show gW Γ E (xM E S τ1 R) _ _ _ _ (va_rf (if tol σ a = -1 then none else some (tolA R (rf R P.1 4) a)) :: _)
  by_cases ct2 : tol σ a = -1
  · rw [if_pos ct2]
    show gW Γ E (xM E S τ1 R) _ _ _ _ (.null :: _)
    refine g_astoreN hΓ dX0_way_5 rfl (Nat.le_of_ble_eq_true rfl) (lv' := [some (.ref (P.1)), some (.int (iI a)), some (.int (iI b)), some (.int (iI k)), some (.int (iI u)), some (.null), none, none]) rfl ?_
    refine g_aload_n hΓ rfl dX0_way_7 ?_
    refine g_iload_n hΓ rfl dX0_way_8 ?_
    refine x_callV (As := [.int (iI b)]) (rest := []) (c := 0) hE hΓ (x_X0_told hE hX S τ1 R P σ b h1.1 (by first | assumption | omega) ) hp.1 ⟨by decide, rfl⟩ rfl rfl q990 q992 qs28 q123 q993 ndX0_told rfl (by decide) (by decide) (Nat.zero_le _) (Nat.zero_le _) rfl (Nat.le_of_ble_eq_true rfl) dX0_way_9 rfl (fun v3 S3 τ3 ρ3 h3 => ?_)
    obtain ⟨rfl, h3, S3e, τ3f, ρ3e⟩ := h3
    have S3e := S3e.symm; subst S3e
    have ρ3e := ρ3e.symm; subst ρ3e
    show gW Γ E (xM E S τ3 R) _ _ _ _ (va_rf (if tol σ b = -1 then none else some (tolA R (rf R P.1 4) b)) :: _)
    by_cases ct4 : tol σ b = -1
    · rw [if_pos ct4]
      show gW Γ E (xM E S τ3 R) _ _ _ _ (.null :: _)
      refine g_astoreN hΓ dX0_way_12 rfl (Nat.le_of_ble_eq_true rfl) (lv' := [some (.ref (P.1)), some (.int (iI a)), some (.int (iI b)), some (.int (iI k)), some (.int (iI u)), some (.null), some (.null), none]) rfl ?_
      refine g_aloadN hΓ rfl dX0_way_14 ?_
      refine g_ifnullN (tgt := 29) hΓ dX0_way_16 (by decide) ?_
      refine g_iconst hΓ dX0_way_29 ?_
      exact x_iret hΓ dX0_way_30 (Nat.zero_le _) (Nat.zero_le _) ⟨ri (by rw [sp_way]; first | (rw [if_pos (Or.inl (fun h9 => h9.1 (by assumption)))]; done) | (rw [if_pos (Or.inl (fun h9 => h9.2 (by assumption)))]; done) | (rw [if_pos (Or.inr (Or.inl (by omega)))]; done)), h3.1, rfl, (fun q9 j9 hk9 => by exact ((τ3f q9 j9 (fun e9 => hk9 ((show ∀ x ∈ [8003, 42, 43, 44], x ∈ [8003, 42, 43, 44, 112, 63, 64] by decide) _ e9))).trans (τ1f q9 j9 (fun e9 => hk9 ((show ∀ x ∈ [8003, 42, 43, 44], x ∈ [8003, 42, 43, 44, 112, 63, 64] by decide) _ e9))))), (fun q9 j9 hk9 => rfl)⟩
    · rw [if_neg ct4]
      obtain ⟨s4, es4⟩ : ∃ z : Nat, z = tolA R (rf R P.1 4) b := ⟨_, rfl⟩
      rw [← es4]
      show gW Γ E (xM E S τ3 R) _ _ _ _ (.ref s4 :: _)
      have hts4 := h3.2 ct4
      rw [← es4] at hts4
      refine g_astore hΓ dX0_way_12 rfl (Nat.le_of_ble_eq_true rfl) (lv' := [some (.ref (P.1)), some (.int (iI a)), some (.int (iI b)), some (.int (iI k)), some (.int (iI u)), some (.null), some (.ref s4), none]) rfl ?_
      refine g_aloadN hΓ rfl dX0_way_14 ?_
      refine g_ifnullN (tgt := 29) hΓ dX0_way_16 (by decide) ?_
      refine g_iconst hΓ dX0_way_29 ?_
      exact x_iret hΓ dX0_way_30 (Nat.zero_le _) (Nat.zero_le _) ⟨ri (by rw [sp_way]; first | (rw [if_pos (Or.inl (fun h9 => h9.1 (by assumption)))]; done) | (rw [if_pos (Or.inl (fun h9 => h9.2 (by assumption)))]; done) | (rw [if_pos (Or.inr (Or.inl (by omega)))]; done)), h3.1, rfl, (fun q9 j9 hk9 => by exact ((τ3f q9 j9 (fun e9 => hk9 ((show ∀ x ∈ [8003, 42, 43, 44], x ∈ [8003, 42, 43, 44, 112, 63, 64] by decide) _ e9))).trans (τ1f q9 j9 (fun e9 => hk9 ((show ∀ x ∈ [8003, 42, 43, 44], x ∈ [8003, 42, 43, 44, 112, 63, 64] by decide) _ e9))))), (fun q9 j9 hk9 => rfl)⟩
  · rw [if_neg ct2]
    obtain ⟨s2, es2⟩ : ∃ z : Nat, z = tolA R (rf R P.1 4) a := ⟨_, rfl⟩
    rw [← es2]
    show gW Γ E (xM E S τ1 R) _ _ _ _ (.ref s2 :: _)
    have hts2 := h1.2 ct2
    rw [← es2] at hts2
    refine g_astore hΓ dX0_way_5 rfl (Nat.le_of_ble_eq_true rfl) (lv' := [some (.ref (P.1)), some (.int (iI a)), some (.int (iI b)), some (.int (iI k)), some (.int (iI u)), some (.ref s2), none, none]) rfl ?_
    refine g_aload_n hΓ rfl dX0_way_7 ?_
    refine g_iload_n hΓ rfl dX0_way_8 ?_
    refine x_callV (As := [.int (iI b)]) (rest := []) (c := 0) hE hΓ (x_X0_told hE hX S τ1 R P σ b h1.1 (by first | assumption | omega) ) hp.1 ⟨by decide, rfl⟩ rfl rfl q990 q992 qs28 q123 q993 ndX0_told rfl (by decide) (by decide) (Nat.zero_le _) (Nat.zero_le _) rfl (Nat.le_of_ble_eq_true rfl) dX0_way_9 rfl (fun v5 S5 τ5 ρ5 h5 => ?_)
    obtain ⟨rfl, h5, S5e, τ5f, ρ5e⟩ := h5
    have S5e := S5e.symm; subst S5e
    have ρ5e := ρ5e.symm; subst ρ5e
    show gW Γ E (xM E S τ5 R) _ _ _ _ (va_rf (if tol σ b = -1 then none else some (tolA R (rf R P.1 4) b)) :: _)
    by_cases ct6 : tol σ b = -1
    · rw [if_pos ct6]
      show gW Γ E (xM E S τ5 R) _ _ _ _ (.null :: _)
      refine g_astoreN hΓ dX0_way_12 rfl (Nat.le_of_ble_eq_true rfl) (lv' := [some (.ref (P.1)), some (.int (iI a)), some (.int (iI b)), some (.int (iI k)), some (.int (iI u)), some (.ref s2), some (.null), none]) rfl ?_
      refine g_aload hΓ rfl dX0_way_14 ?_
      refine g_ifnull hΓ dX0_way_16 ?_
      refine g_aloadN hΓ rfl dX0_way_19 ?_
      refine g_ifnullN (tgt := 29) hΓ dX0_way_21 (by decide) ?_
      refine g_iconst hΓ dX0_way_29 ?_
      exact x_iret hΓ dX0_way_30 (Nat.zero_le _) (Nat.zero_le _) ⟨ri (by rw [sp_way]; first | (rw [if_pos (Or.inl (fun h9 => h9.1 (by assumption)))]; done) | (rw [if_pos (Or.inl (fun h9 => h9.2 (by assumption)))]; done) | (rw [if_pos (Or.inr (Or.inl (by omega)))]; done)), h5.1, rfl, (fun q9 j9 hk9 => by exact ((τ5f q9 j9 (fun e9 => hk9 ((show ∀ x ∈ [8003, 42, 43, 44], x ∈ [8003, 42, 43, 44, 112, 63, 64] by decide) _ e9))).trans (τ1f q9 j9 (fun e9 => hk9 ((show ∀ x ∈ [8003, 42, 43, 44], x ∈ [8003, 42, 43, 44, 112, 63, 64] by decide) _ e9))))), (fun q9 j9 hk9 => rfl)⟩
    · rw [if_neg ct6]
      obtain ⟨s6, es6⟩ : ∃ z : Nat, z = tolA R (rf R P.1 4) b := ⟨_, rfl⟩
      rw [← es6]
      show gW Γ E (xM E S τ5 R) _ _ _ _ (.ref s6 :: _)
      have hts6 := h5.2 ct6
      rw [← es6] at hts6
      refine g_astore hΓ dX0_way_12 rfl (Nat.le_of_ble_eq_true rfl) (lv' := [some (.ref (P.1)), some (.int (iI a)), some (.int (iI b)), some (.int (iI k)), some (.int (iI u)), some (.ref s2), some (.ref s6), none]) rfl ?_
      refine g_aload hΓ rfl dX0_way_14 ?_
      refine g_ifnull hΓ dX0_way_16 ?_
      refine g_aload hΓ rfl dX0_way_19 ?_
      refine g_ifnull hΓ dX0_way_21 ?_
      refine g_iload_n hΓ rfl dX0_way_24 ?_
      refine g_iconst hΓ dX0_way_25 ?_
      refine g_icmp_ge (tgt := 31) hΓ (by omega) (by omega) dX0_way_26 (by decide) (fun c7 => ?_) (fun c7 => ?_)
      · refine g_aload_n hΓ rfl dX0_way_31 ?_
        refine g_aload hΓ rfl dX0_way_32 ?_
        refine g_aload hΓ rfl dX0_way_34 ?_
        refine x_callV (As := [.ref s2, .ref s6]) (rest := []) (c := 0) hE hΓ (x_X0_laysWay hE hX hL S τ5 R P σ s2 s6 a b h5.1 (skR_scr (h1.1).1.1 (fun q9 j9 hk9 => by exact (τ5f q9 j9 (fun e9 => hk9 ((show ∀ x ∈ [8003, 42, 43, 44], x ∈ SCR by decide) _ e9)))) fr_rfl hts2) hts6 ) hp.1 ⟨by decide, rfl⟩ rfl rfl q1011 q1013 qs31 q123 q1014 ndX0_laysWay rfl (by decide) (by decide) (Nat.zero_le _) (Nat.zero_le _) rfl (Nat.le_of_ble_eq_true rfl) dX0_way_36 rfl (fun v8 S8 τ8 ρ8 h8 => ?_)
        obtain ⟨rfl, h8, S8e, τ8f, ρ8f⟩ := h8
        have S8e := S8e.symm; subst S8e
        show gW Γ E (xM E S τ8 ρ8) _ _ _ _ (.int (iI ((wayE σ a b (-1)).2 + 1)) :: _)
        obtain ⟨x9, ex9⟩ : ∃ z9 : Int, z9 = (wayE σ a b (-1)).2 + 1 := ⟨_, rfl⟩
        refine g_topi ex9.symm ?_
        refine g_istore hΓ dX0_way_39 rfl (Nat.le_of_ble_eq_true rfl) (lv' := [some (.ref (P.1)), some (.int (iI a)), some (.int (iI b)), some (.int (iI k)), some (.int (iI u)), some (.ref s2), some (.ref s6), some (.int (iI x9))]) rfl ?_
        have hwr := h8.2.1
        have hW := h8.2.2
        refine g_iload_n hΓ rfl dX0_way_41 ?_
        refine g_iconst hΓ dX0_way_42 ?_
        refine g_icmp_ne (tgt := 49) hΓ (by omega) (by omega) dX0_way_43 (by decide) (fun c10 => ?_) (fun c10 => ?_)
        · refine g_iload_n hΓ rfl dX0_way_49 ?_
          refine g_iload hΓ rfl dX0_way_50 ?_
          refine g_icmp_ge (tgt := 89) hΓ (by omega) (by omega) dX0_way_52 (by decide) (fun c11 => ?_) (fun c11 => ?_)
          · refine g_iconst hΓ dX0_way_89 ?_
            exact x_iret hΓ dX0_way_90 (Nat.zero_le _) (Nat.zero_le _) ⟨ri (by rw [sp_way]; first | (rw [if_neg (show ¬ (¬ (tol σ a ≠ -1 ∧ tol σ b ≠ -1) ∨ k < -1 ∨ (k ≠ -1 ∧ ¬ (0 ≤ u ∧ u ≤ 1))) from fun h9 => h9.elim (fun z => z ⟨by assumption, by assumption⟩) (by omega)), if_pos (by omega), show k = -1 by omega]; omega) | (rw [if_pos (Or.inr (by omega))]; done) | (by_cases hu9 : 0 ≤ u ∧ u ≤ 1 <;> first | (rw [if_neg (show ¬ (¬ (tol σ a ≠ -1 ∧ tol σ b ≠ -1) ∨ k < -1 ∨ (k ≠ -1 ∧ ¬ (0 ≤ u ∧ u ≤ 1))) from fun h9 => h9.elim (fun z => z ⟨by assumption, by assumption⟩) (by omega)), if_neg (by omega), if_pos ((hW k (by omega)).2 (by omega))]; done) | (rw [if_pos (Or.inr (by omega))]; done)) | (rw [if_neg (show ¬ (¬ (tol σ a ≠ -1 ∧ tol σ b ≠ -1) ∨ k < -1 ∨ (k ≠ -1 ∧ ¬ (0 ≤ u ∧ u ≤ 1))) from fun h9 => h9.elim (fun z => z ⟨by assumption, by assumption⟩) (by omega)), if_neg (by omega), (hW k (by omega)).1 (by omega)]; simp only []; rw [if_neg (by omega)]; first | (rw [if_pos (by omega)]; done) | (rw [if_neg (by omega)]; done))), h8.1, rfl, (fun q9 j9 hk9 => by exact (((τ8f q9 j9 (fun e9 => hk9 ((show ∀ x ∈ [8003, 42, 43, 44, 112, 63, 64], x ∈ [8003, 42, 43, 44, 112, 63, 64] by decide) _ e9))).trans (τ5f q9 j9 (fun e9 => hk9 ((show ∀ x ∈ [8003, 42, 43, 44], x ∈ [8003, 42, 43, 44, 112, 63, 64] by decide) _ e9)))).trans (τ1f q9 j9 (fun e9 => hk9 ((show ∀ x ∈ [8003, 42, 43, 44], x ∈ [8003, 42, 43, 44, 112, 63, 64] by decide) _ e9))))), (fun q9 j9 hk9 => by exact (ρ8f q9 j9 (fun e9 => hk9 ((show ∀ x ∈ [1009, 1010], x ∈ [1009, 1010] by decide) _ e9))))⟩
          · refine g_iload hΓ rfl dX0_way_55 ?_
            refine g_i2l hΓ (by omega) dX0_way_57 ?_
            refine g_lconst (a := 0) hΓ rfl dX0_way_58 ?_
            refine g_lconst (a := 1) hΓ rfl dX0_way_59 ?_
            refine x_callS (As := [.long (lI u), .long (lI 0), .long (lI 1)]) (rest := []) hΓ (x_X0_isIn hE hX S τ8 ρ8 u 0 1 (by first | assumption | omega) (by first | assumption | omega) (by first | assumption | omega)) rfl q387 q388 q123 q389 ndX0_isIn rfl (by decide) (by decide) (Nat.zero_le _) (Nat.zero_le _) rfl (Nat.le_of_ble_eq_true rfl) dX0_way_60 rfl (fun v12 S12 τ12 ρ12 h12 => ?_)
            obtain ⟨rfl, S12e, τ12e, ρ12e⟩ := h12
            have S12e := S12e.symm; subst S12e
            have τ12e := τ12e.symm; subst τ12e
            have ρ12e := ρ12e.symm; subst ρ12e
            show gW Γ E (xM E S τ8 ρ8) _ _ _ _ (.int (iI (if 0 ≤ u ∧ u ≤ 1 then 1 else 0)) :: _)
            refine g_ifB_eq (tgt := 89) hΓ  dX0_way_63 (by decide) (fun c13 => ?_) (fun c13 => ?_)
            · refine g_iconst hΓ dX0_way_89 ?_
              exact x_iret hΓ dX0_way_90 (Nat.zero_le _) (Nat.zero_le _) ⟨ri (by rw [sp_way]; first | (rw [if_neg (show ¬ (¬ (tol σ a ≠ -1 ∧ tol σ b ≠ -1) ∨ k < -1 ∨ (k ≠ -1 ∧ ¬ (0 ≤ u ∧ u ≤ 1))) from fun h9 => h9.elim (fun z => z ⟨by assumption, by assumption⟩) (by omega)), if_pos (by omega), show k = -1 by omega]; omega) | (rw [if_pos (Or.inr (by omega))]; done) | (by_cases hu9 : 0 ≤ u ∧ u ≤ 1 <;> first | (rw [if_neg (show ¬ (¬ (tol σ a ≠ -1 ∧ tol σ b ≠ -1) ∨ k < -1 ∨ (k ≠ -1 ∧ ¬ (0 ≤ u ∧ u ≤ 1))) from fun h9 => h9.elim (fun z => z ⟨by assumption, by assumption⟩) (by omega)), if_neg (by omega), if_pos ((hW k (by omega)).2 (by omega))]; done) | (rw [if_pos (Or.inr (by omega))]; done)) | (rw [if_neg (show ¬ (¬ (tol σ a ≠ -1 ∧ tol σ b ≠ -1) ∨ k < -1 ∨ (k ≠ -1 ∧ ¬ (0 ≤ u ∧ u ≤ 1))) from fun h9 => h9.elim (fun z => z ⟨by assumption, by assumption⟩) (by omega)), if_neg (by omega), (hW k (by omega)).1 (by omega)]; simp only []; rw [if_neg (by omega)]; first | (rw [if_pos (by omega)]; done) | (rw [if_neg (by omega)]; done))), h8.1, rfl, (fun q9 j9 hk9 => by exact (((τ8f q9 j9 (fun e9 => hk9 ((show ∀ x ∈ [8003, 42, 43, 44, 112, 63, 64], x ∈ [8003, 42, 43, 44, 112, 63, 64] by decide) _ e9))).trans (τ5f q9 j9 (fun e9 => hk9 ((show ∀ x ∈ [8003, 42, 43, 44], x ∈ [8003, 42, 43, 44, 112, 63, 64] by decide) _ e9)))).trans (τ1f q9 j9 (fun e9 => hk9 ((show ∀ x ∈ [8003, 42, 43, 44], x ∈ [8003, 42, 43, 44, 112, 63, 64] by decide) _ e9))))), (fun q9 j9 hk9 => by exact (ρ8f q9 j9 (fun e9 => hk9 ((show ∀ x ∈ [1009, 1010], x ∈ [1009, 1010] by decide) _ e9))))⟩
            · refine g_iload hΓ rfl dX0_way_66 ?_
              refine g_if_ne (tgt := 80) hΓ (by omega) dX0_way_68 (by decide) (fun c14 => ?_) (fun c14 => ?_)
              · refine g_aload_n hΓ rfl dX0_way_80 ?_
                refine x_geta (r := some (P.2.1 14)) (c := 0) hE hΓ in_X0 rfl hp.1 ⟨by decide, rfl⟩ 14 (ji := 14) rfl (by decide) (by decide) rfl q260 rfl rfl ((ρ8f (P.1) 14 (by rw [hp.1]; decide)).trans (pA_r hp 14 rfl rfl)) dX0_way_81 ?_
                show gW Γ E (xM E S τ8 ρ8) 0 0 _ _ (.ref (P.2.1 14) :: _)
                refine g_iload_n hΓ rfl dX0_way_84 ?_
                refine x_iald hΓ (pA_k hp 14 rfl (n := 64) rfl) (pA_n hp 14 rfl (n := 32) rfl) ⟨by decide, rfl⟩ (by omega) (by omega) dX0_way_85 ?_
                refine g_goto (tgt := 90) hΓ dX0_way_86 (by decide) ?_
                exact x_iret hΓ dX0_way_90 (Nat.zero_le _) (Nat.zero_le _) ⟨ri (by rw [sp_way]; first | (rw [if_neg (show ¬ (¬ (tol σ a ≠ -1 ∧ tol σ b ≠ -1) ∨ k < -1 ∨ (k ≠ -1 ∧ ¬ (0 ≤ u ∧ u ≤ 1))) from fun h9 => h9.elim (fun z => z ⟨by assumption, by assumption⟩) (by omega)), if_pos (by omega), show k = -1 by omega]; omega) | (rw [if_pos (Or.inr (by omega))]; done) | (by_cases hu9 : 0 ≤ u ∧ u ≤ 1 <;> first | (rw [if_neg (show ¬ (¬ (tol σ a ≠ -1 ∧ tol σ b ≠ -1) ∨ k < -1 ∨ (k ≠ -1 ∧ ¬ (0 ≤ u ∧ u ≤ 1))) from fun h9 => h9.elim (fun z => z ⟨by assumption, by assumption⟩) (by omega)), if_neg (by omega), if_pos ((hW k (by omega)).2 (by omega))]; done) | (rw [if_pos (Or.inr (by omega))]; done)) | (rw [if_neg (show ¬ (¬ (tol σ a ≠ -1 ∧ tol σ b ≠ -1) ∨ k < -1 ∨ (k ≠ -1 ∧ ¬ (0 ≤ u ∧ u ≤ 1))) from fun h9 => h9.elim (fun z => z ⟨by assumption, by assumption⟩) (by omega)), if_neg (by omega), (hW k (by omega)).1 (by omega)]; simp only []; rw [if_neg (by omega)]; first | (rw [if_pos (by omega)]; done) | (rw [if_neg (by omega)]; done))), h8.1, rfl, (fun q9 j9 hk9 => by exact (((τ8f q9 j9 (fun e9 => hk9 ((show ∀ x ∈ [8003, 42, 43, 44, 112, 63, 64], x ∈ [8003, 42, 43, 44, 112, 63, 64] by decide) _ e9))).trans (τ5f q9 j9 (fun e9 => hk9 ((show ∀ x ∈ [8003, 42, 43, 44], x ∈ [8003, 42, 43, 44, 112, 63, 64] by decide) _ e9)))).trans (τ1f q9 j9 (fun e9 => hk9 ((show ∀ x ∈ [8003, 42, 43, 44], x ∈ [8003, 42, 43, 44, 112, 63, 64] by decide) _ e9))))), (fun q9 j9 hk9 => by exact (ρ8f q9 j9 (fun e9 => hk9 ((show ∀ x ∈ [1009, 1010], x ∈ [1009, 1010] by decide) _ e9))))⟩
              · refine g_aload_n hΓ rfl dX0_way_71 ?_
                refine x_geta (r := some (P.2.1 13)) (c := 0) hE hΓ in_X0 rfl hp.1 ⟨by decide, rfl⟩ 13 (ji := 13) rfl (by decide) (by decide) rfl q259 rfl rfl ((ρ8f (P.1) 13 (by rw [hp.1]; decide)).trans (pA_r hp 13 rfl rfl)) dX0_way_72 ?_
                show gW Γ E (xM E S τ8 ρ8) 0 0 _ _ (.ref (P.2.1 13) :: _)
                refine g_iload_n hΓ rfl dX0_way_75 ?_
                refine x_iald hΓ (pA_k hp 13 rfl (n := 63) rfl) (pA_n hp 13 rfl (n := 32) rfl) ⟨by decide, rfl⟩ (by omega) (by omega) dX0_way_76 ?_
                refine g_goto (tgt := 90) hΓ dX0_way_77 (by decide) ?_
                exact x_iret hΓ dX0_way_90 (Nat.zero_le _) (Nat.zero_le _) ⟨ri (by rw [sp_way]; first | (rw [if_neg (show ¬ (¬ (tol σ a ≠ -1 ∧ tol σ b ≠ -1) ∨ k < -1 ∨ (k ≠ -1 ∧ ¬ (0 ≤ u ∧ u ≤ 1))) from fun h9 => h9.elim (fun z => z ⟨by assumption, by assumption⟩) (by omega)), if_pos (by omega), show k = -1 by omega]; omega) | (rw [if_pos (Or.inr (by omega))]; done) | (by_cases hu9 : 0 ≤ u ∧ u ≤ 1 <;> first | (rw [if_neg (show ¬ (¬ (tol σ a ≠ -1 ∧ tol σ b ≠ -1) ∨ k < -1 ∨ (k ≠ -1 ∧ ¬ (0 ≤ u ∧ u ≤ 1))) from fun h9 => h9.elim (fun z => z ⟨by assumption, by assumption⟩) (by omega)), if_neg (by omega), if_pos ((hW k (by omega)).2 (by omega))]; done) | (rw [if_pos (Or.inr (by omega))]; done)) | (rw [if_neg (show ¬ (¬ (tol σ a ≠ -1 ∧ tol σ b ≠ -1) ∨ k < -1 ∨ (k ≠ -1 ∧ ¬ (0 ≤ u ∧ u ≤ 1))) from fun h9 => h9.elim (fun z => z ⟨by assumption, by assumption⟩) (by omega)), if_neg (by omega), (hW k (by omega)).1 (by omega)]; simp only []; rw [if_neg (by omega)]; first | (rw [if_pos (by omega)]; done) | (rw [if_neg (by omega)]; done))), h8.1, rfl, (fun q9 j9 hk9 => by exact (((τ8f q9 j9 (fun e9 => hk9 ((show ∀ x ∈ [8003, 42, 43, 44, 112, 63, 64], x ∈ [8003, 42, 43, 44, 112, 63, 64] by decide) _ e9))).trans (τ5f q9 j9 (fun e9 => hk9 ((show ∀ x ∈ [8003, 42, 43, 44], x ∈ [8003, 42, 43, 44, 112, 63, 64] by decide) _ e9)))).trans (τ1f q9 j9 (fun e9 => hk9 ((show ∀ x ∈ [8003, 42, 43, 44], x ∈ [8003, 42, 43, 44, 112, 63, 64] by decide) _ e9))))), (fun q9 j9 hk9 => by exact (ρ8f q9 j9 (fun e9 => hk9 ((show ∀ x ∈ [1009, 1010], x ∈ [1009, 1010] by decide) _ e9))))⟩
        · refine g_iload hΓ rfl dX0_way_46 ?_
          exact x_iret hΓ dX0_way_48 (Nat.zero_le _) (Nat.zero_le _) ⟨ri (by rw [sp_way]; first | (rw [if_neg (show ¬ (¬ (tol σ a ≠ -1 ∧ tol σ b ≠ -1) ∨ k < -1 ∨ (k ≠ -1 ∧ ¬ (0 ≤ u ∧ u ≤ 1))) from fun h9 => h9.elim (fun z => z ⟨by assumption, by assumption⟩) (by omega)), if_pos (by omega), show k = -1 by omega]; omega) | (rw [if_pos (Or.inr (by omega))]; done) | (by_cases hu9 : 0 ≤ u ∧ u ≤ 1 <;> first | (rw [if_neg (show ¬ (¬ (tol σ a ≠ -1 ∧ tol σ b ≠ -1) ∨ k < -1 ∨ (k ≠ -1 ∧ ¬ (0 ≤ u ∧ u ≤ 1))) from fun h9 => h9.elim (fun z => z ⟨by assumption, by assumption⟩) (by omega)), if_neg (by omega), if_pos ((hW k (by omega)).2 (by omega))]; done) | (rw [if_pos (Or.inr (by omega))]; done)) | (rw [if_neg (show ¬ (¬ (tol σ a ≠ -1 ∧ tol σ b ≠ -1) ∨ k < -1 ∨ (k ≠ -1 ∧ ¬ (0 ≤ u ∧ u ≤ 1))) from fun h9 => h9.elim (fun z => z ⟨by assumption, by assumption⟩) (by omega)), if_neg (by omega), (hW k (by omega)).1 (by omega)]; simp only []; rw [if_neg (by omega)]; first | (rw [if_pos (by omega)]; done) | (rw [if_neg (by omega)]; done))), h8.1, rfl, (fun q9 j9 hk9 => by exact (((τ8f q9 j9 (fun e9 => hk9 ((show ∀ x ∈ [8003, 42, 43, 44, 112, 63, 64], x ∈ [8003, 42, 43, 44, 112, 63, 64] by decide) _ e9))).trans (τ5f q9 j9 (fun e9 => hk9 ((show ∀ x ∈ [8003, 42, 43, 44], x ∈ [8003, 42, 43, 44, 112, 63, 64] by decide) _ e9)))).trans (τ1f q9 j9 (fun e9 => hk9 ((show ∀ x ∈ [8003, 42, 43, 44], x ∈ [8003, 42, 43, 44, 112, 63, 64] by decide) _ e9))))), (fun q9 j9 hk9 => by exact (ρ8f q9 j9 (fun e9 => hk9 ((show ∀ x ∈ [1009, 1010], x ∈ [1009, 1010] by decide) _ e9))))⟩
      · refine g_iconst hΓ dX0_way_29 ?_
        exact x_iret hΓ dX0_way_30 (Nat.zero_le _) (Nat.zero_le _) ⟨ri (by rw [sp_way]; first | (rw [if_pos (Or.inl (fun h9 => h9.1 (by assumption)))]; done) | (rw [if_pos (Or.inl (fun h9 => h9.2 (by assumption)))]; done) | (rw [if_pos (Or.inr (Or.inl (by omega)))]; done)), h5.1, rfl, (fun q9 j9 hk9 => by exact ((τ5f q9 j9 (fun e9 => hk9 ((show ∀ x ∈ [8003, 42, 43, 44], x ∈ [8003, 42, 43, 44, 112, 63, 64] by decide) _ e9))).trans (τ1f q9 j9 (fun e9 => hk9 ((show ∀ x ∈ [8003, 42, 43, 44], x ∈ [8003, 42, 43, 44, 112, 63, 64] by decide) _ e9))))), (fun q9 j9 hk9 => rfl)⟩
set_option maxHeartbeats 4000000 in
theorem x_X0_strays {l : Launch} {E : gE} {X : State → Prop} {Z : Nat → Nat} {Y : Nat → Option Nat} (hE : E.2.1 = clsX) (hX : xOK l E X Z Y) (hL : xLam l E X (Z 20) (Z 21)) (S : xS) (D : xD) (R : xR) (P : xPk) (σ : mS) (a b : Int) (hx : Rx E Z S D R P σ) (ha : r32 a) (hb : r32 b) : xC l E X yX0_strays cX0_strays 8 (some .int) 8 0 0 [.ref (P.1), .int (iI a), .int (iI b)] S D R (fun rv S' D' R' => rv = some (.int (iI (sp_strays σ a b))) ∧ (Rx E Z S D' R' P σ) ∧ S' = S ∧ fr S D D' [8003, 42, 43, 44, 112, 63, 64] ∧ fr S R R' [1009, 1010]) := by
  refine xC.of hX.1 (by decide) [some (.ref (P.1)), some (.int (iI a)), some (.int (iI b)), none, none, none, none, none] (Nat.le_of_ble_eq_true rfl) rfl rfl (fun Γ hΓ => ?_)
  obtain ⟨hg, hp, hki, hro, hnw, hbh, hsa, hpd⟩ := id hx
  obtain ⟨N, NI, NM, NV, hN⟩ := (hx).now
  have hAw := hg.2.2.2.2.2.2
  have hG : GS S D R := hg.1
  obtain ⟨h1000, h1009, h1042, h1043, h1044, h1045, h1046, h1047, hms, hsi, hsm, hnm⟩ := id hro
  have eN := hN.2.2.2.2.2.2.2.2.2.2.2.2
  have kNV : (S NV).1 = 45 := by rw [hN.2.2.2.1.2]
  have nNV : (S NV).2.1 = 6 := by rw [hN.2.2.2.1.2]
  refine g_aload_n hΓ rfl dX0_strays_0 ?_
  refine g_iload_n hΓ rfl dX0_strays_1 ?_
  refine x_callV (As := [.int (iI a)]) (rest := []) (c := 0) hE hΓ (x_X0_told hE hX S D R P σ a hx (by first | assumption | omega) ) hp.1 ⟨by decide, rfl⟩ rfl rfl q990 q992 qs28 q123 q993 ndX0_told rfl (by decide) (by decide) (Nat.zero_le _) (Nat.zero_le _) rfl (Nat.le_of_ble_eq_true rfl) dX0_strays_2 rfl (fun v1 S1 τ1 ρ1 h1 => ?_)
  obtain ⟨rfl, h1, S1e, τ1f, ρ1e⟩ := h1
  have S1e := S1e.symm; subst S1e
  have ρ1e := ρ1e.symm; subst ρ1e
  show gW Γ E (xM E S τ1 R) _ _ _ _ (va_rf (if tol σ a = -1 then none else some (tolA R (rf R P.1 4) a)) :: _)
  by_cases ct2 : tol σ a = -1
  · rw [if_pos ct2]
    show gW Γ E (xM E S τ1 R) _ _ _ _ (.null :: _)
    refine g_astore_nN hΓ dX0_strays_5 rfl (Nat.le_of_ble_eq_true rfl) (lv' := [some (.ref (P.1)), some (.int (iI a)), some (.int (iI b)), some (.null), none, none, none, none]) rfl ?_
    refine g_aload_n hΓ rfl dX0_strays_6 ?_
    refine g_iload_n hΓ rfl dX0_strays_7 ?_
    refine x_callV (As := [.int (iI b)]) (rest := []) (c := 0) hE hΓ (x_X0_told hE hX S τ1 R P σ b h1.1 (by first | assumption | omega) ) hp.1 ⟨by decide, rfl⟩ rfl rfl q990 q992 qs28 q123 q993 ndX0_told rfl (by decide) (by decide) (Nat.zero_le _) (Nat.zero_le _) rfl (Nat.le_of_ble_eq_true rfl) dX0_strays_8 rfl (fun v3 S3 τ3 ρ3 h3 => ?_)
    obtain ⟨rfl, h3, S3e, τ3f, ρ3e⟩ := h3
    have S3e := S3e.symm; subst S3e
    have ρ3e := ρ3e.symm; subst ρ3e
    show gW Γ E (xM E S τ3 R) _ _ _ _ (va_rf (if tol σ b = -1 then none else some (tolA R (rf R P.1 4) b)) :: _)
    by_cases ct4 : tol σ b = -1
    · rw [if_pos ct4]
      show gW Γ E (xM E S τ3 R) _ _ _ _ (.null :: _)
      refine g_astoreN hΓ dX0_strays_11 rfl (Nat.le_of_ble_eq_true rfl) (lv' := [some (.ref (P.1)), some (.int (iI a)), some (.int (iI b)), some (.null), some (.null), none, none, none]) rfl ?_
      refine g_aload_nN hΓ rfl dX0_strays_13 ?_
      refine g_ifnullN (tgt := 22) hΓ dX0_strays_14 (by decide) ?_
      refine g_iconst hΓ dX0_strays_22 ?_
      exact x_iret hΓ dX0_strays_23 (Nat.zero_le _) (Nat.zero_le _) ⟨ri (by rw [sp_strays, if_pos (by rw [sp_way]; first | (rw [if_pos (Or.inl (fun h9 => h9.1 (by assumption)))]; done) | (rw [if_pos (Or.inl (fun h9 => h9.2 (by assumption)))]; done))]), h3.1, rfl, (fun q9 j9 hk9 => by exact ((τ3f q9 j9 (fun e9 => hk9 ((show ∀ x ∈ [8003, 42, 43, 44], x ∈ [8003, 42, 43, 44, 112, 63, 64] by decide) _ e9))).trans (τ1f q9 j9 (fun e9 => hk9 ((show ∀ x ∈ [8003, 42, 43, 44], x ∈ [8003, 42, 43, 44, 112, 63, 64] by decide) _ e9))))), (fun q9 j9 hk9 => rfl)⟩
    · rw [if_neg ct4]
      obtain ⟨s4, es4⟩ : ∃ z : Nat, z = tolA R (rf R P.1 4) b := ⟨_, rfl⟩
      rw [← es4]
      show gW Γ E (xM E S τ3 R) _ _ _ _ (.ref s4 :: _)
      have hts4 := h3.2 ct4
      rw [← es4] at hts4
      refine g_astore hΓ dX0_strays_11 rfl (Nat.le_of_ble_eq_true rfl) (lv' := [some (.ref (P.1)), some (.int (iI a)), some (.int (iI b)), some (.null), some (.ref s4), none, none, none]) rfl ?_
      refine g_aload_nN hΓ rfl dX0_strays_13 ?_
      refine g_ifnullN (tgt := 22) hΓ dX0_strays_14 (by decide) ?_
      refine g_iconst hΓ dX0_strays_22 ?_
      exact x_iret hΓ dX0_strays_23 (Nat.zero_le _) (Nat.zero_le _) ⟨ri (by rw [sp_strays, if_pos (by rw [sp_way]; first | (rw [if_pos (Or.inl (fun h9 => h9.1 (by assumption)))]; done) | (rw [if_pos (Or.inl (fun h9 => h9.2 (by assumption)))]; done))]), h3.1, rfl, (fun q9 j9 hk9 => by exact ((τ3f q9 j9 (fun e9 => hk9 ((show ∀ x ∈ [8003, 42, 43, 44], x ∈ [8003, 42, 43, 44, 112, 63, 64] by decide) _ e9))).trans (τ1f q9 j9 (fun e9 => hk9 ((show ∀ x ∈ [8003, 42, 43, 44], x ∈ [8003, 42, 43, 44, 112, 63, 64] by decide) _ e9))))), (fun q9 j9 hk9 => rfl)⟩
  · rw [if_neg ct2]
    obtain ⟨s2, es2⟩ : ∃ z : Nat, z = tolA R (rf R P.1 4) a := ⟨_, rfl⟩
    rw [← es2]
    show gW Γ E (xM E S τ1 R) _ _ _ _ (.ref s2 :: _)
    have hts2 := h1.2 ct2
    rw [← es2] at hts2
    refine g_astore_n hΓ dX0_strays_5 rfl (Nat.le_of_ble_eq_true rfl) (lv' := [some (.ref (P.1)), some (.int (iI a)), some (.int (iI b)), some (.ref s2), none, none, none, none]) rfl ?_
    refine g_aload_n hΓ rfl dX0_strays_6 ?_
    refine g_iload_n hΓ rfl dX0_strays_7 ?_
    refine x_callV (As := [.int (iI b)]) (rest := []) (c := 0) hE hΓ (x_X0_told hE hX S τ1 R P σ b h1.1 (by first | assumption | omega) ) hp.1 ⟨by decide, rfl⟩ rfl rfl q990 q992 qs28 q123 q993 ndX0_told rfl (by decide) (by decide) (Nat.zero_le _) (Nat.zero_le _) rfl (Nat.le_of_ble_eq_true rfl) dX0_strays_8 rfl (fun v5 S5 τ5 ρ5 h5 => ?_)
    obtain ⟨rfl, h5, S5e, τ5f, ρ5e⟩ := h5
    have S5e := S5e.symm; subst S5e
    have ρ5e := ρ5e.symm; subst ρ5e
    show gW Γ E (xM E S τ5 R) _ _ _ _ (va_rf (if tol σ b = -1 then none else some (tolA R (rf R P.1 4) b)) :: _)
    by_cases ct6 : tol σ b = -1
    · rw [if_pos ct6]
      show gW Γ E (xM E S τ5 R) _ _ _ _ (.null :: _)
      refine g_astoreN hΓ dX0_strays_11 rfl (Nat.le_of_ble_eq_true rfl) (lv' := [some (.ref (P.1)), some (.int (iI a)), some (.int (iI b)), some (.ref s2), some (.null), none, none, none]) rfl ?_
      refine g_aload_n hΓ rfl dX0_strays_13 ?_
      refine g_ifnull hΓ dX0_strays_14 ?_
      refine g_aloadN hΓ rfl dX0_strays_17 ?_
      refine g_ifnonnullN hΓ dX0_strays_19 ?_
      refine g_iconst hΓ dX0_strays_22 ?_
      exact x_iret hΓ dX0_strays_23 (Nat.zero_le _) (Nat.zero_le _) ⟨ri (by rw [sp_strays, if_pos (by rw [sp_way]; first | (rw [if_pos (Or.inl (fun h9 => h9.1 (by assumption)))]; done) | (rw [if_pos (Or.inl (fun h9 => h9.2 (by assumption)))]; done))]), h5.1, rfl, (fun q9 j9 hk9 => by exact ((τ5f q9 j9 (fun e9 => hk9 ((show ∀ x ∈ [8003, 42, 43, 44], x ∈ [8003, 42, 43, 44, 112, 63, 64] by decide) _ e9))).trans (τ1f q9 j9 (fun e9 => hk9 ((show ∀ x ∈ [8003, 42, 43, 44], x ∈ [8003, 42, 43, 44, 112, 63, 64] by decide) _ e9))))), (fun q9 j9 hk9 => rfl)⟩
    · rw [if_neg ct6]
      obtain ⟨s6, es6⟩ : ∃ z : Nat, z = tolA R (rf R P.1 4) b := ⟨_, rfl⟩
      rw [← es6]
      show gW Γ E (xM E S τ5 R) _ _ _ _ (.ref s6 :: _)
      have hts6 := h5.2 ct6
      rw [← es6] at hts6
      refine g_astore hΓ dX0_strays_11 rfl (Nat.le_of_ble_eq_true rfl) (lv' := [some (.ref (P.1)), some (.int (iI a)), some (.int (iI b)), some (.ref s2), some (.ref s6), none, none, none]) rfl ?_
      refine g_aload_n hΓ rfl dX0_strays_13 ?_
      refine g_ifnull hΓ dX0_strays_14 ?_
      refine g_aload hΓ rfl dX0_strays_17 ?_
      refine g_ifnonnull (tgt := 24) hΓ dX0_strays_19 (by decide) ?_
      refine g_iconst hΓ dX0_strays_24 ?_
      refine g_istore hΓ dX0_strays_25 rfl (Nat.le_of_ble_eq_true rfl) (lv' := [some (.ref (P.1)), some (.int (iI a)), some (.int (iI b)), some (.ref s2), some (.ref s6), some (.int (iI 0)), none, none]) rfl ?_
      refine g_aload_n hΓ rfl dX0_strays_27 ?_
      refine g_aload_n hΓ rfl dX0_strays_28 ?_
      refine g_aload hΓ rfl dX0_strays_29 ?_
      refine x_callV (As := [.ref s2, .ref s6]) (rest := []) (c := 0) hE hΓ (x_X0_laysWay hE hX hL S τ5 R P σ s2 s6 a b h5.1 (skR_scr (h1.1).1.1 (fun q9 j9 hk9 => by exact (τ5f q9 j9 (fun e9 => hk9 ((show ∀ x ∈ [8003, 42, 43, 44], x ∈ SCR by decide) _ e9)))) fr_rfl hts2) hts6 ) hp.1 ⟨by decide, rfl⟩ rfl rfl q1011 q1013 qs31 q123 q1014 ndX0_laysWay rfl (by decide) (by decide) (Nat.zero_le _) (Nat.zero_le _) rfl (Nat.le_of_ble_eq_true rfl) dX0_strays_31 rfl (fun v7 S7 τ7 ρ7 h7 => ?_)
      obtain ⟨rfl, h7, S7e, τ7f, ρ7f⟩ := h7
      have S7e := S7e.symm; subst S7e
      show gW Γ E (xM E S τ7 ρ7) _ _ _ _ (.int (iI ((wayE σ a b (-1)).2 + 1)) :: _)
      obtain ⟨x8, ex8⟩ : ∃ z9 : Int, z9 = (wayE σ a b (-1)).2 + 1 := ⟨_, rfl⟩
      refine g_topi ex8.symm ?_
      refine g_istore hΓ dX0_strays_34 rfl (Nat.le_of_ble_eq_true rfl) (lv' := [some (.ref (P.1)), some (.int (iI a)), some (.int (iI b)), some (.ref s2), some (.ref s6), some (.int (iI 0)), some (.int (iI x8)), none]) rfl ?_
      refine g_iconst hΓ dX0_strays_36 ?_
      refine g_istore hΓ dX0_strays_37 rfl (Nat.le_of_ble_eq_true rfl) (lv' := [some (.ref (P.1)), some (.int (iI a)), some (.int (iI b)), some (.ref s2), some (.ref s6), some (.int (iI 0)), some (.int (iI x8)), some (.int (iI 0))]) rfl ?_
      have hwr := h7.2.1
      have hW := h7.2.2
      have hsp : ∀ k u, 0 ≤ k → k ≤ (wayE σ a b (-1)).2 → (u = 0 ∨ u = 1) → sp_way σ a b k u = if u = 0 then τ7 (P.2.1 13) k else τ7 (P.2.1 14) k := fun k u x y z => by
        rw [sp_way, if_neg (show ¬ (¬ (tol σ a ≠ -1 ∧ tol σ b ≠ -1) ∨ k < -1 ∨ (k ≠ -1 ∧ ¬ (0 ≤ u ∧ u ≤ 1))) from fun h9 => h9.elim (fun z => z ⟨by assumption, by assumption⟩) (by omega)), if_neg (by omega), (hW k x).1 y]
        simp only []
        rw [if_neg (by omega)]
      have hr1 := fun k => sp_way_r hro a b k 0
      have hr2 := fun k => sp_way_r hro a b k 1
      have hsm1 : sp_way σ a b (-1) 0 = x8 := by
        rw [sp_way, if_neg (show ¬ (¬ (tol σ a ≠ -1 ∧ tol σ b ≠ -1) ∨ (-1 : Int) < -1 ∨ ((-1 : Int) ≠ -1 ∧ ¬ ((0 : Int) ≤ 0 ∧ (0 : Int) ≤ 1))) from fun h9 => h9.elim (fun z => z ⟨by assumption, by assumption⟩) (by omega)), if_pos rfl, ex8]
      have loop : ∀ (fu : Nat) (v : Int) (k : Int), (x8 - k).toNat < fu → (0 ≤ k ∧ k ≤ x8) → (v = strF σ a b k.toNat) → gW Γ E (xM E S τ7 ρ7) 0 0 39 [some (.ref (P.1)), some (.int (iI a)), some (.int (iI b)), some (.ref s2), some (.ref s6), some (.int (iI v)), some (.int (iI x8)), some (.int (iI k))] [] := by
        intro fu
        induction fu with
        | zero => intro v k hn; exact absurd hn (Nat.not_lt_zero _)
        | succ fu ih_loop =>
          intro v k hn hk hv
          have hsr := strF_r hro a b k.toNat
          refine g_iload hΓ rfl dX0_strays_39 ?_
          refine g_iload hΓ rfl dX0_strays_41 ?_
          refine g_icmp_ge (tgt := 77) hΓ (by omega) (by omega) dX0_strays_43 (by decide) (fun c9 => ?_) (fun c9 => ?_)
          · refine g_iload hΓ rfl dX0_strays_77 ?_
            exact x_iret hΓ dX0_strays_79 (Nat.zero_le _) (Nat.zero_le _) ⟨ri (by rw [sp_strays, if_neg (by omega), hsm1, hv, show x8.toNat = k.toNat by omega]), h7.1, rfl, (fun q9 j9 hk9 => by exact (((τ7f q9 j9 (fun e9 => hk9 ((show ∀ x ∈ [8003, 42, 43, 44, 112, 63, 64], x ∈ [8003, 42, 43, 44, 112, 63, 64] by decide) _ e9))).trans (τ5f q9 j9 (fun e9 => hk9 ((show ∀ x ∈ [8003, 42, 43, 44], x ∈ [8003, 42, 43, 44, 112, 63, 64] by decide) _ e9)))).trans (τ1f q9 j9 (fun e9 => hk9 ((show ∀ x ∈ [8003, 42, 43, 44], x ∈ [8003, 42, 43, 44, 112, 63, 64] by decide) _ e9))))), (fun q9 j9 hk9 => by exact (ρ7f q9 j9 (fun e9 => hk9 ((show ∀ x ∈ [1009, 1010], x ∈ [1009, 1010] by decide) _ e9))))⟩
          · have h1k := hr1 k
            have h2k := hr2 k
            refine g_iload hΓ rfl dX0_strays_46 ?_
            refine g_aload_n hΓ rfl dX0_strays_48 ?_
            refine x_geta (r := some (P.2.1 13)) (c := 0) hE hΓ in_X0 rfl hp.1 ⟨by decide, rfl⟩ 13 (ji := 13) rfl (by decide) (by decide) rfl q259 rfl rfl ((ρ7f (P.1) 13 (by rw [hp.1]; decide)).trans (pA_r hp 13 rfl rfl)) dX0_strays_49 ?_
            show gW Γ E (xM E S τ7 ρ7) 0 0 _ _ (.ref (P.2.1 13) :: _)
            refine g_iload hΓ rfl dX0_strays_52 ?_
            refine x_iald hΓ (pA_k hp 13 rfl (n := 63) rfl) (pA_n hp 13 rfl (n := 32) rfl) ⟨by decide, rfl⟩ (by omega) (by omega) dX0_strays_54 ?_
            refine g_topi ((show τ7 (P.2.1 13) k = sp_way σ a b k 0 by rw [hsp k 0 (by omega) (by omega) (by decide)]; rfl)) ?_
            refine g_aload_n hΓ rfl dX0_strays_55 ?_
            refine x_geta (r := some (P.2.1 14)) (c := 0) hE hΓ in_X0 rfl hp.1 ⟨by decide, rfl⟩ 14 (ji := 14) rfl (by decide) (by decide) rfl q260 rfl rfl ((ρ7f (P.1) 14 (by rw [hp.1]; decide)).trans (pA_r hp 14 rfl rfl)) dX0_strays_56 ?_
            show gW Γ E (xM E S τ7 ρ7) 0 0 _ _ (.ref (P.2.1 14) :: _)
            refine g_iload hΓ rfl dX0_strays_59 ?_
            refine x_iald hΓ (pA_k hp 14 rfl (n := 64) rfl) (pA_n hp 14 rfl (n := 32) rfl) ⟨by decide, rfl⟩ (by omega) (by omega) dX0_strays_61 ?_
            refine g_topi ((show τ7 (P.2.1 14) k = sp_way σ a b k 1 by rw [hsp k 1 (by omega) (by omega) (by decide)]; rfl)) ?_
            refine g_isub hΓ dX0_strays_62 ?_
            refine x_callS (As := [.int (iI ((sp_way σ a b k 0) - (sp_way σ a b k 1)))]) (rest := [.int (iI v)]) hΓ (x_J3_abs hE hX S τ7 ρ7 ((sp_way σ a b k 0) - (sp_way σ a b k 1)) (by first | assumption | omega)) rfl q219 q220 q129 q221 ndJ3_abs rfl (by decide) (by decide) (Nat.zero_le _) (Nat.zero_le _) rfl (Nat.le_of_ble_eq_true rfl) dX0_strays_63 rfl (fun v10 S10 τ10 ρ10 h10 => ?_)
            obtain ⟨rfl, S10e, τ10e, ρ10e⟩ := h10
            have S10e := S10e.symm; subst S10e
            have τ10e := τ10e.symm; subst τ10e
            have ρ10e := ρ10e.symm; subst ρ10e
            show gW Γ E (xM E S τ7 ρ7) _ _ _ _ (.int (iI (if ((sp_way σ a b k 0) - (sp_way σ a b k 1)) < 0 then -((sp_way σ a b k 0) - (sp_way σ a b k 1)) else ((sp_way σ a b k 0) - (sp_way σ a b k 1)))) :: _)
            refine x_callS (As := [.int (iI v), .int (iI (if ((sp_way σ a b k 0) - (sp_way σ a b k 1)) < 0 then -((sp_way σ a b k 0) - (sp_way σ a b k 1)) else ((sp_way σ a b k 0) - (sp_way σ a b k 1))))]) (rest := []) hΓ (x_J3_max hE hX S τ7 ρ7 v (if ((sp_way σ a b k 0) - (sp_way σ a b k 1)) < 0 then -((sp_way σ a b k 0) - (sp_way σ a b k 1)) else ((sp_way σ a b k 0) - (sp_way σ a b k 1))) (by first | assumption | omega) (by first | assumption | omega)) rfl q1019 q722 q129 q723 ndJ3_max rfl (by decide) (by decide) (Nat.zero_le _) (Nat.zero_le _) rfl (Nat.le_of_ble_eq_true rfl) dX0_strays_66 rfl (fun v11 S11 τ11 ρ11 h11 => ?_)
            obtain ⟨rfl, S11e, τ11e, ρ11e⟩ := h11
            have S11e := S11e.symm; subst S11e
            have τ11e := τ11e.symm; subst τ11e
            have ρ11e := ρ11e.symm; subst ρ11e
            show gW Γ E (xM E S τ7 ρ7) _ _ _ _ (.int (iI (max v (if ((sp_way σ a b k 0) - (sp_way σ a b k 1)) < 0 then -((sp_way σ a b k 0) - (sp_way σ a b k 1)) else ((sp_way σ a b k 0) - (sp_way σ a b k 1))))) :: _)
            obtain ⟨x12, ex12⟩ : ∃ z9 : Int, z9 = max v (if ((sp_way σ a b k 0) - (sp_way σ a b k 1)) < 0 then -((sp_way σ a b k 0) - (sp_way σ a b k 1)) else ((sp_way σ a b k 0) - (sp_way σ a b k 1))) := ⟨_, rfl⟩
            refine g_topi ex12.symm ?_
            refine g_istore hΓ dX0_strays_69 rfl (Nat.le_of_ble_eq_true rfl) (lv' := [some (.ref (P.1)), some (.int (iI a)), some (.int (iI b)), some (.ref s2), some (.ref s6), some (.int (iI x12)), some (.int (iI x8)), some (.int (iI k))]) rfl ?_
            obtain ⟨x13, ex13⟩ : ∃ z9 : Int, z9 = k + 1 := ⟨_, rfl⟩
            refine g_iinc hΓ dX0_strays_71 rfl rfl (lv' := [some (.ref (P.1)), some (.int (iI a)), some (.int (iI b)), some (.ref s2), some (.ref s6), some (.int (iI x12)), some (.int (iI x8)), some (.int (iI x13))]) (by rw [ex13]; rfl) ?_
            refine g_goto (tgt := 39) hΓ dX0_strays_74 (by decide) ?_
            exact ih_loop x12 x13 (by omega) (by omega) (by rw [show x13.toNat = k.toNat + 1 by omega, strF, ← hv, show ((k.toNat : Nat) : Int) = k by omega]; exact ex12)
      exact loop 40 0 0 (by omega) (by omega) rfl
