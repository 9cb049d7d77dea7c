set_option maxRecDepth 100000
/-! A STATE IS KEPT, A STATE COMES BACK -/
def rk1 (σ : mS) : mS := fun k j => if k = 3 then (if σ 4 0 = 20 then rmS (σ 3) j else σ 3 j) else if k = 4 ∧ j = 0 then rmU (σ 4 0) else σ k j
def remS (σ : mS) : mS := fun k j => if k = 3 then rmK σ j else if k = 4 ∧ j = 0 then rmU (σ 4 0) + 1 else σ k j
theorem rk1_f {σ : mS} {k : Nat} (h : k ≠ 3 ∧ k ≠ 4) : rk1 σ k = σ k := by
  funext j
  rw [rk1, if_neg h.1, if_neg (fun z => h.2 z.1)]
theorem remS_f {σ : mS} {k : Nat} (h : k ≠ 3 ∧ k ≠ 4) : remS σ k = σ k := by
  funext j
  rw [remS, if_neg h.1, if_neg (fun z => h.2 z.1)]
theorem rk1_4 (σ : mS) : rk1 σ 4 0 = rmU (σ 4 0) := rfl
theorem remS_4 (σ : mS) : remS σ 4 0 = rmU (σ 4 0) + 1 := rfl
theorem remS_3 (σ : mS) : remS σ 3 = rmK σ := by funext j; rfl
theorem rk1_id {σ : mS} (h : σ 4 0 ≠ 20) : rk1 σ = σ := by
  funext k j
  rw [rk1]
  by_cases c : k = 3
  · rw [if_pos c, if_neg h, c]
  · rw [if_neg c]
    by_cases c2 : k = 4 ∧ j = 0
    · rw [if_pos c2, rmU, if_neg h, c2.1, c2.2]
    · rw [if_neg c2]
/-- a state that is free -/
def frS (S : xS) (D : xD) (R : xR) (P : xPk) (n : Int) (s : Nat) : Prop := (S s).1 = 2 ∧ s ≠ rf R P.1 4 ∧ (∀ i, 0 ≤ i → i < n → lE R (P.2.1 5) i ≠ s) ∧ (∀ i, 0 ≤ i → i < D (P.2.1 6) 2 → lE R (P.2.1 6) i ≠ s) ∧ D (P.2.1 6) 2 + n ≤ 19
section KP
variable {E : gE} {Z : Nat → Nat} {S S' : xS} {D D' : xD} {R R' : xR} {P : xPk} {σ : mS}
theorem kp_A (hx : Rx E Z S D R P σ) (h20 : σ 4 0 = 20) (h : GI E Z S D' R' ∧ D' (P.2.1 5) 2 = D (P.2.1 5) 2 - 1 ∧ chg (lT S (P.2.1 5)) S S D D' R R' ∧ ∀ j, 0 ≤ j → j < D (P.2.1 5) 2 - 1 → lE R' (P.2.1 5) j = lE R (P.2.1 5) (if j < 0 then j else j + 1)) : Rx E Z S D' R' P (rk1 σ) ∧ frS S D' R' P 19 (lE R (P.2.1 5) 0) := by
  obtain ⟨hg, hp, hki, hro, hnw, ⟨b1, b2, b3, ⟨d1, d2, d3, d4, d5⟩, b5⟩, hsa, hpd⟩ := id hx
  obtain ⟨g', e2, hc, eE⟩ := h
  have k5 := pL_k hp 5 rfl (n := 14) rfl
  have k6 := pL_k hp 6 rfl (n := 15) rfl
  have k31 := pL_k hp 31 rfl (n := 16) rfl
  have n6 := lT_o hg (a := P.2.1 5) (b := P.2.1 6) (by omega) (by omega) (ne_k k6 k5 (by decide))
  have n31 := lT_o hg (a := P.2.1 5) (b := P.2.1 31) (by omega) (by omega) (ne_k k31 k5 (by decide))
  have l6 := ls_chg hc (by omega) (hg.2.1 (P.2.1 6) (by omega) (by omega)) n6.1 n6.2
  have hT := lT_pl (S := S) (a := P.2.1 5) (by omega)
  have hTb : ∀ q, lT S (P.2.1 5) q → tkB (S q).1 := fun q z => plK_b (hT q z)
  have hT2 : ∀ q, lT S (P.2.1 5) q → (S q).1 ≠ 12 ∧ (S q).1 ≠ 22 := fun q z => by have := hT q z; omega
  have r4 : rf R' P.1 4 = rf R P.1 4 := cg_rf hc hTb hp.1 (by decide) (by decide) 4
  have eE2 : ∀ j, 0 ≤ j → j < 19 → lE R' (P.2.1 5) j = lE R (P.2.1 5) (j + 1) := fun j x y => by rw [eE j x (by omega), if_neg (by omega)]
  have hbe : behR S D' R' P (rk1 σ) := by
    rw [behR, rk1_4, show rmU (σ 4 0) = 19 by rw [rmU, if_pos h20]]
    refine ⟨by omega, by omega, fun i x y => ?_, ?_, by rw [l6.2.2.1]; omega⟩
    · have w := b3 (i + 1) (by omega) (by omega)
      have q : ∀ j, 0 ≤ j → j < 1048 → rk1 σ 3 (1048 * i + j) = σ 3 (1048 * (i + 1) + j) := fun j x9 y9 => by
        rw [rk1, if_pos rfl, if_pos h20, rmS, if_pos (by omega)]
        congr 1; omega
      rw [eE2 i x y]
      exact ⟨stR_congr w.2 q (stR_chg hc hTb hT2 hg (plK_s hT hg w.1.1) w.1), rowOK_congr w.2 q⟩
    · refine ⟨fun i j x y z => ?_, fun i j x y z => ?_, fun i x y => ?_, fun i x y => ?_, fun i j x y z u => ?_⟩
      · rw [eE2 i x (by omega), eE2 j (by omega) (by omega)]; exact d1 _ _ (by omega) (by omega) (by omega)
      · rw [l6.2.2.1] at z; rw [l6.2.2.2.1, l6.2.2.2.1]; exact d2 i j x y z
      · rw [eE2 i x (by omega), r4]; exact d3 _ (by omega) (by omega)
      · rw [l6.2.2.1] at y; rw [l6.2.2.2.1, r4]; exact d4 i x y
      · rw [l6.2.2.1] at u; rw [eE2 i x (by omega), l6.2.2.2.1]; exact d5 _ j (by omega) (by omega) z u
  refine ⟨Rx_pl hx hc hT g' (rk1_f (by decide)) (fun k hk => rk1_f (by simp at hk; omega)) (fun k hk => congrFun (rk1_f (by simp at hk; omega)) 0) hbe (fun h0 => samR_to rfl (rk1_f (by decide)) (rk1_f (by decide)) (rk1_f (by decide)) (rk1_f (by decide)) (samR_chg hc hTb hT2 hg hp n31 (hsa h0))), ?_, ?_, ?_, ?_, ?_⟩
  · have w := (b3 0 (by decide) (by omega)).1.1; exact w
  · rw [r4]; exact d3 0 (by decide) (by omega)
  · intro i x y; rw [eE2 i x y]; exact (d1 0 (i + 1) (by decide) (by omega) (by omega)).symm
  · intro i x y; rw [l6.2.2.1] at y; rw [l6.2.2.2.1]; exact (d5 0 i (by decide) (by omega) x y).symm
  · rw [l6.2.2.1]; omega
theorem kp_C (hx : Rx E Z S D R P σ) (h20 : σ 4 0 ≠ 20) (hu : 0 < D (P.2.1 6) 2) (h : GI E Z S D' R' ∧ D' (P.2.1 6) 2 = D (P.2.1 6) 2 - 1 ∧ chg (lT S (P.2.1 6)) S S D D' R R' ∧ ∀ j, 0 ≤ j → j < D (P.2.1 6) 2 - 1 → lE R' (P.2.1 6) j = lE R (P.2.1 6) (if j < D (P.2.1 6) 2 - 1 then j else j + 1)) : Rx E Z S D' R' P (rk1 σ) ∧ frS S D' R' P (σ 4 0) (lE R (P.2.1 6) (D (P.2.1 6) 2 - 1)) := by
  rw [rk1_id h20]
  obtain ⟨hg, hp, hki, hro, hnw, ⟨b1, b2, b3, ⟨d1, d2, d3, d4, d5⟩, b5⟩, hsa, hpd⟩ := id hx
  obtain ⟨g', e2, hc, eE⟩ := h
  have k5 := pL_k hp 5 rfl (n := 14) rfl
  have k6 := pL_k hp 6 rfl (n := 15) rfl
  have k31 := pL_k hp 31 rfl (n := 16) rfl
  have n5 := lT_o hg (a := P.2.1 6) (b := P.2.1 5) (by omega) (by omega) (ne_k k5 k6 (by decide))
  have n31 := lT_o hg (a := P.2.1 6) (b := P.2.1 31) (by omega) (by omega) (ne_k k31 k6 (by decide))
  have l5 := ls_chg hc (by omega) (hg.2.1 (P.2.1 5) (by omega) (by omega)) n5.1 n5.2
  have hT := lT_pl (S := S) (a := P.2.1 6) (by omega)
  have hTb : ∀ q, lT S (P.2.1 6) q → tkB (S q).1 := fun q z => plK_b (hT q z)
  have hT2 : ∀ q, lT S (P.2.1 6) q → (S q).1 ≠ 12 ∧ (S q).1 ≠ 22 := fun q z => by have := hT q z; omega
  have r4 : rf R' P.1 4 = rf R P.1 4 := cg_rf hc hTb hp.1 (by decide) (by decide) 4
  have eE2 : ∀ j, 0 ≤ j → j < D (P.2.1 6) 2 - 1 → lE R' (P.2.1 6) j = lE R (P.2.1 6) j := fun j x y => by rw [eE j x y, if_pos y]
  have hbe : behR S D' R' P σ := by
    refine ⟨by rw [l5.2.2.1]; exact b1, b2, fun i x y => ?_, ?_, by omega⟩
    · rw [l5.2.2.2.1]
      exact ⟨stR_chg hc hTb hT2 hg (plK_s hT hg (b3 i x y).1.1) (b3 i x y).1, (b3 i x y).2⟩
    · refine ⟨fun i j x y z => ?_, fun i j x y z => ?_, fun i x y => ?_, fun i x y => ?_, fun i j x y z u => ?_⟩
      · rw [l5.2.2.1] at z; rw [l5.2.2.2.1, l5.2.2.2.1]; exact d1 i j x y z
      · rw [eE2 i x (by omega), eE2 j (by omega) (by omega)]; exact d2 i j x y (by omega)
      · rw [l5.2.2.1] at y; rw [l5.2.2.2.1, r4]; exact d3 i x y
      · rw [eE2 i x (by omega), r4]; exact d4 i x (by omega)
      · rw [l5.2.2.1] at y; rw [l5.2.2.2.1, eE2 j z (by omega)]; exact d5 i j x y z (by omega)
  have hls := hg.2.1 (P.2.1 6) (by omega) (by omega)
  have hke := (hls.2.2.2 (D (P.2.1 6) 2 - 1) (by omega) (by omega)).2
  rw [k6] at hke
  refine ⟨Rx_pl hx hc hT g' rfl (fun _ _ => rfl) (fun _ _ => rfl) hbe (fun h0 => samR_chg hc hTb hT2 hg hp n31 (hsa h0)), hke, ?_, ?_, ?_, ?_⟩
  · rw [r4]; exact d4 _ (by omega) (by omega)
  · intro i x y; rw [l5.2.2.2.1]; exact d5 i _ x (by omega) (by omega) (by omega)
  · intro i x y; rw [eE2 i x (by omega)]; exact d2 i _ x (by omega) (by omega)
  · omega
theorem kp_B (hx : Rx E Z S D R P σ) (h20 : σ 4 0 ≠ 20) (hu : D (P.2.1 6) 2 = 0) {q : Nat} (hz : (S q).1 = 0) (he : ext S S' D D' R R') (hg' : GI E Z S' D' R') (hq : (S' q).1 = 2) : Rx E Z S' D' R' P (rk1 σ) ∧ frS S' D' R' P (σ 4 0) q := by
  rw [rk1_id h20]
  have hx2 := Rx_ext0 he hx hg'
  obtain ⟨hg, hp, hki, hro, hnw, ⟨b1, b2, b3, ⟨d1, d2, d3, d4, d5⟩, b5⟩, hsa, hpd⟩ := id hx
  have k5 := pL_k hp 5 rfl (n := 14) rfl
  have k6 := pL_k hp 6 rfl (n := 15) rfl
  have l5 := ls_ext he (by omega) (hg.2.1 (P.2.1 5) (by omega) (by omega))
  have l6 := ls_ext he (by omega) (hg.2.1 (P.2.1 6) (by omega) (by omega))
  have r4 : rf R' P.1 4 = rf R P.1 4 := rf_ext he hp.1 (by decide) 4
  refine ⟨hx2, hq, ?_, fun i x y => ?_, fun i x y => ?_, by rw [l6.2.2.1]; omega⟩
  · intro e; rw [r4] at e; have := hnw.2.1; rw [← e] at this; omega
  · rw [l5.2.2.2]; intro e; have w := (b3 i x y).1.1; rw [e] at w; omega
  · rw [l6.2.2.1, hu] at y; omega
theorem kp_L {τ : mS} (hx : Rx E Z S D R P τ) {s : Nat} (hf : frS S D R P (τ 4 0) s) (hg' : GI E Z S' D' R') (hc : chg (stT S s) S S' D D' R R') : Rx E Z S' D' R' P τ ∧ frS S' D' R' P (τ 4 0) s := by
  obtain ⟨hg, hp, hki, hro, hnw, ⟨b1, b2, b3, b4, b5⟩, hsa, hpd⟩ := id hx
  obtain ⟨f1, f2, f3, f4, f5⟩ := hf
  have k5 := pL_k hp 5 rfl (n := 14) rfl
  have k6 := pL_k hp 6 rfl (n := 15) rfl
  have n5 := stT_p hg (s := s) (a := P.2.1 5) (by omega)
  have n6 := stT_p hg (s := s) (a := P.2.1 6) (by omega)
  have l5 := ls_chg hc (by omega) (hg.2.1 (P.2.1 5) (by omega) (by omega)) n5.1 n5.2
  have l6 := ls_chg hc (by omega) (hg.2.1 (P.2.1 6) (by omega) (by omega)) n6.1 n6.2
  have r4 : rf R' P.1 4 = rf R P.1 4 := cg_rf hc stT_k hp.1 (by decide) (by decide) 4
  refine ⟨Rx_st hx hc hg' f3 (fun _ _ => rfl) (fun _ _ => rfl) hro (stR_chg hc stT_k stT_2 hg (stT_o hg hnw.2.1 (Ne.symm f2)) hnw.2), ?_, ?_, ?_, ?_, ?_⟩
  · rw [cg_S hc f1 (by decide)]; exact f1
  · rw [r4]; exact f2
  · intro i x y; rw [l5.2.2.2.1]; exact f3 i x y
  · intro i x y; rw [l6.2.2.1] at y; rw [l6.2.2.2.1]; exact f4 i x y
  · rw [l6.2.2.1]; exact f5
theorem kp_K (hx : Rx E Z S D R P (rk1 σ)) {s : Nat} (hf : frS S D R P (rmU (σ 4 0)) s) (hro0 : rowOK (σ 0)) (hs : stR S D R s (σ 0)) (h : GI E Z S' D' R' ∧ D' (P.2.1 5) 2 = D (P.2.1 5) 2 + 1 ∧ chg (lT S (P.2.1 5)) S S' D D' R R' ∧ ∀ i, 0 ≤ i → i < D (P.2.1 5) 2 + 1 → lE R' (P.2.1 5) i = if i = D (P.2.1 5) 2 then s else lE R (P.2.1 5) i) : Rx E Z S' D' R' P (remS σ) := by
  obtain ⟨hg, hp, hki, hro, hnw, ⟨b1, b2, b3, ⟨d1, d2, d3, d4, d5⟩, b5⟩, hsa, hpd⟩ := id hx
  obtain ⟨f1, f2, f3, f4, f5⟩ := hf
  obtain ⟨g', e2, hc, eE⟩ := h
  rw [rk1_4] at b1 b2 b3 b5
  have hur : 0 ≤ rmU (σ 4 0) := b2.1
  have k5 := pL_k hp 5 rfl (n := 14) rfl
  have k6 := pL_k hp 6 rfl (n := 15) rfl
  have k31 := pL_k hp 31 rfl (n := 16) rfl
  have n6 := lT_o hg (a := P.2.1 5) (b := P.2.1 6) (by omega) (by omega) (ne_k k6 k5 (by decide))
  have n31 := lT_o hg (a := P.2.1 5) (b := P.2.1 31) (by omega) (by omega) (ne_k k31 k5 (by decide))
  have l6 := ls_chg hc (by omega) (hg.2.1 (P.2.1 6) (by omega) (by omega)) n6.1 n6.2
  have hT := lT_pl (S := S) (a := P.2.1 5) (by omega)
  have hTb : ∀ q, lT S (P.2.1 5) q → tkB (S q).1 := fun q z => plK_b (hT q z)
  have hT2 : ∀ q, lT S (P.2.1 5) q → (S q).1 ≠ 12 ∧ (S q).1 ≠ 22 := fun q z => by have := hT q z; omega
  have r4 : rf R' P.1 4 = rf R P.1 4 := cg_rf hc hTb hp.1 (by decide) (by decide) 4
  have eO : ∀ j, 0 ≤ j → j < rmU (σ 4 0) → lE R' (P.2.1 5) j = lE R (P.2.1 5) j := fun j x y => by rw [eE j x (by omega), if_neg (by omega)]
  have eN : lE R' (P.2.1 5) (rmU (σ 4 0)) = s := by rw [eE _ hur (by omega), if_pos b1.symm]
  have hbe : behR S' D' R' P (remS σ) := by
    rw [behR, remS_4]
    refine ⟨by rw [e2, b1], by omega, fun i x y => ?_, ?_, by rw [l6.2.2.1]; omega⟩
    · by_cases c : i = rmU (σ 4 0)
      · have q : ∀ j, 0 ≤ j → j < 1048 → remS σ 3 (1048 * i + j) = σ 0 j := fun j x9 y9 => by
          rw [remS_3, rmK, rmW, if_pos (by omega)]
          congr 1; omega
        rw [c, eN, ← c]
        exact ⟨stR_congr hro0 q (stR_chg hc hTb hT2 hg (plK_s hT hg f1) hs), rowOK_congr hro0 q⟩
      · have w := b3 i x (by omega)
        have q : ∀ j, 0 ≤ j → j < 1048 → remS σ 3 (1048 * i + j) = rk1 σ 3 (1048 * i + j) := fun j x9 y9 => by
          rw [remS_3, rmK, rmW, if_neg (by omega), rk1, if_pos rfl]
          split <;> rfl
        rw [eO i x (by omega)]
        exact ⟨stR_congr w.2 q (stR_chg hc hTb hT2 hg (plK_s hT hg w.1.1) w.1), rowOK_congr w.2 q⟩
    · refine ⟨fun i j x y z => ?_, fun i j x y z => ?_, fun i x y => ?_, fun i x y => ?_, fun i j x y z u => ?_⟩
      · rw [e2, b1] at z
        rw [eO i x (by omega)]
        by_cases c : j = rmU (σ 4 0)
        · rw [c, eN]; exact f3 i x (by omega)
        · rw [eO j (by omega) (by omega)]; exact d1 i j x y (by omega)
      · rw [l6.2.2.1] at z; rw [l6.2.2.2.1, l6.2.2.2.1]; exact d2 i j x y z
      · rw [e2, b1] at y
        rw [r4]
        by_cases c : i = rmU (σ 4 0)
        · rw [c, eN]; exact f2
        · rw [eO i x (by omega)]; exact d3 i x (by omega)
      · rw [l6.2.2.1] at y; rw [l6.2.2.2.1, r4]; exact d4 i x y
      · rw [e2, b1] at y
        rw [l6.2.2.1] at u
        rw [l6.2.2.2.1]
        by_cases c : i = rmU (σ 4 0)
        · rw [c, eN]; exact (f4 j z u).symm
        · rw [eO i x (by omega)]; exact d5 i j x (by omega) z u
  have fe : ∀ k : Nat, k ≠ 3 ∧ k ≠ 4 → remS σ k = rk1 σ k := fun k hk => by rw [remS_f hk, rk1_f hk]
  exact Rx_pl hx hc hT g' (fe 0 (by decide)) (fun k hk => fe k (by simp at hk; omega)) (fun k hk => congrFun (fe k (by simp at hk; omega)) 0) hbe (fun h0 => samR_to (congrFun (fe 6 (by decide)) 0) (fe 7 (by decide)) (fe 8 (by decide)) (fe 9 (by decide)) (fe 10 (by decide)) (samR_chg hc hTb hT2 hg hp n31 (hsa h0)))
end KP
