set_option maxRecDepth 100000
/-! THE ROW of strokes -/
def rwL (S : xS) (D : xD) (R : xR) (a : Nat) (n : Int) (cn : Int → Int) (fn : Int → Int → Int) : Prop := D a 2 = n ∧ ∀ i, 0 ≤ i → i < n → skR S D R (lE R a i) (cn i) (fn i)
section RWS
variable {E : gE} {Z : Nat → Nat} {S S' : xS} {D D' : xD} {R R' : xR} {P : xPk} {σ : mS}
theorem rwL_ext (he : ext S S' D D' R R') (hg : GI E Z S D R) {a : Nat} (hk : 10 ≤ (S a).1 ∧ (S a).1 ≤ 17) {n : Int} {cn : Int → Int} {fn : Int → Int → Int} (h : rwL S D R a n cn fn) : rwL S' D' R' a n cn fn := by
  have l := ls_ext he hk (hg.2.1 a hk.1 hk.2)
  exact ⟨by rw [l.2.2.1]; exact h.1, fun i x y => by rw [l.2.2.2]; exact skR_ext he hg.1 (h.2 i x y)⟩
theorem rwL_nd {m : List Nat} (hD : fr S D D' m) (hm : ∀ k ∈ NEED, k ∉ m) (hG : GS S D R) {a : Nat} (hk : 10 ≤ (S a).1 ∧ (S a).1 ≤ 17) {n : Int} {cn : Int → Int} {fn : Int → Int → Int} (h : rwL S D R a n cn fn) : rwL S D' R a n cn fn := ⟨by rw [nd_ls hD hm hk]; exact h.1, fun i x y => skR_nd hD hm hG (h.2 i x y)⟩
theorem rwL_add (hg : GI E Z S D R) {a q : Nat} (hk : 10 ≤ (S a).1 ∧ (S a).1 ≤ 17) {n : Int} {cn : Int → Int} {fn : Int → Int → Int} (h : rwL S D R a n cn fn) (hq : skR S D R q (cn n) (fn n)) (ha : GI E Z S' D' R' ∧ D' a 2 = D a 2 + 1 ∧ chg (lT S a) S S' D D' R R' ∧ ∀ i, 0 ≤ i → i < D a 2 + 1 → lE R' a i = if i = D a 2 then q else lE R a i) : rwL S' D' R' a (n + 1) cn fn := by
  obtain ⟨g', e2, hc, eE⟩ := ha
  rw [h.1] at e2 eE
  refine ⟨e2, fun i x y => ?_⟩
  rw [eE i x y]
  by_cases c : i = n
  · rw [if_pos c, c]; exact skR_chg hc (lT_k hk) hg.1 hq
  · rw [if_neg c]; exact skR_chg hc (lT_k hk) hg.1 (h.2 i x (by omega))
theorem rwL_to {a : Nat} {n : Int} {cn cn' : Int → Int} {fn fn' : Int → Int → Int} (h : rwL S D R a n cn fn) (h1 : ∀ i, 0 ≤ i → i < n → cn' i = cn i ∧ ∀ j, 0 ≤ j → j < 2 * cn i → fn' i j = fn i j) : rwL S D R a n cn' fn' := ⟨h.1, fun i x y => skR_to (h.2 i x y) (h1 i x y).1 (h1 i x y).2⟩
/-- only the row changes -/
theorem Rx_rw (hx : Rx E Z S D R P σ) (hc : chg (lT S (P.2.1 30)) S S' D D' R R') (hg' : GI E Z S' D' R') : Rx E Z S' D' R' P σ := by
  obtain ⟨hg, hp, hki, hro, hnw, ⟨b1, b2, b3, b4, b5⟩, hsa, hpd⟩ := id hx
  have k5 := pL_k hp 5 rfl (n := 14) rfl
  have k6 := pL_k hp 6 rfl (n := 15) rfl
  have k30 := pL_k hp 30 rfl (n := 13) rfl
  have k31 := pL_k hp 31 rfl (n := 16) rfl
  have hT := lT_pl (S := S) (a := P.2.1 30) (by omega)
  have hTb : ∀ q, lT S (P.2.1 30) q → tkB (S q).1 := fun q z => plK_b (hT q z)
  have hT2 : ∀ q, lT S (P.2.1 30) q → (S q).1 ≠ 12 ∧ (S q).1 ≠ 22 := fun q z => by have := hT q z; omega
  have n5 := lT_o hg (a := P.2.1 30) (b := P.2.1 5) (by omega) (by omega) (ne_k k5 k30 (by decide))
  have n6 := lT_o hg (a := P.2.1 30) (b := P.2.1 6) (by omega) (by omega) (ne_k k6 k30 (by decide))
  have n31 := lT_o hg (a := P.2.1 30) (b := P.2.1 31) (by omega) (by omega) (ne_k k31 k30 (by decide))
  have l5 := ls_chg hc (by omega) (hg.2.1 (P.2.1 5) (by omega) (by omega)) n5.1 n5.2
  have l6 := ls_chg hc (by omega) (hg.2.1 (P.2.1 6) (by omega) (by omega)) n6.1 n6.2
  have r4 : rf R' P.1 4 = rf R P.1 4 := cg_rf hc hTb hp.1 (by decide) (by decide) 4
  refine Rx_pl hx hc hT hg' rfl (fun _ _ => rfl) (fun _ _ => rfl) ?_ (fun h0 => samR_chg hc hTb hT2 hg hp n31 (hsa h0))
  refine ⟨by rw [l5.2.2.1]; exact b1, b2, fun i x y => ?_, ?_, by rw [l6.2.2.1]; exact b5⟩
  · rw [l5.2.2.2.1]
    exact ⟨stR_chg hc hTb hT2 hg (plK_s hT hg (b3 i x y).1.1) (b3 i x y).1, (b3 i x y).2⟩
  · simp only [dstR, l5.2.2.1, l6.2.2.1, l5.2.2.2.1, l6.2.2.2.1, r4]
    exact b4
/-- the ink is not the row -/
theorem ink_rw (hx : Rx E Z S D R P σ) (hc : chg (lT S (P.2.1 30)) S S' D D' R R') : rf R' P.1 4 = rf R P.1 4 ∧ rf R' (rf R P.1 4) 1 = rf R (rf R P.1 4) 1 ∧ D' (rf R (rf R P.1 4) 1) = D (rf R (rf R P.1 4) 1) ∧ ∀ i, lE R' (rf R (rf R P.1 4) 1) i = lE R (rf R (rf R P.1 4) 1) i := by
  have k30 := pL_k hx.2.1 30 rfl (n := 13) rfl
  have kk := (kNI hx).1
  have hT := lT_pl (S := S) (a := P.2.1 30) (by omega)
  have hTb : ∀ q, lT S (P.2.1 30) q → tkB (S q).1 := fun q z => plK_b (hT q z)
  have n := lT_o hx.1 (a := P.2.1 30) (b := rf R (rf R P.1 4) 1) (by omega) (by omega) (ne_k kk k30 (by decide))
  have l := ls_chg hc (by omega) (hx.1.2.1 (rf R (rf R P.1 4) 1) (by omega) (by omega)) n.1 n.2
  exact ⟨cg_rf hc hTb hx.2.1.1 (by decide) (by decide) 4, cg_rf hc hTb hx.2.2.2.2.1.2.1 (by decide) (by decide) 1, l.2.2.1, l.2.2.2.1⟩
end RWS
/-- an image is put on: the rows that stand for it -/
def onQ (σ : mS) (n : Int) (r : Int → Int) : Prop := r 1009 = σ 11 0 ∧ tkR (σ 11) (n - 1) r (σ 11 0) ∧ ∀ j, 192 ≤ j → ¬ (960 ≤ j ∧ j < 968) → j ≠ 1009 → r j = σ 0 j
def onS (σ : mS) (r : Int → Int) : mS := fun k j => if k = 0 then r j else if (k = 4 ∨ k = 12) ∧ j = 0 then 0 else σ k j
theorem onS_f {σ : mS} {r : Int → Int} {k : Nat} (h : k ≠ 0 ∧ k ≠ 4 ∧ k ≠ 12) : onS σ r k = σ k := by
  funext j
  rw [onS, if_neg h.1, if_neg (fun z => by rcases z.1 with q | q; exact h.2.1 q; exact h.2.2 q)]
section ONS
variable {E : gE} {Z : Nat → Nat} {S S' S2 : xS} {D D' D2 : xD} {R R' R2 : xR} {P : xPk} {σ : mS}
/-- those behind are dropped -/
theorem Rx_b0 {σ' : mS} (hx : Rx E Z S D R P σ) (h : GI E Z S D' R' ∧ D' (P.2.1 5) 2 = 0 ∧ chg (lT S (P.2.1 5)) S S D D' R R') (h0 : σ' 0 = σ 0) (h4 : σ' 4 0 = 0) (hσ : ∀ k ∈ [7, 8, 9, 10, 11, 13, 39], σ' k = σ k) (hσ0 : ∀ k ∈ [5, 6, 12, 14, 15, 40], σ' k 0 = σ k 0) : Rx E Z S D' R' P σ' := by
  obtain ⟨hg, hp, hki, hro, hnw, ⟨b1, b2, b3, ⟨d1, d2, d3, d4, d5⟩, b5⟩, hsa, hpd⟩ := id hx
  obtain ⟨g', e2, hc⟩ := h
  have k5 := pL_k hp 5 rfl (n := 14) rfl
  have k6 := pL_k hp 6 rfl (n := 15) rfl
  have k31 := pL_k hp 31 rfl (n := 16) rfl
  have hT := lT_pl (S := S) (a := P.2.1 5) (by omega)
  have hTb : ∀ q, lT S (P.2.1 5) q → tkB (S q).1 := fun q z => plK_b (hT q z)
  have hT2 : ∀ q, lT S (P.2.1 5) q → (S q).1 ≠ 12 ∧ (S q).1 ≠ 22 := fun q z => by have := hT q z; omega
  have n6 := lT_o hg (a := P.2.1 5) (b := P.2.1 6) (by omega) (by omega) (ne_k k6 k5 (by decide))
  have n31 := lT_o hg (a := P.2.1 5) (b := P.2.1 31) (by omega) (by omega) (ne_k k31 k5 (by decide))
  have l6 := ls_chg hc (by omega) (hg.2.1 (P.2.1 6) (by omega) (by omega)) n6.1 n6.2
  have r4 : rf R' P.1 4 = rf R P.1 4 := cg_rf hc hTb hp.1 (by decide) (by decide) 4
  refine Rx_pl hx hc hT g' h0 (fun k hk => hσ k (by simp at hk ⊢; omega)) (fun k hk => hσ0 k (by simp at hk ⊢; omega)) ?_ (fun h9 => samR_to (hσ0 6 (by decide)) (hσ 7 (by decide)) (hσ 8 (by decide)) (hσ 9 (by decide)) (hσ 10 (by decide)) (samR_chg hc hTb hT2 hg hp n31 (hsa h9)))
  rw [behR, h4]
  refine ⟨e2, by decide, fun i x y => by omega, ⟨fun i j x y z => by omega, fun i j x y z => ?_, fun i x y => by omega, fun i x y => ?_, fun i j x y z u => by omega⟩, by rw [l6.2.2.1]; omega⟩
  · rw [l6.2.2.1] at z; rw [l6.2.2.2.1, l6.2.2.2.1]; exact d2 i j x y z
  · rw [l6.2.2.1] at y; rw [l6.2.2.2.1, r4]; exact d4 i x y
theorem act_on (hx : Rx E Z S D R P σ) {n : Int} (h08 : 0 ≤ σ 11 0 ∧ σ 11 0 ≤ 8) (hcn : ∀ s', 0 ≤ s' → s' < σ 11 0 → σ 11 (tkP (σ 11) (n - 1) s'.toNat) ≤ 12) (hrw : rwL S D R (P.2.1 30) (σ 11 0) (fun i => σ 11 (tkP (σ 11) (n - 1) i.toNat)) (fun i j => σ 11 (tkP (σ 11) (n - 1) i.toNat + 1 + j))) (h1 : GI E Z S D' R' ∧ D' (rf R (rf R P.1 4) 1) 2 = 0 ∧ chg (lT S (rf R (rf R P.1 4) 1)) S S D D' R R') (h2 : GI E Z S2 D2 R2 ∧ D2 (rf R (rf R P.1 4) 1) 2 = D' (P.2.1 30) 2 ∧ chg (lT S (rf R (rf R P.1 4) 1)) S S2 D' D2 R' R2 ∧ ∀ i, 0 ≤ i → i < D' (P.2.1 30) 2 → lE R2 (rf R (rf R P.1 4) 1) i = lE R' (P.2.1 30) i) {r : Int → Int} (hr : onQ σ n r) : Rx E Z S2 D2 R2 P (rowS σ r) := by
  have k30 := pL_k hx.2.1 30 rfl (n := 13) rfl
  have kk := (kNI hx).1
  have n30 := lT_o hx.1 (a := rf R (rf R P.1 4) 1) (b := P.2.1 30) (by omega) (by omega) (ne_k k30 kk (by decide))
  have l30 := ls_chg h1.2.2 (by omega) (hx.1.2.1 (P.2.1 30) (by omega) (by omega)) n30.1 n30.2
  have hc : chg (lT S (rf R (rf R P.1 4) 1)) S S2 D D2 R R2 := chg_t h1.2.2 h2.2.2.1 (fun q _ h => h)
  have hd : D' (P.2.1 30) 2 = σ 11 0 := by rw [l30.2.2.1]; exact hrw.1
  obtain ⟨q1, q2, q3⟩ := hr
  refine Rx_ink hx h2.1 hc (by rw [h2.2.1, hd, q1]) (by rw [q1]; exact h08.2) (fun i x y => ?_) (fun j a b => q3 j (by omega) (by omega) b)
  rw [q1] at y
  rw [h2.2.2.2 i x (by rw [hd]; exact y), l30.2.2.2.1]
  have w := q2 i x y
  exact skR_to (skR_chg hc (lT_k (by omega)) hx.1.1 (hrw.2 i x y)) w.1 (fun j x9 y9 => w.2 j x9 y9)
end ONS
