set_option maxRecDepth 100000
/-! COSTS: a stroke's cell by a box; the tables of two letters as far as they are laid -/
theorem cel_box {S : xS} {t : xD} {R : xR} {s la ma : Nat} {σ : mS} {x first many i : Int} (hG : GS S t R) (hs : skR S t R s (np σ x) (nu σ x)) (hl : letS σ first many) (h0 : first ≤ x) (h1 : x < first + many) (hi : i = 0 ∨ i = 1) (hb : t la i = bxF 0 σ i first many.toNat ∧ t ma i = bxF 1 σ i first many.toNat) : ((0 ≤ t la i ∧ t la i ≤ enF 0 (strN S R s) (t (rf R s 0)) i ∧ t la i ≤ enF 1 (strN S R s) (t (rf R s 0)) i) ∧ (enF 0 (strN S R s) (t (rf R s 0)) i ≤ t ma i ∧ enF 1 (strN S R s) (t (rf R s 0)) i ≤ t ma i ∧ t ma i ≤ 99)) ∧ 3 * (enF 0 (strN S R s) (t (rf R s 0)) i + enF 1 (strN S R s) (t (rf R s 0)) i - 2 * t la i) / (2 * (t ma i - t la i) + 1) = celS σ x first many i := by
  have e := bxF_edge hl (by omega) hi
  have hk := hl.2.2.2.2 x h0 h1
  have hn : strN S R s = np σ x := by have := hs.2.1; rw [strN]; omega
  have en : ∀ b, enF b (strN S R s) (t (rf R s 0)) i = edge σ x 1 i b := fun b => by
    rw [enF_edge, hn]
    exact enF_congr hi (by have := hk.1; omega) hs.2.2
  have a := edge_one (b := 0) hl hi h0 h1
  have b := edge_one (b := 1) hl hi h0 h1
  have c := celS_b hl hi h0 h1
  rw [en, en, hb.1, hb.2, e.1, e.2]
  exact ⟨by omega, rfl⟩
/-- of the first strokes (up to i, of that one with the others up to j) what they cost is laid -/
def tb1 (P : xPk) (t : xD) (σ : mS) (a b m w i j : Int) : Prop := ∀ i' j', 0 ≤ i' → 0 ≤ j' → j' < m → (i' < i ∨ (i' = i ∧ j' < j)) → t (P.2.2 15 i') j' = els σ (a + i') (b + j') 0 w ∧ t (P.2.2 16 i') j' = els σ (a + i') (b + j') 1 w
def tb2 (P : xPk) (t : xD) (σ : mS) (a n b m i j : Int) : Prop := ∀ i' j', 0 ≤ i' → 0 ≤ j' → j' < m → (i' < i ∨ (i' = i ∧ j' < j)) → t (P.2.2 17 i') j' = cll σ a n b m i' j'
/-- what all pairs of two letters' strokes cost is laid -/
def cosT (P : xPk) (t : xD) (σ : mS) (a n b m w : Int) : Prop := ∀ i j, 0 ≤ i → i < n → 0 ≤ j → j < m → t (P.2.2 15 i) j = els σ (a + i) (b + j) 0 w ∧ t (P.2.2 16 i) j = els σ (a + i) (b + j) 1 w ∧ t (P.2.2 17 i) j = cll σ a n b m i j
section TB
variable {Z : Nat → Nat} {S : xS} {R : xR} {P : xPk} {t t' : xD} {σ : mS} {a n b m w i j : Int}
theorem tb1_0 : tb1 P t σ a b m w 0 0 := fun i' j' x y z u => by omega
theorem tb2_0 : tb2 P t σ a n b m 0 0 := fun i' j' x y z u => by omega
theorem tb1_row (h : tb1 P t σ a b m w i j) (hj : m ≤ j) : tb1 P t σ a b m w (i + 1) 0 := fun i' j' x y z u => h i' j' x y z (by omega)
theorem tb2_row (h : tb2 P t σ a n b m i j) (hj : m ≤ j) : tb2 P t σ a n b m (i + 1) 0 := fun i' j' x y z u => h i' j' x y z (by omega)
theorem tb1_step (hp : penOK Z S R P) (hi : 0 ≤ i ∧ i < 8) (h : tb1 P t σ a b m w i j) (hf : ∀ (q : Nat) (k : Int), ((S q).1 = 115 ∨ (S q).1 = 116) → (q ≠ P.2.2 15 i ∨ k ≠ j) → (q ≠ P.2.2 16 i ∨ k ≠ j) → t' q k = t q k) (h1 : t' (P.2.2 15 i) j = els σ (a + i) (b + j) 0 w) (h2 : t' (P.2.2 16 i) j = els σ (a + i) (b + j) 1 w) : tb1 P t' σ a b m w i (j + 1) := by
  intro i' j' x y z u
  have k5 := pG_k hp 15 rfl (n := 8) rfl (i := i') (by omega) (m := 115) rfl
  have k6 := pG_k hp 16 rfl (n := 8) rfl (i := i') (by omega) (m := 116) rfl
  have l5 := pG_k hp 15 rfl (n := 8) rfl (i := i) (by omega) (m := 115) rfl
  have l6 := pG_k hp 16 rfl (n := 8) rfl (i := i) (by omega) (m := 116) rfl
  by_cases c : i' = i ∧ j' = j
  · rw [c.1, c.2]
    exact ⟨h1, h2⟩
  · have e := h i' j' x y z (by omega)
    have n5 : P.2.2 15 i' ≠ P.2.2 15 i ∨ j' ≠ j := by
      by_cases c2 : i' = i
      · exact Or.inr (fun c3 => c ⟨c2, c3⟩)
      · exact Or.inl (pG_i hp 15 rfl (n := 8) rfl (by omega) (by omega) c2)
    have n6 : P.2.2 16 i' ≠ P.2.2 16 i ∨ j' ≠ j := by
      by_cases c2 : i' = i
      · exact Or.inr (fun c3 => c ⟨c2, c3⟩)
      · exact Or.inl (pG_i hp 16 rfl (n := 8) rfl (by omega) (by omega) c2)
    rw [hf _ _ (Or.inl k5) n5 (Or.inl (ne_k k5 l6 (by decide))), hf _ _ (Or.inr k6) (Or.inl (ne_k k6 l5 (by decide))) n6]
    exact e
theorem tb2_step (hp : penOK Z S R P) (hi : 0 ≤ i ∧ i < 8) (h : tb2 P t σ a n b m i j) (hf : ∀ (q : Nat) (k : Int), (q ≠ P.2.2 17 i ∨ k ≠ j) → t' q k = t q k) (h1 : t' (P.2.2 17 i) j = cll σ a n b m i j) : tb2 P t' σ a n b m i (j + 1) := by
  intro i' j' x y z u
  by_cases c : i' = i ∧ j' = j
  · rw [c.1, c.2]
    exact h1
  · have e := h i' j' x y z (by omega)
    have n5 : P.2.2 17 i' ≠ P.2.2 17 i ∨ j' ≠ j := by
      by_cases c2 : i' = i
      · exact Or.inr (fun c3 => c ⟨c2, c3⟩)
      · exact Or.inl (pG_i hp 17 rfl (n := 8) rfl (by omega) (by omega) c2)
    rw [hf _ _ n5]
    exact e
theorem tb1_fr (hp : penOK Z S R P) (hi : i ≤ 8) (hj : j ≤ 0) (h : tb1 P t σ a b m w i j) (hf : ∀ (q : Nat) (k : Int), ((S q).1 = 115 ∨ (S q).1 = 116) → t' q k = t q k) : tb1 P t' σ a b m w i j := by
  intro i' j' x y z u
  have k5 := pG_k hp 15 rfl (n := 8) rfl (i := i') (by omega) (m := 115) rfl
  have k6 := pG_k hp 16 rfl (n := 8) rfl (i := i') (by omega) (m := 116) rfl
  rw [hf _ _ (Or.inl k5), hf _ _ (Or.inr k6)]
  exact h i' j' x y z u
theorem cosT_of (h1 : tb1 P t σ a b m w n 0) (h2 : tb2 P t σ a n b m n 0) : cosT P t σ a n b m w := fun i j x y z u => ⟨(h1 i j x z u (Or.inl y)).1, (h1 i j x z u (Or.inl y)).2, h2 i j x z u (Or.inl y)⟩
theorem cosT_fr (hp : penOK Z S R P) (hn : n ≤ 8) (h : cosT P t σ a n b m w) (hf : ∀ (q : Nat) (k : Int), ((S q).1 = 115 ∨ (S q).1 = 116 ∨ (S q).1 = 117) → t' q k = t q k) : cosT P t' σ a n b m w := by
  intro i j x y z u
  have k5 := pG_k hp 15 rfl (n := 8) rfl (i := i) (by omega) (m := 115) rfl
  have k6 := pG_k hp 16 rfl (n := 8) rfl (i := i) (by omega) (m := 116) rfl
  have k7 := pG_k hp 17 rfl (n := 8) rfl (i := i) (by omega) (m := 117) rfl
  rw [hf _ _ (Or.inl k5), hf _ _ (Or.inr (Or.inl k6)), hf _ _ (Or.inr (Or.inr k7))]
  exact h i j x y z u
end TB
