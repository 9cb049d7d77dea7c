set_option maxRecDepth 100000
/-! LETTERS, STROKES OF LETTERS: addresses; what depends on a stroke's numbers alone -/
theorem if_iff {p q : Prop} [Decidable p] [Decidable q] (h : p ↔ q) : (if p then 1 else 0 : Int) = if q then 1 else 0 := by
  by_cases c : p
  · rw [if_pos c, if_pos (h.mp c)]
  · rw [if_neg c, if_neg (fun z => c (h.mpr z))]
theorem pcs_congr {n k : Int} {f g : Int → Int} (h : ∀ j, 0 ≤ j → j < 2 * n → f j = g j) (h0 : 0 ≤ k) (h1 : k + 1 < n) : pcs f k = pcs g k := by
  rw [pcs, pcs, h (2 * (k + 1) + 0) (by omega) (by omega), h (2 * k + 0) (by omega) (by omega), h (2 * (k + 1) + 1) (by omega) (by omega), h (2 * k + 1) (by omega) (by omega)]
theorem lenF_congr {n : Int} {f g : Int → Int} (h : ∀ j, 0 ≤ j → j < 2 * n → f j = g j) : ∀ k : Nat, (k : Int) < n → lenF f k = lenF g k
  | 0, _ => rfl
  | k + 1, hk => by rw [lenF, lenF, lenF_congr h k (by omega), pcs_congr h (by omega) (by omega)]
theorem lnS_congr {n : Int} {f g : Int → Int} (hn : 1 ≤ n) (h : ∀ j, 0 ≤ j → j < 2 * n → f j = g j) : lnS n f = lnS n g := lenF_congr h _ (by omega)
theorem smP_congr {n : Int} {f g : Int → Int} (h : ∀ j, 0 ≤ j → j < 2 * n → f j = g j) : ∀ (q : Nat) (p l : Int), 0 ≤ p → p + q ≤ n - 2 → smP f q p l = smP g q p l
  | 0, p, l, _, _ => rfl
  | q + 1, p, l, h0, h1 => by
    rw [smP, smP, pcs_congr h h0 (by omega)]
    split
    · exact smP_congr h q (p + 1) _ (by omega) (by omega)
    · rfl
theorem smp_congr {n : Int} {f g : Int → Int} (hk : skOK n f) (h : ∀ j, 0 ≤ j → j < 2 * n → f j = g j) {e k ax : Int} (he : 4 ≤ e ∧ e ≤ 16) (hk2 : 0 ≤ k ∧ k ≤ e) (hax : ax = 0 ∨ ax = 1) : smp n f e k ax = smp n g e k ax := by
  have h1 := hk.1
  have hQ : smQ n f e k = smQ n g e k := by rw [smQ, smQ, lnS_congr (by omega) h, smP_congr h _ _ _ (by omega) (by omega)]
  have hr := smQ_r hk he hk2
  rw [smp, smp, ← hQ, smV, smV, h (2 * (smQ n f e k).1 + ax) (by omega) (by omega), h (2 * ((smQ n f e k).1 + 1) + ax) (by omega) (by omega), pcs_congr h hr.1 (by omega)]
theorem cdL_congr {n : Int} {f g : Int → Int} (hk : skOK n f) (h : ∀ j, 0 ≤ j → j < 2 * n → f j = g j) {e : Int} (he : 4 ≤ e ∧ e ≤ 16) : ∀ k : Nat, (k : Int) ≤ e → cdL n f e k = cdL n g e k
  | 0, _ => rfl
  | k + 1, hk2 => by rw [cdL, cdL, cdL_congr hk h he k (by omega), smp_congr hk h he (by omega) (by decide), smp_congr hk h he (by omega) (by decide), smp_congr hk h he (by omega) (by decide), smp_congr hk h he (by omega) (by decide)]
theorem cdk_congr {n : Int} {f g : Int → Int} (hk : skOK n f) (h : ∀ j, 0 ≤ j → j < 2 * n → f j = g j) {e k : Int} (he : 4 ≤ e ∧ e ≤ 16) (hk2 : 0 ≤ k ∧ k < e) : cdk n f e k = cdk n g e k := cdL_congr hk h he _ (by omega)
theorem bndF_congr {c d : Int → Int} {e : Int} (h : ∀ k, 0 ≤ k → k < e → c k = d k) : ∀ k : Nat, (k : Int) < e → bndF c k = bndF d k
  | 0, _ => rfl
  | k + 1, hk => by rw [bndF, bndF, bndF_congr h k (by omega), h k (by omega) (by omega), h ((k : Int) + 1) (by omega) (by omega)]
/-- what is laid of a stroke, by the numbers that it stands for -/
theorem sk_cds {S : xS} {D : xD} {R : xR} {s : Nat} {n e : Int} {f : Int → Int} (hB : strB S D R s) (hd : skR S D R s n f) : strN S R s = n ∧ D s 2 = lnS n f ∧ (caOK D R s (strN S R s) e → (∀ k ax, 0 ≤ k → k ≤ e → (ax = 0 ∨ ax = 1) → D (rf R s 4) (2 * k + ax) = smp n f e k ax) ∧ (∀ k, 0 ≤ k → k < e → D (rf R s 5) k = cdk n f e k) ∧ ∀ k, 0 ≤ k → k < e → D (rf R s 6) k = (cdk n f e (e - 1 - k) + 4) % 8) := by
  have hn : strN S R s = n := by have := hd.2.1; rw [strN]; omega
  obtain ⟨hf, hk, hp, hl⟩ := hB
  rw [hn] at hk hl
  have h1 := hk.1
  refine ⟨hn, by rw [hl]; exact lnS_congr (by omega) hd.2.2, fun hc => ?_⟩
  rw [hn] at hc
  obtain ⟨he, a, b, c⟩ := hc
  exact ⟨fun k ax x y z => (a k ax x y z).trans (smp_congr hk hd.2.2 he ⟨x, y⟩ z), fun k x y => (b k x y).trans (cdk_congr hk hd.2.2 he ⟨x, y⟩), fun k x y => (c k x y).trans (by rw [cdk_congr hk hd.2.2 he (k := e - 1 - k) (by omega)])⟩
/-- the list of a letter's strokes -/
def lsA (R : xR) (N : Nat) (m : Int) : Nat := if m = -1 then rf R N 1 else rf R (lE R (rf R N 0) m) 1
theorem Rx.letter {E : gE} {Z : Nat → Nat} {S : xS} {D : xD} {R : xR} {P : xPk} {σ : mS} (hx : Rx E Z S D R P σ) {m : Int} (hm : isL σ m) : lsR S D R (lsA R (rf R P.1 4) m) σ (fsS m) (mnS σ m) ∧ ((S (lsA R (rf R P.1 4) m)).1 = 10 ∨ (S (lsA R (rf R P.1 4) m)).1 = 12) ∧ lsOK Z S D R (lsA R (rf R P.1 4) m) ∧ letS σ (fsS m) (mnS σ m) := by
  obtain ⟨hg, hp, -, hro, ⟨-, h1, -, h3, h4, h5, h6⟩, -⟩ := hx
  have hmr := mnS_r hro hm
  obtain ⟨t1, t2, t3, t4, t5, -⟩ := hg.2.2.1 _ h1
  have hle := letS_of hro hm
  by_cases c : m = -1
  · rw [lsA, if_pos c, fsS, if_pos c, mnS, if_pos c]
    refine ⟨⟨h3, fun i a b => ?_⟩, Or.inl t5, hg.2.1 _ (by omega) (by omega), by rw [fsS, if_pos c, mnS, if_pos c] at hle; exact hle⟩
    have hi : (0 : Int) + i < 40 := by have := hro.2.1; omega
    rw [np_lo hi, nu_lo hi, show (0 : Int) + i = i by omega]
    exact h4 i a b
  · have hm2 : 0 ≤ m ∧ m < σ 0 1000 := by rcases hm with h | h; exact absurd h c; exact h
    obtain ⟨k7, m1, m2, -⟩ := h6 m hm2.1 hm2.2
    obtain ⟨l1, l2, l3, l4, l5⟩ := hg.2.2.2.1 _ k7
    rw [lsA, if_neg c, fsS, if_neg c, mnS, if_neg c]
    refine ⟨⟨m1, fun i a b => ?_⟩, Or.inr l4, hg.2.1 _ (by omega) (by omega), by rw [fsS, if_neg c, mnS, if_neg c] at hle; exact hle⟩
    have hi : 8 + 4 * m + i < 40 := by
      have := hro.2.2.2.2.2.2.2.2.1 m hm2.1 hm2.2
      have := hro.1
      omega
    rw [np_lo hi, nu_lo hi]
    exact m2 i a b
