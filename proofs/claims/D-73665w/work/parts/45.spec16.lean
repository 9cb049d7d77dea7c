set_option maxRecDepth 100000
/-! THE PURE WORDS, 16: forgotten, wobbled, images -/
/-- model k is forgotten, the models up to m being moved (of m itself: a counts, b letters, c counts of points, d numbers) -/
def foP (r : Int → Int) (k m a b c d : Int) : Int → Int := fun j => if j = 1000 then r 1000 - 1 else if 1001 + k ≤ j ∧ j < 1001 + m + a then r (j + 1) else if 1010 + 4 * k ≤ j ∧ j < 1010 + 4 * m + b then r (j + 4) else if 968 + 4 * k ≤ j ∧ j < 968 + 4 * m + c then r (j + 4) else if 24 * (8 + 4 * k) ≤ j ∧ j < 24 * (8 + 4 * m) + d then r (j + 96) else r j
def foF (r : Int → Int) (k : Int) : Int → Int := foP r k (r 1000 - 1) 0 0 0 0
/-- one number wobbled -/
def wbV (x n sd : Int) : Int := max 0 (min 99 (x - n + sdF sd / 64 % (2 * n + 1)))
/-- q numbers of stroke s wobbled: (the row, the seed) -/
def wbK (n s : Int) : Nat → (Int → Int) × Int → (Int → Int) × Int
  | 0, a => a
  | q + 1, a => (up (wbK n s q a).1 (24 * s + q) (wbV ((wbK n s q a).1 (24 * s + q)) n (wbK n s q a).2), sdF (wbK n s q a).2)
/-- s strokes wobbled -/
def wbS (n : Int) (many : Int → Int) : Nat → (Int → Int) × Int → (Int → Int) × Int
  | 0, a => a
  | s + 1, a => wbK n s (2 * many s).toNat (wbS n many s a)
def wbM (many : Int → Int) : Nat → Int
  | 0 => 0
  | s + 1 => wbM many s + many s
theorem wbK_off {n s : Int} : ∀ (q : Nat) (a : (Int → Int) × Int) (j : Int), (j < 24 * s ∨ 24 * s + q ≤ j) → (wbK n s q a).1 j = a.1 j
  | 0, a, j, _ => rfl
  | q + 1, a, j, h => by
    rw [wbK]
    simp only
    rw [up_n (by omega)]
    exact wbK_off q a j (by omega)
theorem sdF_r (s : Int) : 0 ≤ sdF s ∧ sdF s < 2147483648 := by rw [sdF]; omega
theorem wbK_sd {n s : Int} : ∀ (q : Nat) (a : (Int → Int) × Int), (0 ≤ a.2 ∧ a.2 < 2147483648) → 0 ≤ (wbK n s q a).2 ∧ (wbK n s q a).2 < 2147483648
  | 0, a, h => h
  | q + 1, a, _ => by rw [wbK]; exact sdF_r _
abbrev wobC (σ : mS) (n : Int) : Prop := (1 ≤ n ∧ n ≤ 9) ∧ ¬ σ 0 1009 = 0
