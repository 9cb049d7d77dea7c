set_option maxRecDepth 100000
/-! THE PURE WORDS, 18: an image taken in -/
/-- a stroke of an image begins at place i -/
abbrev tkC (f : Int → Int) (e i : Int) : Prop := i < e ∧ (2 ≤ f i ∧ f i ≤ 12) ∧ i + 1 + 2 * f i ≤ e ∧ smlF (fun k => f (i + 1 + k)) (2 * f i).toNat = true
/-- where stroke s of an image begins; -1 -/
def tkP (f : Int → Int) (e : Int) : Nat → Int
  | 0 => 1
  | s + 1 => if 0 ≤ tkP f e s ∧ tkC f e (tkP f e s) then tkP f e s + 1 + 2 * f (tkP f e s) else -1
theorem tkP_dead {f : Int → Int} {e : Int} {s : Nat} (h : tkP f e s = -1) : ∀ n, tkP f e (s + n) = -1
  | 0 => h
  | n + 1 => by rw [← Nat.add_assoc, tkP, tkP_dead h n, if_neg (by omega)]
theorem tkP_r {f : Int → Int} {e : Int} : ∀ s : Nat, tkP f e s = -1 ∨ 1 ≤ tkP f e s
  | 0 => Or.inr (by rw [tkP]; omega)
  | s + 1 => by
    rw [tkP]
    split
    · rename_i h
      have := h.2.2.1
      right; omega
    · exact Or.inl rfl
/-- the strokes s' < s lie in the row -/
def tkR (f : Int → Int) (e : Int) (r : Int → Int) (s : Int) : Prop := ∀ s', 0 ≤ s' → s' < s → r (960 + s') = f (tkP f e s'.toNat) ∧ ∀ j, 0 ≤ j → j < 2 * f (tkP f e s'.toNat) → r (24 * s' + j) = f (tkP f e s'.toNat + 1 + j)
abbrev onC (σ : mS) : Prop := 2 ≤ σ 12 0 ∧ σ 11 0 ≤ 8 ∧ σ 11 (σ 12 0 - 1) = ckF (σ 11) (σ 12 0 - 1).toNat ∧ tkP (σ 11) (σ 12 0 - 1) (σ 11 0).toNat = σ 12 0 - 1

/-- the row behind an image put on -/
def onR (t σ : mS) : Prop := t 0 1009 = σ 11 0 ∧ tkR (σ 11) (σ 12 0 - 1) (t 0) (σ 11 0) ∧ (∀ s', 0 ≤ s' → s' < σ 11 0 → 2 ≤ σ 11 (tkP (σ 11) (σ 12 0 - 1) s'.toNat) ∧ σ 11 (tkP (σ 11) (σ 12 0 - 1) s'.toNat) ≤ 12) ∧ ∀ j, 192 ≤ j → ¬ (960 ≤ j ∧ j < 968) → j ≠ 1009 → t 0 j = σ 0 j
