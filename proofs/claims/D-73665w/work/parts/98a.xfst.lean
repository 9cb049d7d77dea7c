set_option maxRecDepth 100000
/-! WHETHER A MODEL IS THE FIRST -/
theorem rg_step {S : Int → Int} {its : Int} {m : Nat} : rgF S its 1 (m + 1) = if (m : Int) = its then rgF S its 1 m else ((if (rgF S its 1 m).1 ≠ 0 ∧ (0 < S m - S its ∨ (S m - S its = 0 ∧ its < m)) then 1 else 0), min (rgF S its 1 m).2 (S m - S its)) := by
  rw [rgF, if_neg (show ¬ (1 : Int) = 0 by decide)]
theorem rg_dead {S : Int → Int} {its : Int} {m : Nat} (h : (rgF S its 1 m).1 = 0) : ∀ n : Nat, (rgF S its 1 (m + n)).1 = 0
  | 0 => h
  | n + 1 => by
    have ih := rg_dead h n
    rw [← Nat.add_assoc, rg_step]
    split
    · exact ih
    · show (if (rgF S its 1 (m + n)).1 ≠ 0 ∧ _ then (1 : Int) else 0) = 0
      rw [if_neg (fun z => z.1 ih)]
theorem rg_go {S : Int → Int} {its m : Int} (h0 : 0 ≤ m) (h : (rgF S its 1 m.toNat).1 = 1) (hc : ¬ S m < S its ∧ (S m = S its → ¬ m < its)) : (rgF S its 1 (m + 1).toNat).1 = 1 := by
  rw [show (m + 1).toNat = m.toNat + 1 by omega, rg_step, show ((m.toNat : Nat) : Int) = m by omega]
  split
  · exact h
  · show (if (rgF S its 1 m.toNat).1 ≠ 0 ∧ (0 < S m - S its ∨ (S m - S its = 0 ∧ its < m)) then (1 : Int) else 0) = 1
    rw [if_pos (by rw [h]; omega)]
theorem rg_no {S : Int → Int} {its m N : Int} (h0 : 0 ≤ m) (h1 : m < N) (hc : S m < S its ∨ (S m = S its ∧ m < its)) : (rgF S its 1 N.toNat).1 = 0 := by
  have e : (rgF S its 1 (m.toNat + 1)).1 = 0 := by
    have hne : ¬ m = its := by
      intro z
      subst z
      omega
    rw [rg_step, show ((m.toNat : Nat) : Int) = m by omega, if_neg hne]
    show (if (rgF S its 1 m.toNat).1 ≠ 0 ∧ (0 < S m - S its ∨ (S m - S its = 0 ∧ its < m)) then (1 : Int) else 0) = 0
    rw [if_neg (by omega)]
  have := rg_dead e (N.toNat - (m.toNat + 1))
  rw [show m.toNat + 1 + (N.toNat - (m.toNat + 1)) = N.toNat by omega] at this
  exact this
theorem rg_0 {S : Int → Int} {its : Int} : ∀ N : Nat, (rgF S its 0 N).1 = 0
  | 0 => rfl
  | N + 1 => by
    have ih := rg_0 (S := S) (its := its) N
    rw [rgF]
    split
    · exact ih
    · show (if (rgF S its 0 N).1 ≠ 0 ∧ _ then (1 : Int) else 0) = 0
      rw [if_neg (fun z => z.1 ih)]
