set_option maxRecDepth 100000
/-! BY HOW MUCH A MODEL IS THE FIRST -/
def rtI (S : Int → Int) (its m ot : Int) : Prop := (ot = 100000 ∧ (rgF S its 1 m.toNat).2 = 100000000 ∧ (m = 0 ∨ (m = 1 ∧ its = 0))) ∨ (0 ≤ ot ∧ ot ≤ 1584 ∧ (rgF S its 1 m.toNat).2 = ot - S its)
theorem rtI_0 {S : Int → Int} {its : Int} : rtI S its 0 100000 := Or.inl ⟨rfl, rfl, Or.inl rfl⟩
theorem rtI_skip {S : Int → Int} {its m ot : Int} (h0 : 0 ≤ m) (h : rtI S its m ot) (he : m = its) : rtI S its (m + 1) ot := by
  rw [rtI, show (m + 1).toNat = m.toNat + 1 by omega, rg_step, show ((m.toNat : Nat) : Int) = m by omega, if_pos he]
  rcases h with ⟨a, b, c⟩ | ⟨a, b, c⟩
  · exact Or.inl ⟨a, b, by omega⟩
  · exact Or.inr ⟨a, b, c⟩
theorem rtI_take {S : Int → Int} {its m ot ot' : Int} (h0 : 0 ≤ m) (h : rtI S its m ot) (he : ¬ m = its) (hm : 0 ≤ S m ∧ S m ≤ 1584) (hi : 0 ≤ S its ∧ S its ≤ 1584) (ho : ot' = min ot (S m)) : rtI S its (m + 1) ot' := by
  rw [rtI, show (m + 1).toNat = m.toNat + 1 by omega, rg_step, show ((m.toNat : Nat) : Int) = m by omega, if_neg he]
  show _ ∨ (0 ≤ ot' ∧ ot' ≤ 1584 ∧ min (rgF S its 1 m.toNat).2 (S m - S its) = ot' - S its)
  rcases h with ⟨a, b, c⟩ | ⟨a, b, c⟩
  · exact Or.inr ⟨by omega, by omega, by rw [b]; omega⟩
  · exact Or.inr ⟨by omega, by omega, by rw [c]; omega⟩
