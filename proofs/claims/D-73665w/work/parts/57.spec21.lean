set_option maxRecDepth 100000
/-! THE PURE WORDS, 21: the own words -/
def owN : List Nat := [19, 5, 20, 0, 5, 22, 5, 14, 0, 2, 1, 14, 4, 0, 12, 15, 15, 19, 5, 0, 20, 21, 18, 14, 0, 13, 1, 18, 7, 9, 14, 0, 16, 12, 1, 3, 5, 0, 12, 5, 20, 20, 5, 18, 0, 9, 14, 11, 0, 19, 20, 18, 15, 11, 5, 0]
def oBN : List Nat := [0, 4, 9, 14, 20, 25, 32, 38, 45, 49, 56]
def oLN : List Nat := [3, 4, 4, 5, 4, 6, 5, 6, 3, 6]
def owL (j : Int) : Int := (owN.getD j.toNat 0 : Nat)
def oB (n : Int) : Int := (oBN.getD n.toNat 0 : Nat)
def oN (n : Int) : Int := (oLN.getD n.toNat 0 : Nat)
theorem ow_tab : ∀ n < 10, (∀ i < 6, i < oLN.getD n 0 → 1 ≤ owN.getD (oBN.getD n 0 + i) 0 ∧ owN.getD (oBN.getD n 0 + i) 0 ≤ 26) ∧ owN.getD (oBN.getD n 0 + oLN.getD n 0) 0 = 0 ∧ oBN.getD (n + 1) 0 = oBN.getD n 0 + oLN.getD n 0 + 1 ∧ oBN.getD n 0 + oLN.getD n 0 < 56 ∧ oLN.getD n 0 ≤ 6 ∧ 3 ≤ oLN.getD n 0 := by decide
theorem ow_f {n : Int} (h0 : 0 ≤ n) (h1 : n < 10) : (∀ i, 0 ≤ i → i < oN n → 1 ≤ owL (oB n + i) ∧ owL (oB n + i) ≤ 26) ∧ owL (oB n + oN n) = 0 ∧ oB (n + 1) = oB n + oN n + 1 ∧ 0 ≤ oB n ∧ oB n + oN n < 56 ∧ 3 ≤ oN n ∧ oN n ≤ 6 := by
  obtain ⟨a, b, c, d, e, f⟩ := ow_tab n.toNat (by omega)
  simp only [owL, oB, oN]
  rw [show (n + 1).toNat = n.toNat + 1 by omega, c]
  refine ⟨fun i h2 h3 => ?_, ?_, by omega, by omega, by omega, by omega, by omega⟩
  · have := a i.toNat (by omega) (by omega)
    rw [show (((oBN.getD n.toNat 0 : Nat) : Int) + i).toNat = oBN.getD n.toNat 0 + i.toNat by omega]
    omega
  · rw [show (((oBN.getD n.toNat 0 : Nat) : Int) + ((oLN.getD n.toNat 0 : Nat) : Int)).toNat = oBN.getD n.toNat 0 + oLN.getD n.toNat 0 by omega, b]; rfl
/-- the first i letters of the passed word are word n's -/
def owE (σ : mS) (n : Int) : Nat → Bool
  | 0 => true
  | i + 1 => owE σ n i && decide (σ 11 (σ 18 0 + i) - 96 = owL (oB n + i))
theorem owE_at {σ : mS} {n : Int} : ∀ {m : Nat}, owE σ n m = true → ∀ i : Int, 0 ≤ i → i < m → σ 11 (σ 18 0 + i) - 96 = owL (oB n + i)
  | 0, _, i, h0, h1 => by omega
  | m + 1, h, i, h0, h1 => by
    rw [owE, Bool.and_eq_true] at h
    by_cases z : i = m
    · rw [z]; exact of_decide_eq_true h.2
    · exact owE_at h.1 i h0 (by omega)
abbrev owM (σ : mS) (n : Int) : Prop := σ 17 0 - σ 18 0 = oN n ∧ owE σ n (oN n).toNat = true
def owF (σ : mS) : Nat → Int → Int
  | 0, _ => -1
  | m + 1, n => if owM σ n then n else owF σ m (n + 1)
/-- which own word was passed -/
def sp_own (σ : mS) : Int := owF σ 10 0
def ownOK (σ : mS) : Prop := ∀ j, 0 ≤ j → j < 56 → σ 21 j = owL j
