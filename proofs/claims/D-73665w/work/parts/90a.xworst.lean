set_option maxRecDepth 100000
/-! WORST: the walk over the strokes -/
def wrI (σ : mS) (x y k fo mo lf : Int) : Prop := (wrF σ x y k.toNat).1.1 = fo ∧ (wrF σ x y k.toNat).1.2 = max 0 mo ∧ (wrF σ x y k.toNat).2 = lf ∧ ((fo = -1 ∧ mo = -1) ∨ (0 ≤ fo ∧ 0 ≤ mo))
theorem wrI_0 (σ : mS) (x y : Int) : wrI σ x y 0 (-1) (-1) (mnS σ x + mnS σ y) := by
  rw [wrI, show (0 : Int).toNat = 0 from rfl, wrF]
  exact ⟨rfl, rfl, rfl, Or.inl ⟨rfl, rfl⟩⟩
theorem wrI_keep {σ : mS} {x y k fo mo lf lf' : Int} (hk : 0 ≤ k) (h : wrI σ x y k fo mo lf) (hc : 0 ≤ cof σ x y k) (hm : cof σ x y k ≤ mo) (hl : lf' = lf - (if pnr σ x y k = -1 then 0 else 2)) : wrI σ x y (k + 1) fo mo lf' := by
  obtain ⟨h1, h2, h3, h4⟩ := h
  rw [wrI, show (k + 1).toNat = k.toNat + 1 by omega, wrF, show ((k.toNat : Nat) : Int) = k by omega, if_neg (by omega)]
  exact ⟨h1, h2, by rw [hl, h3], h4⟩
theorem wrI_take {σ : mS} {x y k fo mo lf lf' : Int} (hk : 0 ≤ k) (h : wrI σ x y k fo mo lf) (hc : 0 ≤ cof σ x y k) (hm : mo < cof σ x y k) (hl : lf' = lf - (if pnr σ x y k = -1 then 0 else 2)) : wrI σ x y (k + 1) k (cof σ x y k) lf' := by
  obtain ⟨h1, h2, h3, h4⟩ := h
  rw [wrI, show (k + 1).toNat = k.toNat + 1 by omega, wrF, show ((k.toNat : Nat) : Int) = k by omega, if_pos (by omega)]
  exact ⟨rfl, by show cof σ x y k = _; omega, by rw [hl, h3], Or.inr ⟨hk, hc⟩⟩
