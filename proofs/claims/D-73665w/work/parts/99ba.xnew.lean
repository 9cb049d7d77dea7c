set_option maxRecDepth 100000
/-! ONE NEW CELL of no account; cells of no account change -/
section NW
variable {E : gE} {Z : Nat → Nat} {S S' : xS} {D D' : xD} {R R' : xR} {P : xPk} {σ : mS}
theorem ext_new {q k n o : Nat} {f : Int → Int} {g : Int → Option Nat} (hz : (S q).1 = 0) (hS : S' = uS S q k n o) (hD : D' = uN D q f) (hR : R' = uN R q g) : ext S S' D D' R R' := by
  have ne : ∀ p, (S p).1 ≠ 0 → p ≠ q := fun p hp e => hp (by rw [e]; exact hz)
  exact ⟨fun p hp => by rw [hS]; exact uS_n (ne p hp), fun p hp => by rw [hD]; funext j; rw [uN_n (ne p hp)], fun p hp => by rw [hR]; funext j; rw [uN_n (ne p hp)]⟩
theorem Rx_new (hx : Rx E Z S D R P σ) {q k n o : Nat} {f : Int → Int} {g : Int → Option Nat} (hz : (S q).1 = 0) (hw : E.2.2 q) (hS : S' = uS S q k n o) (hD : D' = uN D q f) (hR : R' = uN R q g) (hk : k ≠ 2 ∧ k ≠ 7 ∧ k ≠ 8 ∧ k ≠ 9 ∧ ¬ (10 ≤ k ∧ k ≤ 17) ∧ k ≠ 30) : Rx E Z S' D' R' P σ := Rx_ext (ext_new hz hS hD hR) hx (fun p hp => by
  by_cases e : p = q
  · have h9 : (S' p).1 = k := by rw [hS, e, uS_s]
    rw [h9, e]
    exact ⟨hk.1, hk.2.1, hk.2.2.1, hk.2.2.2.1, hk.2.2.2.2.1, hk.2.2.2.2.2, fun _ => hw⟩
  · have h9 : (S' p).1 = 0 := by rw [hS, uS_n e]; exact hp
    rw [h9]
    exact ⟨by decide, by decide, by decide, by decide, by decide, by decide, fun h8 => absurd h8 (by decide)⟩)
theorem Rx_tmp {m : List Nat} (hx : Rx E Z S D R P σ) (hD : fr S D D' m) (hm : ∀ k ∈ NEED, k ∉ m) (hn : ∀ k ∈ [1001, 1007, 1008, 1035, 1037, 50, 52, 86], k ∉ m) : Rx E Z S D' R P σ := Rx_pen hx hD hm rfl rfl rfl rfl rfl rfl rfl rfl (by
  have hp := hx.2.1
  have hpd := hx.2.2.2.2.2.2.2
  have c : ∀ j : Int, md 1 j ∉ m → D' P.1 j = D P.1 j := fun j h => fr_at hD hp.1 h
  rw [penD, c 1 (hn _ (by decide)), c 7 (hn _ (by decide)), c 8 (hn _ (by decide)), c 35 (hn _ (by decide)), c 37 (hn _ (by decide)), fr_row hD (pA_k hp 0 rfl (n := 50) rfl) (by decide) (hn _ (by decide)), fr_row hD (pA_k hp 2 rfl (n := 52) rfl) (by decide) (hn _ (by decide)), fr_row hD (pA_k hp 36 rfl (n := 86) rfl) (by decide) (hn _ (by decide))]
  exact hpd)
end NW
