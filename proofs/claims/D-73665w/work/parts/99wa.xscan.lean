set_option maxRecDepth 100000
/-! THE SCANNER -/
/-- the scanner c: its pen, how long the text is, where it stands -/
def sc0 (S : xS) (D : xD) (R : xR) (P : xPk) (τ : mS) (c : Nat) : Prop := (S c).1 = 4 ∧ R c 5 = some P.1 ∧ D c 0 = τ 16 0 ∧ D c 3 = τ 17 0 ∧ 0 ≤ τ 17 0 ∧ τ 17 0 ≤ τ 16 0 ∧ τ 16 0 ≤ 1600
theorem skW_1 {P : Int → Prop} [DecidablePred P] {b : Int → Int} {N p : Int} (h : p < N) (hp : P (b p)) : skW P b (N - p).toNat p = skW P b (N - (p + 1)).toNat (p + 1) := by
  rw [show (N - p).toNat = (N - (p + 1)).toNat + 1 by omega, skW, if_pos hp]
theorem skW_0 {P : Int → Prop} [DecidablePred P] {b : Int → Int} {N p : Int} (h : ¬ (p < N ∧ P (b p))) : skW P b (N - p).toNat p = p := by
  by_cases c : p < N
  · rw [show (N - p).toNat = (N - (p + 1)).toNat + 1 by omega, skW, if_neg (fun z => h ⟨c, z⟩)]
  · rw [show (N - p).toNat = 0 by omega, skW]
theorem bya_at {τ : mS} {p : Int} (h0 : 0 ≤ p) (h1 : p < τ 16 0) : bya τ p = τ 11 p := by rw [bya, if_pos ⟨h0, h1⟩]
theorem bya_no {τ : mS} {p : Int} (h : ¬ (0 ≤ p ∧ p < τ 16 0)) : bya τ p = -1 := by rw [bya, if_neg h]
