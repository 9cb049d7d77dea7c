set_option maxRecDepth 100000
/-! THE PURE WORDS, 15: told, learned, forgotten -/
abbrev telC (σ : mS) (m : Int) : Prop := ¬ σ 6 0 = 8 ∧ (0 ≤ m ∧ m < σ 0 1000) ∧ ¬ σ 0 1009 = 0
def tl8 (σ : mS) (s : Int) : Int → Int := fun j => if 8 * σ 6 0 ≤ j ∧ j < 8 * σ 6 0 + s then σ 0 (960 + (j - 8 * σ 6 0)) else σ 8 j
def tl7 (σ : mS) (q : Int) : Int → Int := fun j => if 192 * σ 6 0 ≤ j ∧ j < 192 * σ 6 0 + q then σ 0 (j - 192 * σ 6 0) else σ 7 j
abbrev lrnC (σ : mS) : Prop := (1 ≤ σ 0 1009 ∧ σ 0 1009 ≤ 4) ∧ ¬ σ 0 1000 = 8
/-- s strokes of the ink are the new model's, q numbers of them -/
def leP (r : Int → Int) (s q : Int) : Int → Int := fun j => if 24 * (8 + 4 * r 1000) ≤ j ∧ j < 24 * (8 + 4 * r 1000) + q then r (j - 24 * (8 + 4 * r 1000)) else if 968 + 4 * r 1000 ≤ j ∧ j < 968 + 4 * r 1000 + s then r (960 + (j - (968 + 4 * r 1000))) else r j
def leF (r : Int → Int) : Int → Int := fun j => if j = 1000 then r 1000 + 1 else if j = 1001 + r 1000 then r 1009 else if 1010 + 4 * r 1000 ≤ j ∧ j < 1010 + 4 * r 1000 + 4 then 0 else leP r (r 1009) (24 * r 1009) j
