set_option maxRecDepth 100000
/-! THE PURE WORDS, 17: images -/
def ptI (a : (Int → Int) × Int) (x : Int) : (Int → Int) × Int := (up a.1 a.2 x, a.2 + 1)
def imK (r : Int → Int) (s : Int) : Nat → (Int → Int) × Int → (Int → Int) × Int
  | 0, a => a
  | q + 1, a => ptI (imK r s q a) (r (24 * s + q))
def imS (r : Int → Int) : Nat → (Int → Int) × Int → (Int → Int) × Int
  | 0, a => a
  | s + 1, a => imK r s (2 * r (960 + s)).toNat (ptI (imS r s a) (r (960 + s)))
/-- the check of the first k octets -/
def ckF (f : Int → Int) : Nat → Int
  | 0 => 157
  | k + 1 => (3 * ckF f k + f k) % 251
theorem ckF_r (f : Int → Int) : ∀ k, 0 ≤ ckF f k ∧ ckF f k < 251
  | 0 => by rw [ckF]; omega
  | k + 1 => by rw [ckF]; omega
def imB (σ : mS) : (Int → Int) × Int := imS (σ 0) (σ 0 1009).toNat (ptI (σ 39, 0) (σ 0 1009))
def imE (σ : mS) : (Int → Int) × Int := ptI (imB σ) (ckF (imB σ).1 (imB σ).2.toNat)
