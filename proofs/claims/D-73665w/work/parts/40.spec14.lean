set_option maxRecDepth 100000
/-! THE PURE WORDS, 14: acts -/
/-- the kept rows without the oldest -/
def rmS (K : Int → Int) : Int → Int := fun j => if 0 ≤ j ∧ j < 19912 then K (j + 1048) else K j
/-- a row is kept at place u -/
def rmW (K : Int → Int) (u : Int) (r : Int → Int) : Int → Int := fun j => if 1048 * u ≤ j ∧ j < 1048 * u + 1048 then r (j - 1048 * u) else K j
def rmU (u : Int) : Int := if u = 20 then 19 else u
def rmK (σ : mS) : Int → Int := rmW (if σ 4 0 = 20 then rmS (σ 3) else σ 3) (rmU (σ 4 0)) (σ 0)
/-- the state is remembered -/
def remR (t σ : mS) : Prop := t 3 = rmK σ ∧ t 4 0 = rmU (σ 4 0) + 1
/-- a refusal is counted -/
def refR (t σ : mS) (w : Int) : Prop := t 13 = up (σ 13) w (σ 13 w + 1)
def kepR (K : Int → Int) (u : Int) : Int → Int := fun j => K (1048 * u + j)
def lowF (w : Int) : Int := if w = 0 then 4 else 0
def hghF (w : Int) : Int := if w < 2 then 16 else if w < 5 then 99 else 20
abbrev setC (σ : mS) (w v : Int) : Prop := (0 ≤ w ∧ w ≤ 5) ∧ (lowF w ≤ v ∧ v ≤ hghF w) ∧ σ 0 (1042 + w) ≠ v
def sdF (s : Int) : Int := (1103515245 * s + 12345) % 2147483648
/-- a stroke of the n numbers f is added to the ink -/
def skF (r : Int → Int) (n : Int) (f : Int → Int) : Int → Int := fun j => if j = 1009 then r 1009 + 1 else if j = 960 + r 1009 then n / 2 else if 24 * r 1009 ≤ j ∧ j < 24 * r 1009 + n then f (j - 24 * r 1009) else r j
def smlF (f : Int → Int) : Nat → Bool
  | 0 => true
  | k + 1 => smlF f k && decide (f k ≤ 99)
theorem smlF_at {f : Int → Int} : ∀ {N : Nat}, smlF f N = true → ∀ {k : Int}, 0 ≤ k → k < N → f k ≤ 99
  | 0, _, k, h0, h1 => by omega
  | N + 1, h, k, h0, h1 => by
    rw [smlF, Bool.and_eq_true] at h
    by_cases c : k = N
    · subst c; exact of_decide_eq_true h.2
    · exact smlF_at h.1 h0 (by omega)
abbrev strC (σ : mS) : Prop := σ 0 1009 < 8 ∧ σ 12 0 % 2 = 0 ∧ (4 ≤ σ 12 0 ∧ σ 12 0 ≤ 24) ∧ smlF (σ 11) (σ 12 0).toNat = true
theorem smlF_sub {f : Int → Int} : ∀ {N k : Nat}, smlF f N = true → k ≤ N → smlF f k = true
  | 0, k, h, hk => by rw [show k = 0 by omega]; rfl
  | N + 1, k, h, hk => by
    by_cases c : k = N + 1
    · rw [c]; exact h
    · rw [smlF, Bool.and_eq_true] at h
      exact smlF_sub h.1 (by omega)
