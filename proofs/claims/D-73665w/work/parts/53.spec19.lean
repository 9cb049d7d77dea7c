set_option maxRecDepth 100000
/-! THE PURE WORDS, 19: the parser's leaves -/
abbrev isSp (x : Int) : Prop := x = 10 ∨ x = 32
abbrev isSl (x : Int) : Prop := 97 ≤ x ∧ x ≤ 122
abbrev isDg (x : Int) : Prop := 48 ≤ x ∧ x ≤ 57
/-- the first place from p on whose byte isn't such -/
def skW (P : Int → Prop) [DecidablePred P] (b : Int → Int) : Nat → Int → Int
  | 0, p => p
  | n + 1, p => if P (b p) then skW P b n (p + 1) else p
theorem skW_r (P : Int → Prop) [DecidablePred P] (b : Int → Int) : ∀ (n : Nat) (p : Int), p ≤ skW P b n p ∧ skW P b n p ≤ p + n
  | 0, p => by rw [skW]; omega
  | n + 1, p => by
    rw [skW]
    split
    · have := skW_r P b n (p + 1); omega
    · omega
abbrev skZ (P : Int → Prop) [DecidablePred P] (σ : mS) (p : Int) : Int := skW P (bya σ) (σ 16 0 - p).toNat p
theorem skZ_r (P : Int → Prop) [DecidablePred P] (σ : mS) {p : Int} (h : p ≤ σ 16 0) : p ≤ skZ P σ p ∧ skZ P σ p ≤ σ 16 0 := by
  have := skW_r P (bya σ) (σ 16 0 - p).toNat p
  rw [skZ]; omega
theorem skZ_s {P : Int → Prop} [DecidablePred P] {σ : mS} {p : Int} (h : p < σ 16 0) (hp : P (bya σ p)) : skZ P σ p = skZ P σ (p + 1) := by
  rw [skZ, skZ, show (σ 16 0 - p).toNat = (σ 16 0 - (p + 1)).toNat + 1 by omega, skW, if_pos hp]
theorem skZ_n {P : Int → Prop} [DecidablePred P] {σ : mS} {p : Int} (hp : ¬ P (bya σ p)) : skZ P σ p = p := by
  rw [skZ]
  cases (σ 16 0 - p).toNat with
  | zero => rw [skW]
  | succ n => rw [skW, if_neg hp]
/-- the place of the next sign -/
def hrS (σ : mS) : Int := skZ isSp σ (σ 17 0)
theorem hrS_r {σ : mS} (h : σ 17 0 ≤ σ 16 0) : σ 17 0 ≤ hrS σ ∧ hrS σ ≤ σ 16 0 := skZ_r isSp σ h
theorem bya_in {σ : mS} {p : Int} (h : bya σ p ≠ -1) : 0 ≤ p ∧ p < σ 16 0 := by
  rw [bya] at h
  split at h
  · assumption
  · exact absurd rfl h
theorem bya_of {t σ : mS} (h : t 11 = σ 11) (h2 : t 16 0 = σ 16 0) : bya t = bya σ := funext fun p => by rw [bya, bya, h, h2]
theorem skZ_of {P : Int → Prop} [DecidablePred P] {t σ : mS} (h : t 11 = σ 11) (h2 : t 16 0 = σ 16 0) : skZ P t = skZ P σ := funext fun p => by rw [skZ, skZ, bya_of h h2, h2]
/-- a place where a word (or a number) may begin -/
abbrev beW (P : Int → Prop) (σ : mS) (q : Int) : Prop := P (bya σ q) ∧ ¬ isSl (bya σ (q - 1)) ∧ ¬ isDg (bya σ (q - 1))
/-- the word read: at, from, wrong, wrongAt -/
def wdS (σ : mS) : (Int × Int) × (Int × Int) :=
  if σ 19 0 = 0 then (if beW isSl σ (hrS σ) then ((skZ isSl σ (hrS σ), hrS σ), (0, σ 20 0)) else ((hrS σ, hrS σ), (1, hrS σ))) else ((σ 17 0, σ 18 0), (σ 19 0, σ 20 0))
abbrev p4R (t : mS) (x : (Int × Int) × (Int × Int)) : Prop := t 17 0 = x.1.1 ∧ t 18 0 = x.1.2 ∧ t 19 0 = x.2.1 ∧ t 20 0 = x.2.2
/-- the end of a statement: at, wrong, wrongAt -/
def ewS (σ : mS) : Int × (Int × Int) :=
  if σ 19 0 = 0 then (if bya σ (hrS σ) = 59 then (hrS σ + 1, (0, σ 20 0)) else (hrS σ, (1, hrS σ))) else (σ 17 0, (σ 19 0, σ 20 0))
