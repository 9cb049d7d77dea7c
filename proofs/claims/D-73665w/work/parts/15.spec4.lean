set_option maxRecDepth 100000
/-! THE PURE WORDS, 4: two rows of codes -/
/-- a code forwards (b = 0), backwards -/
def cdb (σ : mS) (s k b : Int) : Int := if b = 0 then cds σ s k else (cds σ s (σ 0 1042 - 1 - k) + 4) % 8
theorem cdb_r (σ : mS) (s k b : Int) : 0 ≤ cdb σ s k b ∧ cdb σ s k b ≤ 7 := by
  rw [cdb]
  have := cds_r σ s k
  split <;> omega
theorem cdb_same {τ σ : mS} (h0 : τ 0 = σ 0) (h7 : τ 7 = σ 7) (h8 : τ 8 = σ 8) : cdb τ = cdb σ := by funext s k b; rw [cdb, cdb, cds_same h0 h7 h8, h0]
/-- what two places cost -/
def csd (σ : mS) (a b k i j : Int) : Int := apt (cdb σ a i 0) (cdb σ b j k)
theorem csd_r (σ : mS) (a b k i j : Int) : 0 ≤ csd σ a b k i j ∧ csd σ a b k i j ≤ 4 := apt_r (cdb_r _ _ _ _) (cdb_r _ _ _ _)
theorem csd_same {τ σ : mS} (h0 : τ 0 = σ 0) (h7 : τ 7 = σ 7) (h8 : τ 8 = σ 8) : csd τ = csd σ := by funext a b k i j; rw [csd, csd, cdb_same h0 h7 h8]
def elV (c : Int → Int → Int) (w i j on : Int) : Int := if w < (if i - j < 0 then -(i - j) else i - j) ∨ 100000000 ≤ on then 100000000 else on + c i j
/-- the least cost from a place to the end, by how far it is from the end -/
def elR (c : Int → Int → Int) (e w : Int) : Nat → Nat → Int
  | 0, 0 => elV c w (e - 1) (e - 1) 0
  | 0, v + 1 => elV c w (e - 1) (e - 1 - (v + 1 : Nat)) (min 100000000 (min 100000000 (elR c e w 0 v)))
  | u + 1, 0 => elV c w (e - 1 - (u + 1 : Nat)) (e - 1) (min 100000000 (min (elR c e w u 0) 100000000))
  | u + 1, v + 1 => elV c w (e - 1 - (u + 1 : Nat)) (e - 1 - (v + 1 : Nat)) (min (elR c e w u v) (min (elR c e w u (v + 1)) (elR c e w (u + 1) v)))
  termination_by u v => u + v
def elT (c : Int → Int → Int) (e w i j : Int) : Int := elR c e w (e - 1 - i).toNat (e - 1 - j).toNat
def rsE (c : Int → Int → Int) (e w i j : Int) : Int := if i < e ∧ j < e then elT c e w i j else 100000000
theorem elT_eq (c : Int → Int → Int) (e w : Int) {i j : Int} (hi : i < e) (hj : j < e) : elT c e w i j = elV c w i j (if i = e - 1 ∧ j = e - 1 then 0 else min (rsE c e w (i + 1) (j + 1)) (min (rsE c e w (i + 1) j) (rsE c e w i (j + 1)))) := by
  rw [elT]
  obtain ⟨u, hu⟩ : ∃ u : Nat, u = (e - 1 - i).toNat := ⟨_, rfl⟩
  obtain ⟨v, hv⟩ : ∃ v : Nat, v = (e - 1 - j).toNat := ⟨_, rfl⟩
  rw [← hu, ← hv]
  have ei : i = e - 1 - (u : Int) := by omega
  have ej : j = e - 1 - (v : Int) := by omega
  cases u with
  | zero =>
    cases v with
    | zero =>
      rw [elR, if_pos (by omega), show i = e - 1 by omega, show j = e - 1 by omega]
    | succ v =>
      rw [elR, if_neg (by omega), rsE, if_neg (by omega), rsE, if_neg (by omega), rsE, if_pos (by omega), elT, show (e - 1 - i).toNat = 0 by omega, show (e - 1 - (j + 1)).toNat = v by omega, show i = e - 1 by omega, ← ej]
  | succ u =>
    cases v with
    | zero =>
      rw [elR, if_neg (by omega), rsE, if_neg (by omega), rsE, if_pos (by omega), rsE, if_neg (by omega), elT, show (e - 1 - j).toNat = 0 by omega, show (e - 1 - (i + 1)).toNat = u by omega, show j = e - 1 by omega, ← ei]
    | succ v =>
      rw [elR, if_neg (by omega), rsE, if_pos (by omega), rsE, if_pos (by omega), rsE, if_pos (by omega), elT, elT, elT, show (e - 1 - i).toNat = u + 1 by omega, show (e - 1 - (i + 1)).toNat = u by omega, show (e - 1 - j).toNat = v + 1 by omega, show (e - 1 - (j + 1)).toNat = v by omega, ← ei, ← ej]
theorem elV_r {c : Int → Int → Int} {w i j on : Int} (hc : 0 ≤ c i j ∧ c i j ≤ 4) (ho : 0 ≤ on) : 0 ≤ elV c w i j on ∧ elV c w i j on ≤ 100000003 := by
  rw [elV]
  have := hc
  split <;> omega
theorem elR_r {c : Int → Int → Int} {e w : Int} (hc : ∀ i j, 0 ≤ c i j ∧ c i j ≤ 4) : ∀ u v : Nat, 0 ≤ elR c e w u v ∧ elR c e w u v ≤ 100000003
  | 0, 0 => by rw [elR]; exact elV_r (hc _ _) (by omega)
  | 0, v + 1 => by
    have h := elR_r (e := e) (w := w) hc 0 v
    rw [elR]; exact elV_r (hc _ _) (by omega)
  | u + 1, 0 => by
    have h := elR_r (e := e) (w := w) hc u 0
    rw [elR]; exact elV_r (hc _ _) (by omega)
  | u + 1, v + 1 => by
    have h1 := elR_r (e := e) (w := w) hc u v
    have h2 := elR_r (e := e) (w := w) hc u (v + 1)
    have h3 := elR_r (e := e) (w := w) hc (u + 1) v
    rw [elR]; exact elV_r (hc _ _) (by omega)
  termination_by u v => u + v
theorem elT_r {c : Int → Int → Int} {e w i j : Int} (hc : ∀ i j, 0 ≤ c i j ∧ c i j ≤ 4) : 0 ≤ elT c e w i j ∧ elT c e w i j ≤ 100000003 := elR_r hc _ _
theorem rsE_r {c : Int → Int → Int} {e w i j : Int} (hc : ∀ i j, 0 ≤ c i j ∧ c i j ≤ 4) : 0 ≤ rsE c e w i j ∧ rsE c e w i j ≤ 100000003 := by
  rw [rsE]
  split
  · exact elT_r hc
  · omega
def rat (σ : mS) (i j : Int) : Int := if i < σ 0 1042 ∧ j < σ 0 1042 then σ 23 (16 * i + j) else 100000000
/-- elastic of two strokes by their numbers -/
def els (σ : mS) (a b k w : Int) : Int := elT (csd σ a b k) (σ 0 1042) w 0 0
theorem els_r (σ : mS) (a b k w : Int) : 0 ≤ els σ a b k w ∧ els σ a b k w ≤ 100000003 := elT_r (csd_r σ a b k)
theorem els_same {τ σ : mS} (h0 : τ 0 = σ 0) (h7 : τ 7 = σ 7) (h8 : τ 8 = σ 8) : els τ = els σ := by funext a b k w; rw [els, els, csd_same h0 h7 h8, h0]
/-- a stroke told as one number; -1 -/
def tol (σ : mS) (n : Int) : Int := if 0 ≤ n ∧ n ≤ 7 then (if n < σ 0 1009 then n else -1) else if 8 ≤ n ∧ n / 4 - 2 < σ 0 1000 ∧ n % 4 < σ 0 (1001 + (n / 4 - 2)) then n else -1
theorem tol_ok {σ : mS} (hr : rowOK (σ 0)) (n : Int) : tol σ n = -1 ∨ (tol σ n = n ∧ 0 ≤ n ∧ n < 40 ∧ skOK (np σ n) (nu σ n)) := by
  obtain ⟨h1000, h1009, -, -, -, -, -, -, hms, -⟩ := id hr
  rw [tol]
  split
  · split
    · right
      have := letOK hr (m := -1) (Or.inl rfl) (s := n) (by rw [fsS, if_pos rfl]; omega) (by rw [fsS, if_pos rfl, mnS, if_pos rfl]; omega)
      exact ⟨rfl, this.1, this.2.1, this.2.2⟩
    · exact Or.inl rfl
  · split
    · right
      have h4 := hms (n / 4 - 2) (by omega) (by omega)
      have := letOK hr (m := n / 4 - 2) (Or.inr ⟨by omega, by omega⟩) (s := n) (by rw [fsS, if_neg (by omega)]; omega) (by rw [fsS, if_neg (by omega), mnS, if_neg (by omega)]; omega)
      exact ⟨rfl, this.1, this.2.1, this.2.2⟩
    · exact Or.inl rfl
def sp_elastic (σ : mS) (a b k : Int) : Int := if tol σ a ≠ -1 ∧ tol σ b ≠ -1 then els σ a b k (σ 0 1043) else -1
def prd (σ : mS) (a b : Int) : Int := min (els σ a b 0 (σ 0 1043)) (els σ a b 1 (σ 0 1043) + σ 0 1045)
def sp_paired (σ : mS) (a b : Int) : Int := if tol σ a ≠ -1 ∧ tol σ b ≠ -1 then prd σ a b else -1
