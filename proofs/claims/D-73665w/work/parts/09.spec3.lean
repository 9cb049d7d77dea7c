set_option maxRecDepth 100000
/-! THE PURE WORDS, 3: a stroke of a letter; bends, corners, edges, cells -/
/-- how many strokes a letter has; the first one's number -/
def mnS (σ : mS) (m : Int) : Int := if m = -1 then σ 0 1009 else σ 0 (1001 + m)
def fsS (m : Int) : Int := if m = -1 then 0 else 8 + 4 * m
/-- a stroke of a letter by its number; -1 -/
def stO (σ : mS) (m k : Int) : Int := if (m = -1 ∨ (0 ≤ m ∧ m < σ 0 1000)) ∧ 0 ≤ k ∧ k < mnS σ m then fsS m + k else -1
theorem mnS_r {σ : mS} (hr : rowOK (σ 0)) {m : Int} (h : m = -1 ∨ (0 ≤ m ∧ m < σ 0 1000)) : 0 ≤ mnS σ m ∧ mnS σ m ≤ 8 ∧ 0 ≤ fsS m ∧ fsS m + mnS σ m ≤ 40 := by
  obtain ⟨h1000, h1009, -, -, -, -, -, -, hms, -⟩ := id hr
  rw [mnS, fsS]
  by_cases c : m = -1
  · simp only [c, if_true]; omega
  · simp only [c, if_false]
    have := hms m (by omega) (by omega)
    omega
theorem letOK {σ : mS} (hr : rowOK (σ 0)) {m : Int} (h : m = -1 ∨ (0 ≤ m ∧ m < σ 0 1000)) {s : Int} (h0 : fsS m ≤ s) (h1 : s < fsS m + mnS σ m) : 0 ≤ s ∧ s < 40 ∧ skOK (np σ s) (nu σ s) := by
  obtain ⟨h1000, h1009, -, -, -, -, -, -, hms, hsi, hsm, -⟩ := id hr
  rw [fsS] at h0 h1
  rw [mnS] at h1
  by_cases c : m = -1
  · simp only [c, if_true] at h0 h1
    refine ⟨by omega, by omega, ?_⟩
    rw [np_lo (by omega), nu_lo (by omega)]
    exact hsi s (by omega) (by omega)
  · simp only [c, if_false] at h0 h1
    have := hms m (by omega) (by omega)
    refine ⟨by omega, by omega, ?_⟩
    rw [np_lo (by omega), nu_lo (by omega)]
    have h2 := hsm m (s - (8 + 4 * m)) (by omega) (by omega) (by omega) (by omega)
    rw [show 8 + 4 * m + (s - (8 + 4 * m)) = s by omega] at h2
    exact h2
theorem stO_ok {σ : mS} (hr : rowOK (σ 0)) (m k : Int) : stO σ m k = -1 ∨ ((m = -1 ∨ (0 ≤ m ∧ m < σ 0 1000)) ∧ 0 ≤ k ∧ k < mnS σ m ∧ stO σ m k = fsS m + k ∧ 0 ≤ stO σ m k ∧ stO σ m k < 40 ∧ skOK (np σ (stO σ m k)) (nu σ (stO σ m k))) := by
  by_cases c : (m = -1 ∨ (0 ≤ m ∧ m < σ 0 1000)) ∧ 0 ≤ k ∧ k < mnS σ m
  · right
    have e : stO σ m k = fsS m + k := by rw [stO, if_pos c]
    have h := letOK hr c.1 (s := fsS m + k) (by omega) (by omega)
    rw [e]
    exact ⟨c.1, c.2.1, c.2.2, rfl, h.1, h.2.1, h.2.2⟩
  · left
    rw [stO, if_neg c]
def sp_point (σ : mS) (m k i w : Int) : Int := if stO σ m k = -1 then -1 else if i = -1 then np σ (stO σ m k) else if (0 ≤ i ∧ i < np σ (stO σ m k)) ∧ 0 ≤ w ∧ w ≤ 1 then nu σ (stO σ m k) (2 * i + w) else -1
def sp_length (σ : mS) (m k : Int) : Int := if stO σ m k = -1 then -1 else lnS (np σ (stO σ m k)) (nu σ (stO σ m k))
def sp_sample (σ : mS) (m k i w : Int) : Int := if stO σ m k ≠ -1 ∧ (0 ≤ i ∧ i ≤ σ 0 1042) ∧ 0 ≤ w ∧ w ≤ 1 then smp (np σ (stO σ m k)) (nu σ (stO σ m k)) (σ 0 1042) i w else -1
/-- the codes of a stroke by its number -/
def cds (σ : mS) (s k : Int) : Int := cdk (np σ s) (nu σ s) (σ 0 1042) k
theorem cds_r (σ : mS) (s k : Int) : 0 ≤ cds σ s k ∧ cds σ s k ≤ 7 := cdk_r _ _ _ _
theorem cds_same {τ σ : mS} (h0 : τ 0 = σ 0) (h7 : τ 7 = σ 7) (h8 : τ 8 = σ 8) : cds τ = cds σ := by funext s k; rw [cds, cds, np_same h0 h8, nu_same h0 h7, h0]
/-- the codes of stroke s are laid out -/
def laid (τ σ : mS) (s : Int) : Prop := ∀ k, 0 ≤ k → k < σ 0 1042 → τ 22 (16 * s + k) = cds σ s k
def sp_code (σ : mS) (m k i : Int) : Int := if stO σ m k = -1 ∨ ¬ (0 ≤ i ∧ i < σ 0 1042) then -1 else cds σ (stO σ m k) i
theorem apt_r {a b : Int} (ha : 0 ≤ a ∧ a ≤ 7) (hb : 0 ≤ b ∧ b ≤ 7) : 0 ≤ apt a b ∧ apt a b ≤ 4 := by
  rw [apt]
  split <;> omega
def bndF (c : Int → Int) : Nat → Int
  | 0 => 0
  | k + 1 => bndF c k + apt (c k) (c ((k : Int) + 1))
def sp_bends (σ : mS) (m k : Int) : Int := if stO σ m k = -1 then -1 else bndF (cds σ (stO σ m k)) (σ 0 1042 - 1).toNat
def crnF (c : Int → Int) (k : Int) : Nat → Int → Int → Int
  | 0, _, n => if k = -1 then n else -1
  | q + 1, i, n => if apt (c (i - 1)) (c i) < 2 then crnF c k q (i + 1) n else if n = k then i else crnF c k q (i + 1) (n + 1)
def sp_corner (σ : mS) (m k i : Int) : Int := if stO σ m k = -1 ∨ i < -1 then -1 else crnF (cds σ (stO σ m k)) i (σ 0 1042 - 1).toNat 1 0
/-- the least (b = 0) or greatest number along ax of the first k points, from v on -/
def edP (b : Int) (f : Int → Int) (ax : Int) : Nat → Int → Int
  | 0, v => v
  | k + 1, v => if b = 0 then min (edP b f ax k v) (f (2 * k + ax)) else max (edP b f ax k v) (f (2 * k + ax))
def edS (b : Int) (σ : mS) (ax first : Int) : Nat → Int → Int
  | 0, v => v
  | s + 1, v => edP b (nu σ (first + s)) ax (np σ (first + s)).toNat (edS b σ ax first s v)
def edge (σ : mS) (first many ax b : Int) : Int := edS b σ ax first many.toNat (nu σ first (2 * 0 + ax))
theorem edP_lo {f : Int → Int} {ax : Int} : ∀ (k : Nat) (v : Int), edP 0 f ax k v ≤ v ∧ ∀ j : Nat, j < k → edP 0 f ax k v ≤ f (2 * j + ax)
  | 0, v => ⟨Int.le_refl _, fun j h => absurd h (Nat.not_lt_zero _)⟩
  | k + 1, v => by
    have h := edP_lo (f := f) (ax := ax) k v
    rw [edP, if_pos rfl]
    refine ⟨by omega, fun j hj => ?_⟩
    by_cases c : j = k
    · subst c; omega
    · have := h.2 j (by omega); omega
theorem edP_hi {f : Int → Int} {ax : Int} : ∀ (k : Nat) (v : Int), v ≤ edP 1 f ax k v ∧ ∀ j : Nat, j < k → f (2 * j + ax) ≤ edP 1 f ax k v
  | 0, v => ⟨Int.le_refl _, fun j h => absurd h (Nat.not_lt_zero _)⟩
  | k + 1, v => by
    have h := edP_hi (f := f) (ax := ax) k v
    rw [edP, if_neg (by decide)]
    refine ⟨by omega, fun j hj => ?_⟩
    by_cases c : j = k
    · subst c; omega
    · have := h.2 j (by omega); omega
theorem edP_in {b : Int} {f : Int → Int} {ax L U : Int} : ∀ (k : Nat) (v : Int), L ≤ v → v ≤ U → (∀ j : Nat, j < k → L ≤ f (2 * j + ax) ∧ f (2 * j + ax) ≤ U) → L ≤ edP b f ax k v ∧ edP b f ax k v ≤ U
  | 0, v, h1, h2, _ => by rw [edP]; exact ⟨h1, h2⟩
  | k + 1, v, h1, h2, h3 => by
    have h := edP_in (b := b) (f := f) (ax := ax) k v h1 h2 (fun j hj => h3 j (by omega))
    have h4 := h3 k (by omega)
    rw [edP]
    split <;> omega
theorem edS_lo {σ : mS} {ax first : Int} : ∀ (s : Nat) (v : Int), edS 0 σ ax first s v ≤ v ∧ ∀ j : Nat, j < s → ∀ k : Nat, (k : Int) < np σ (first + j) → edS 0 σ ax first s v ≤ nu σ (first + j) (2 * k + ax)
  | 0, v => ⟨Int.le_refl _, fun j h => absurd h (Nat.not_lt_zero _)⟩
  | s + 1, v => by
    have h := edS_lo (σ := σ) (ax := ax) (first := first) s v
    have g := edP_lo (f := nu σ (first + s)) (ax := ax) (np σ (first + s)).toNat (edS 0 σ ax first s v)
    rw [edS]
    refine ⟨by omega, fun j hj k hk => ?_⟩
    by_cases c : j = s
    · subst c; exact g.2 k (by omega)
    · have := h.2 j (by omega) k hk; omega
theorem edS_hi {σ : mS} {ax first : Int} : ∀ (s : Nat) (v : Int), v ≤ edS 1 σ ax first s v ∧ ∀ j : Nat, j < s → ∀ k : Nat, (k : Int) < np σ (first + j) → nu σ (first + j) (2 * k + ax) ≤ edS 1 σ ax first s v
  | 0, v => ⟨Int.le_refl _, fun j h => absurd h (Nat.not_lt_zero _)⟩
  | s + 1, v => by
    have h := edS_hi (σ := σ) (ax := ax) (first := first) s v
    have g := edP_hi (f := nu σ (first + s)) (ax := ax) (np σ (first + s)).toNat (edS 1 σ ax first s v)
    rw [edS]
    refine ⟨by omega, fun j hj k hk => ?_⟩
    by_cases c : j = s
    · subst c; exact g.2 k (by omega)
    · have := h.2 j (by omega) k hk; omega
theorem edS_in {b : Int} {σ : mS} {ax first L U : Int} : ∀ (s : Nat) (v : Int), L ≤ v → v ≤ U → (∀ j : Nat, j < s → ∀ k : Nat, (k : Int) < np σ (first + j) → L ≤ nu σ (first + j) (2 * k + ax) ∧ nu σ (first + j) (2 * k + ax) ≤ U) → L ≤ edS b σ ax first s v ∧ edS b σ ax first s v ≤ U
  | 0, v, h1, h2, _ => by rw [edS]; exact ⟨h1, h2⟩
  | s + 1, v, h1, h2, h3 => by
    have h := edS_in (b := b) (σ := σ) (ax := ax) (first := first) s v h1 h2 (fun j hj => h3 j (by omega))
    rw [edS]
    exact edP_in _ _ h.1 h.2 (fun j hj => h3 s (by omega) j (by omega))
/-- strokes first .. first + many - 1 are such -/
def letS (σ : mS) (first many : Int) : Prop := 0 ≤ first ∧ 0 ≤ many ∧ many ≤ 8 ∧ first + many ≤ 104 ∧ ∀ s, first ≤ s → s < first + many → skOK (np σ s) (nu σ s)
theorem letS_of {σ : mS} (hr : rowOK (σ 0)) {m : Int} (h : m = -1 ∨ (0 ≤ m ∧ m < σ 0 1000)) : letS σ (fsS m) (mnS σ m) := by
  have a := mnS_r hr h
  exact ⟨a.2.2.1, a.1, a.2.1, by omega, fun s h0 h1 => (letOK hr h h0 h1).2.2⟩
theorem edge_in {σ : mS} {first many ax b : Int} (h : letS σ first many) (h1 : 1 ≤ many) (hax : ax = 0 ∨ ax = 1) : 0 ≤ edge σ first many ax b ∧ edge σ first many ax b ≤ 99 := by
  have h0 := h.2.2.2.2 first (by omega) (by omega)
  have h2 := h0.pt (j := 2 * 0 + ax) (by omega) (by have := h0.1; omega)
  refine edS_in _ _ h2.1 h2.2 (fun j hj k hk => ?_)
  exact (h.2.2.2.2 (first + j) (by omega) (by omega)).pt (by omega) (by omega)
theorem edge_lo {σ : mS} {first many ax : Int} {s k : Int} (h0 : first ≤ s) (h1 : s < first + many) (h2 : 0 ≤ k) (h3 : k < np σ s) : edge σ first many ax 0 ≤ nu σ s (2 * k + ax) := by
  have := (edS_lo (σ := σ) (ax := ax) (first := first) many.toNat (nu σ first (2 * 0 + ax))).2 (s - first).toNat (by omega) k.toNat (by rw [show first + ((s - first).toNat : Int) = s by omega]; omega)
  rw [show first + ((s - first).toNat : Int) = s by omega, show ((k.toNat : Nat) : Int) = k by omega] at this
  exact this
theorem edge_hi {σ : mS} {first many ax : Int} {s k : Int} (h0 : first ≤ s) (h1 : s < first + many) (h2 : 0 ≤ k) (h3 : k < np σ s) : nu σ s (2 * k + ax) ≤ edge σ first many ax 1 := by
  have := (edS_hi (σ := σ) (ax := ax) (first := first) many.toNat (nu σ first (2 * 0 + ax))).2 (s - first).toNat (by omega) k.toNat (by rw [show first + ((s - first).toNat : Int) = s by omega]; omega)
  rw [show first + ((s - first).toNat : Int) = s by omega, show ((k.toNat : Nat) : Int) = k by omega] at this
  exact this
theorem edge_one {σ : mS} {first many ax s b : Int} (h : letS σ first many) (hax : ax = 0 ∨ ax = 1) (h0 : first ≤ s) (h1 : s < first + many) : edge σ first many ax 0 ≤ edge σ s 1 ax b ∧ edge σ s 1 ax b ≤ edge σ first many ax 1 := by
  have hs := h.2.2.2.2 s h0 h1
  have h2 := edge_lo (σ := σ) (ax := ax) h0 h1 (k := 0) (by omega) (by have := hs.1; omega)
  have h3 := edge_hi (σ := σ) (ax := ax) h0 h1 (k := 0) (by omega) (by have := hs.1; omega)
  refine edS_in _ _ h2 h3 (fun j hj k hk => ?_)
  have : j = 0 := by omega
  subst this
  rw [show s + ((0 : Nat) : Int) = s by omega] at hk ⊢
  exact ⟨edge_lo h0 h1 (by omega) hk, edge_hi h0 h1 (by omega) hk⟩
/-- in which third of a letter a stroke's middle is -/
def celS (σ : mS) (s first many ax : Int) : Int := 3 * (edge σ s 1 ax 0 + edge σ s 1 ax 1 - 2 * edge σ first many ax 0) / (2 * (edge σ first many ax 1 - edge σ first many ax 0) + 1)
theorem celS_b {σ : mS} {first many ax s : Int} (h : letS σ first many) (hax : ax = 0 ∨ ax = 1) (h0 : first ≤ s) (h1 : s < first + many) : 0 ≤ edge σ s 1 ax 0 + edge σ s 1 ax 1 - 2 * edge σ first many ax 0 ∧ edge σ s 1 ax 0 + edge σ s 1 ax 1 - 2 * edge σ first many ax 0 ≤ 2 * (edge σ first many ax 1 - edge σ first many ax 0) ∧ 2 * (edge σ first many ax 1 - edge σ first many ax 0) ≤ 198 ∧ 0 ≤ edge σ first many ax 0 ∧ edge σ first many ax 1 ≤ 99 ∧ 0 ≤ edge σ s 1 ax 0 ∧ edge σ s 1 ax 0 ≤ 99 ∧ 0 ≤ edge σ s 1 ax 1 ∧ edge σ s 1 ax 1 ≤ 99 := by
  have a := edge_one (b := 0) h hax h0 h1
  have b := edge_one (b := 1) h hax h0 h1
  have c := edge_in (b := 0) h (by omega) hax
  have d := edge_in (b := 1) h (by omega) hax
  omega
theorem celS_r {σ : mS} {first many ax s : Int} (h : letS σ first many) (hax : ax = 0 ∨ ax = 1) (h0 : first ≤ s) (h1 : s < first + many) : 0 ≤ celS σ s first many ax ∧ celS σ s first many ax ≤ 2 := by
  have a := celS_b h hax h0 h1
  rw [celS]
  refine ⟨Int.ediv_nonneg (by omega) (by omega), ?_⟩
  have : 3 * (edge σ s 1 ax 0 + edge σ s 1 ax 1 - 2 * edge σ first many ax 0) / (2 * (edge σ first many ax 1 - edge σ first many ax 0) + 1) < 3 := Int.ediv_lt_of_lt_mul (by omega) (by omega)
  omega
def sp_cell (σ : mS) (m k w : Int) : Int := if stO σ m k ≠ -1 ∧ 0 ≤ w ∧ w ≤ 1 then celS σ (stO σ m k) (fsS m) (mnS σ m) w else -1
