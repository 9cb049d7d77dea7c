set_option maxRecDepth 100000
/-! THE PURE WORDS, 10: models among each other -/
def clJ (f : Int → Int → Int) (a : Int) : Nat → Int → (Int × Int) × Int → (Int × Int) × Int
  | 0, _, s => s
  | q + 1, b, s => clJ f a q (b + 1) (if f a b < s.2 then ((a, b), f a b) else s)
def clO (f : Int → Int → Int) (N : Int) : Nat → Int → (Int × Int) × Int → (Int × Int) × Int
  | 0, _, s => s
  | q + 1, a, s => clO f N q (a + 1) (clJ f a (N - (a + 1)).toNat (a + 1) s)
def clE (σ : mS) : (Int × Int) × Int := clO (sc2 σ) (σ 0 1000) (nMod σ) 0 ((-1, -1), 100000000)
def sp_closest (σ : mS) (w : Int) : Int := if ¬ σ 0 1000 < 2 ∧ 0 ≤ w ∧ w ≤ 2 then (if w = 0 then (clE σ).1.1 else if w = 1 then (clE σ).1.2 else (clE σ).2) else -1
def neF (f : Int → Int) (m : Int) : Nat → Int → Int × Int → Int × Int
  | 0, _, s => s
  | q + 1, o, s => neF f m q (o + 1) (if o = m ∨ (s.1 ≠ -1 ∧ s.2 ≤ f o) then s else (o, f o))
def neE (σ : mS) (m : Int) : Int × Int := neF (sc2 σ m) m (nMod σ) 0 (-1, -1)
def sp_nearest (σ : mS) (m w : Int) : Int := if (0 ≤ m ∧ m < σ 0 1000) ∧ 0 ≤ w ∧ w ≤ 1 then (if w = 0 then (neE σ m).1 else (neE σ m).2) else -1
/-- two groups become one: the lesser number -/
def jnF (g : Int → Int) (a b N m : Int) : Int := if 0 ≤ m ∧ m < N ∧ g m = max (g a) (g b) then min (g a) (g b) else g m
def grJ (f : Int → Int → Int) (mg N a : Int) : Nat → Int → (Int → Int) → Int → Int
  | 0, _, g => g
  | q + 1, b, g => grJ f mg N a q (b + 1) (if f a b < mg then jnF g a b N else g)
def grO (f : Int → Int → Int) (mg N : Int) : Nat → Int → (Int → Int) → Int → Int
  | 0, _, g => g
  | q + 1, a, g => grO f mg N q (a + 1) (grJ f mg N a (N - (a + 1)).toNat (a + 1) g)
def grE (σ : mS) : Int → Int := grO (sc2 σ) (σ 0 1046) (σ 0 1000) (nMod σ) 0 (fun m => m)
def sp_group (σ : mS) (m : Int) : Int := if 0 ≤ m ∧ m < σ 0 1000 then grE σ m else -1
def gcF (g : Int → Int) : Nat → Int
  | 0 => 0
  | k + 1 => gcF g k + (if g k = k then 1 else 0)
def sp_groups (σ : mS) : Int := gcF (grE σ) (nMod σ)
theorem jnF_r {g : Int → Int} {N : Int} (h : ∀ m, 0 ≤ m → m < 8 → 0 ≤ g m ∧ g m < 8) {a b : Int} (ha : 0 ≤ a ∧ a < 8) (hb : 0 ≤ b ∧ b < 8) : ∀ m, 0 ≤ m → m < 8 → 0 ≤ jnF g a b N m ∧ jnF g a b N m < 8 := by
  intro m h0 h1
  have p := h a ha.1 ha.2
  have q := h b hb.1 hb.2
  have r := h m h0 h1
  rw [jnF]
  split <;> omega
def suF (f : Int → Int) (m : Int) : Nat → Int
  | 0 => 0
  | k + 1 => suF f m k + (if (k : Int) = m then 0 else f k)
def suE (σ : mS) (m : Int) : Int := suF (sc2 σ m) m (nMod σ)
def ceF (f : Int → Int) : Nat → Int → Int × Int → Int × Int
  | 0, _, s => s
  | q + 1, m, s => ceF f q (m + 1) (if s.2 ≤ f m then s else (m, f m))
def ceE (σ : mS) : Int × Int := ceF (suE σ) (nMod σ) 0 (-1, 100000000)
def sp_central (σ : mS) (w : Int) : Int := if ¬ σ 0 1000 = 0 ∧ 0 ≤ w ∧ w ≤ 1 then (if w = 0 then (ceE σ).1 else (ceE σ).2) else -1
theorem suF_r {f : Int → Int} {m : Int} {N : Nat} (h : ∀ o : Int, 0 ≤ o → o < N → 0 ≤ f o ∧ f o ≤ 1584) : ∀ k : Nat, k ≤ N → 0 ≤ suF f m k ∧ suF f m k ≤ 1584 * k
  | 0, _ => by rw [suF]; omega
  | k + 1, hk => by
    have a := suF_r h k (by omega) (m := m)
    have b := h k (by omega) (by omega)
    rw [suF]
    split <;> omega
theorem suE_r {σ : mS} (hr : rowOK (σ 0)) {m : Int} (h0 : 0 ≤ m) (h1 : m < σ 0 1000) : 0 ≤ suE σ m ∧ suE σ m ≤ 12672 := by
  obtain ⟨h1000, -⟩ := id hr
  have := suF_r (f := sc2 σ m) (m := m) (N := nMod σ) (fun o q0 q1 => sc2_r hr (Or.inr ⟨h0, h1⟩) (Or.inr ⟨q0, by rw [nMod] at q1; omega⟩)) (nMod σ) (Nat.le_refl _)
  rw [suE]
  rw [nMod] at this ⊢
  omega
theorem suE_same {τ σ : mS} (h0 : τ 0 = σ 0) (h7 : τ 7 = σ 7) (h8 : τ 8 = σ 8) : suE τ = suE σ := by
  funext m
  rw [suE, suE, sc2_same h0 h7 h8, nMod, nMod, h0]
theorem grE_same {τ σ : mS} (h0 : τ 0 = σ 0) (h7 : τ 7 = σ 7) (h8 : τ 8 = σ 8) : grE τ = grE σ := by rw [grE, grE, sc2_same h0 h7 h8, nMod, nMod, h0]
