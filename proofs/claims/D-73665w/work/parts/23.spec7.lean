set_option maxRecDepth 100000
/-! THE PURE WORDS, 7: scores of letters; partners -/
/-- the tables of two letters' strokes are laid out -/
def pairT (t σ : mS) (a n b m w lo u : Int) : Prop := t 24 0 = n ∧ t 25 0 = m ∧ (∀ i j, 0 ≤ i → i < n → 0 ≤ j → j < m → t 26 (8 * i + j) = els σ (a + i) (b + j) 0 w ∧ t 27 (8 * i + j) = els σ (a + i) (b + j) 1 w ∧ t 28 (8 * i + j) = cll σ a n b m i j) ∧ ∀ (i : Int) (T : Nat), 0 ≤ i → i ≤ n → T < 2 ^ m.toNat → t 29 (256 * i + T) = bsF (pcst σ a n b m w u) lo m.toNat n.toNat (n - i).toNat T
theorem pair_tab {t σ : mS} {a n b m w : Int} (he : 4 ≤ σ 0 1042 ∧ σ 0 1042 ≤ 16) (hp : 0 ≤ σ 0 1047 ∧ σ 0 1047 ≤ 20) (hw : 0 ≤ w) (ha : letS σ a n) (hb : letS σ b m) (t0 : t 0 = σ 0) (h24 : t 24 0 = n) (h25 : t 25 0 = m) (h : ∀ i j, 0 ≤ i → i < n → 0 ≤ j → j < m → t 26 (8 * i + j) = els σ (a + i) (b + j) 0 w ∧ t 27 (8 * i + j) = els σ (a + i) (b + j) 1 w ∧ t 28 (8 * i + j) = cll σ a n b m i j) : tabOK t ∧ ∀ u i j, 0 ≤ i → i < n → 0 ≤ j → j < m → cs3 t u i j = pcst σ a n b m w u i j := by
  have ha2 := ha.2
  have hb2 := hb.2
  refine ⟨⟨by rw [h24]; omega, by rw [h25]; omega, by rw [t0]; exact hp, fun i j h0 h1 h2 h3 => ?_⟩, fun u i j h0 h1 h2 h3 => ?_⟩
  · rw [h24] at h1
    rw [h25] at h3
    obtain ⟨e1, e2, e3⟩ := h i j h0 h1 h2 h3
    rw [e1, e2, e3]
    exact ⟨els_64 he _ _ _ hw, els_64 he _ _ _ hw, cll_r ha hb h0 h1 h2 h3⟩
  · obtain ⟨e1, e2, e3⟩ := h i j h0 h1 h2 h3
    rw [cs3, pcst, e1, e2, e3, t0]
theorem pair_bs {t σ : mS} {a n b m w lo u : Int} (hn : 0 ≤ n) (hm : 0 ≤ m) (hc : ∀ i j, 0 ≤ i → i < n → 0 ≤ j → j < m → cs3 t u i j = pcst σ a n b m w u i j) {r T : Nat} (hr : r ≤ n.toNat) (hT : T < 2 ^ m.toNat) : bsF (cs3 t u) lo m.toNat n.toNat r T = bsF (pcst σ a n b m w u) lo m.toNat n.toNat r T := bsF_congr (fun i j h0 h1 h2 h3 => hc i j h0 (by omega) h2 (by omega)) r hr T hT
/-- a letter's number is such -/
abbrev isL (σ : mS) (m : Int) : Prop := m = -1 ∨ (0 ≤ m ∧ m < σ 0 1000)
def scS (σ : mS) (a n b m : Int) : Int := scr σ a n b m (σ 0 1043) (σ 0 1044) (σ 0 1045)
def sc2 (σ : mS) (x y : Int) : Int := scS σ (fsS x) (mnS σ x) (fsS y) (mnS σ y)
def pairL (t σ : mS) (x y : Int) : Prop := pairT t σ (fsS x) (mnS σ x) (fsS y) (mnS σ y) (σ 0 1043) (σ 0 1044) (σ 0 1045)
theorem scS_r {σ : mS} (hr : rowOK (σ 0)) {a n b m : Int} (ha : letS σ a n) (hb : letS σ b m) : 0 ≤ scS σ a n b m ∧ scS σ a n b m ≤ 1584 := by
  obtain ⟨-, -, h1042, h1043, h1044, h1045, h1046, h1047, -⟩ := id hr
  exact scr_r h1042 h1047 h1043.1 h1044 h1045.1 ha hb
theorem sc2_r {σ : mS} (hr : rowOK (σ 0)) {x y : Int} (hx : isL σ x) (hy : isL σ y) : 0 ≤ sc2 σ x y ∧ sc2 σ x y ≤ 1584 := scS_r hr (letS_of hr hx) (letS_of hr hy)
theorem scS_same {τ σ : mS} (h0 : τ 0 = σ 0) (h7 : τ 7 = σ 7) (h8 : τ 8 = σ 8) : scS τ = scS σ := by
  funext a n b m
  rw [scS, scS, scr_same h0 h7 h8, h0]
theorem mnS_same {τ σ : mS} (h0 : τ 0 = σ 0) : mnS τ = mnS σ := by
  funext m
  rw [mnS, mnS, h0]
theorem sc2_same {τ σ : mS} (h0 : τ 0 = σ 0) (h7 : τ 7 = σ 7) (h8 : τ 8 = σ 8) : sc2 τ = sc2 σ := by
  funext x y
  rw [sc2, sc2, scS_same h0 h7 h8, mnS_same h0]
def sp_score (σ : mS) (x y : Int) : Int := if isL σ x ∧ isL σ y then sc2 σ x y else -1
/-- the least place (of those below k) that is such; w, if none is -/
def prF (P : Int → Bool) : Nat → Int → Int
  | 0, w => w
  | j + 1, w => prF P j (if P j = true then j else w)
/-- whether stroke i takes j, S being taken -/
def prP (c : Int → Int → Int) (lo : Int) (om fm : Nat) (i : Int) (S : Nat) (j : Int) : Bool := decide (¬ S.testBit j.toNat = true ∧ c i j + bsF c lo om fm (fm - (i + 1)).toNat (S ||| 2 ^ j.toNat) = bsF c lo om fm (fm - i).toNat S)
def prW (c : Int → Int → Int) (lo : Int) (om fm : Nat) (i : Int) (S : Nat) : Int := prF (prP c lo om fm i S) om (-1)
def prN (S : Nat) (w : Int) : Nat := if w = -1 then S else S ||| 2 ^ w.toNat
/-- which of the others are taken when k strokes have been given partners -/
def prS (c : Int → Int → Int) (lo : Int) (om fm : Nat) : Nat → Nat
  | 0 => 0
  | k + 1 => prN (prS c lo om fm k) (prW c lo om fm k (prS c lo om fm k))
def parO (c : Int → Int → Int) (lo : Int) (om fm : Nat) (i : Int) : Int := prW c lo om fm i (prS c lo om fm i.toNat)
theorem prF_r (P : Int → Bool) {om : Nat} : ∀ (k : Nat) (w : Int), k ≤ om → -1 ≤ w → w < om → -1 ≤ prF P k w ∧ prF P k w < om
  | 0, w, _, h1, h2 => ⟨h1, h2⟩
  | k + 1, w, h, h1, h2 => by
    rw [prF]
    split
    · exact prF_r P k k (by omega) (by omega) (by omega)
    · exact prF_r P k w (by omega) h1 h2
theorem prW_r (c : Int → Int → Int) (lo : Int) (om fm : Nat) (i : Int) (S : Nat) : -1 ≤ prW c lo om fm i S ∧ prW c lo om fm i S < om := prF_r _ om (-1) (Nat.le_refl _) (by omega) (by omega)
theorem prN_r {S om : Nat} {w : Int} (hS : S < 2 ^ om) (h1 : -1 ≤ w) (h2 : w < om) : prN S w < 2 ^ om := by
  rw [prN]
  split
  · exact hS
  · exact or_lt hS (by omega)
theorem prS_r (c : Int → Int → Int) (lo : Int) (om fm : Nat) : ∀ k, prS c lo om fm k < 2 ^ om
  | 0 => Nat.two_pow_pos om
  | k + 1 => by
    have h := prW_r c lo om fm k (prS c lo om fm k)
    exact prN_r (prS_r c lo om fm k) h.1 h.2
theorem parO_r (c : Int → Int → Int) (lo : Int) (om fm : Nat) (i : Int) : -1 ≤ parO c lo om fm i ∧ parO c lo om fm i < om := prW_r _ _ _ _ _ _
def pcL (σ : mS) (x y : Int) : Int → Int → Int := pcst σ (fsS x) (mnS σ x) (fsS y) (mnS σ y) (σ 0 1043) (σ 0 1045)
/-- with which stroke of the letter y the stroke i of x goes -/
def pnr (σ : mS) (x y i : Int) : Int := parO (pcL σ x y) (σ 0 1044) (mnS σ y).toNat (mnS σ x).toNat i
abbrev isPn (σ : mS) (x y i w : Int) : Prop := isL σ x ∧ isL σ y ∧ (0 ≤ i ∧ i < mnS σ x) ∧ 0 ≤ w ∧ w ≤ 1
def trn (σ : mS) (x y i w : Int) : Int := if w ≠ -1 ∧ els σ (fsS x + i) (fsS y + w) 1 (σ 0 1043) + σ 0 1045 < els σ (fsS x + i) (fsS y + w) 0 (σ 0 1043) then 1 else 0
def sp_partner (σ : mS) (x y i w : Int) : Int := if isPn σ x y i w then (if w = 0 then pnr σ x y i else trn σ x y i (pnr σ x y i)) else -1
/-- what stroke i of x costs -/
def cof (σ : mS) (x y i : Int) : Int := if pnr σ x y i = -1 then σ 0 1044 else pcL σ x y i (pnr σ x y i)
/-- worst: after k strokes: the stroke, its cost, how many are alone -/
def wrF (σ : mS) (x y : Int) : Nat → (Int × Int) × Int
  | 0 => ((-1, 0), mnS σ x + mnS σ y)
  | k + 1 => (if (wrF σ x y k).1.1 = -1 ∨ (wrF σ x y k).1.2 < cof σ x y k then ((k : Int), cof σ x y k) else (wrF σ x y k).1, (wrF σ x y k).2 - (if pnr σ x y k = -1 then 0 else 2))
def sp_worst (σ : mS) (x y w : Int) : Int := if isL σ x ∧ isL σ y ∧ 0 ≤ w ∧ w ≤ 2 then (if w = 0 then (wrF σ x y (mnS σ x).toNat).1.1 else if w = 1 then (wrF σ x y (mnS σ x).toNat).1.2 else (wrF σ x y (mnS σ x).toNat).2) else -1
