set_option maxRecDepth 100000
/-! THE PURE WORDS, 6: sets of strokes as bits; strokes in pairs -/
theorem bsh {S : Int} {j : Int} (hS : r32 S) (h0 : 0 ≤ j) (h1 : j < 32) : iI S >>> (iI j &&& 31) = iI (S / 2 ^ j.toNat) := sh_r hS j.toNat (by omega) (by omega)
theorem an_1 (a : Int) : iI a &&& iI 1 = iI (a % 2) := by
  have h := pk_and (iI a) (m := iI 1) 1 (by decide)
  rw [h, nI_iI]
  congr 1
  have := bv_iI a
  omega
theorem tb_div (S n : Nat) : ((S : Int) / 2 ^ n) % 2 = if S.testBit n = true then 1 else 0 := by
  have e : ((S : Int) / 2 ^ n) % 2 = ((S / 2 ^ n % 2 : Nat) : Int) := by
    rw [Int.natCast_emod, Int.natCast_ediv, Int.natCast_pow]
    rfl
  rw [e, Nat.testBit_eq_decide_div_mod_eq]
  by_cases h : S / 2 ^ n % 2 = 1
  · simp [h]
  · have : S / 2 ^ n % 2 = 0 := by omega
    simp [this]
theorem an_tb (S n : Nat) : iI ((S : Int) / 2 ^ n) &&& iI 1 = iI (if S.testBit n = true then 1 else 0) := by rw [an_1, tb_div]
theorem sl32 : ∀ n, n < 31 → iI 1 <<< (nI n &&& 31) = nI (2 ^ n) := by decide +kernel
theorem sh_1 {j : Int} (h0 : 0 ≤ j) (h1 : j < 31) : iI 1 <<< (iI j &&& 31) = iI ((2 ^ j.toNat : Nat) : Int) := by
  have := sl32 j.toNat (by omega)
  rw [nI_iI, nI_iI, show ((j.toNat : Nat) : Int) = j by omega] at this
  exact this
theorem or_nat (a b : Nat) : iI (a : Int) ||| iI (b : Int) = iI ((a ||| b : Nat) : Int) := by
  rw [← nI_iI, ← nI_iI, ← nI_iI]
  apply Int32.toBitVec_inj.mp
  show BitVec.ofNat 32 a ||| BitVec.ofNat 32 b = BitVec.ofNat 32 (a ||| b)
  exact (BitVec.ofNat_or).symm
theorem and_nat (a b : Nat) : iI (a : Int) &&& iI (b : Int) = iI ((a &&& b : Nat) : Int) := by
  rw [← nI_iI, ← nI_iI, ← nI_iI]
  apply Int32.toBitVec_inj.mp
  show BitVec.ofNat 32 a &&& BitVec.ofNat 32 b = BitVec.ofNat 32 (a &&& b)
  exact (BitVec.ofNat_and).symm
/-- how many of the 8 lowest bits are set -/
def pcN (S : Nat) : Nat := (List.range 8).countP (fun j => S.testBit j)
theorem pcN_step : ∀ S, S < 256 → S ≠ 0 → (S &&& (S - 1)) < S ∧ pcN (S &&& (S - 1)) + 1 = pcN S := by decide +kernel
theorem pcN_8 : ∀ S, S < 256 → pcN S ≤ 8 := by decide +kernel
theorem pcN_in : ∀ m, m ≤ 8 → ∀ S, S < 2 ^ m → pcN S ≤ m := by decide +kernel
theorem or_lt {S n m : Nat} (h : S < 2 ^ m) (hn : n < m) : S ||| 2 ^ n < 2 ^ m := Nat.or_lt_two_pow h (Nat.pow_lt_pow_right (by decide) hn)
def mnJ (g : Nat → Int) (c : Int → Int) (S : Nat) (v : Int) : Nat → Int
  | 0 => v
  | j + 1 => if S.testBit j = true then mnJ g c S v j else min (mnJ g c S v j) (c j + g (S ||| 2 ^ j))
/-- the least cost of the last r of fm strokes, S of the om others being taken -/
def bsF (c : Int → Int → Int) (loose : Int) (om fm : Nat) : Nat → Nat → Int
  | 0, S => loose * ((om : Int) - pcN S)
  | r + 1, S => mnJ (bsF c loose om fm r) (c ((fm : Int) - (r + 1 : Nat))) S (loose + bsF c loose om fm r S) om
theorem mnJ_congr {g g' : Nat → Int} {c c' : Int → Int} {S : Nat} {v : Int} {om : Nat} (hS : S < 2 ^ om) (hg : ∀ T, T < 2 ^ om → g T = g' T) : ∀ j, j ≤ om → (∀ i : Int, 0 ≤ i → i < j → c i = c' i) → mnJ g c S v j = mnJ g' c' S v j
  | 0, _, _ => rfl
  | j + 1, hj, hc => by
    rw [mnJ, mnJ, mnJ_congr hS hg j (by omega) (fun i h0 h1 => hc i h0 (by omega)), hc j (by omega) (by omega), hg _ (or_lt hS (by omega))]
theorem bsF_congr {c c' : Int → Int → Int} {loose : Int} {om fm : Nat} (h : ∀ i j : Int, 0 ≤ i → i < fm → 0 ≤ j → j < om → c i j = c' i j) : ∀ r, r ≤ fm → ∀ S, S < 2 ^ om → bsF c loose om fm r S = bsF c' loose om fm r S
  | 0, _, S, _ => rfl
  | r + 1, hr, S, hS => by
    have ih := bsF_congr (loose := loose) h r (by omega)
    rw [bsF, bsF, ih S hS]
    exact mnJ_congr hS ih om (Nat.le_refl _) (fun i h0 h1 => h _ i (by omega) (by omega) h0 h1)
theorem mnJ_r {g : Nat → Int} {c : Int → Int} {S : Nat} {v U : Int} {om : Nat} (hS : S < 2 ^ om) (hv : 0 ≤ v ∧ v ≤ U) (hg : ∀ T, T < 2 ^ om → 0 ≤ g T) : ∀ j, j ≤ om → (∀ i : Int, 0 ≤ i → i < j → 0 ≤ c i) → 0 ≤ mnJ g c S v j ∧ mnJ g c S v j ≤ U
  | 0, _, _ => hv
  | j + 1, hj, hc => by
    have ih := mnJ_r hS hv hg j (by omega) (fun i h0 h1 => hc i h0 (by omega))
    have h1 := hc j (by omega) (by omega)
    have h2 := hg _ (or_lt hS (show j < om by omega))
    rw [mnJ]
    split <;> omega
theorem bsF_r {c : Int → Int → Int} {loose : Int} {om fm : Nat} (hl : 0 ≤ loose) (hm : om ≤ 8) (h : ∀ i j : Int, 0 ≤ i → i < fm → 0 ≤ j → j < om → 0 ≤ c i j) : ∀ r, r ≤ fm → ∀ S, S < 2 ^ om → 0 ≤ bsF c loose om fm r S ∧ bsF c loose om fm r S ≤ loose * ((r : Int) + om)
  | 0, _, S, hS => by
    have := pcN_in om hm S hS
    rw [bsF]
    refine ⟨Int.mul_nonneg hl (by omega), Int.mul_le_mul_of_nonneg_left (by omega) hl⟩
  | r + 1, hr, S, hS => by
    have ih := bsF_r hl hm h r (by omega)
    rw [bsF]
    have a := ih S hS
    have e : loose * (((r + 1 : Nat) : Int) + om) = loose + loose * ((r : Int) + om) := by
      rw [show (((r + 1 : Nat) : Int) + om) = 1 + ((r : Int) + om) by omega, Int.mul_add, Int.mul_one]
    rw [e]
    exact mnJ_r hS ⟨by omega, by omega⟩ (fun T hT => (ih T hT).1) om (Nat.le_refl _) (fun i h0 h1 => h _ i (by omega) (by omega) h0 h1)
/-- what a pair costs, by the tables laid out -/
def cs3 (σ : mS) (turn i j : Int) : Int := min (σ 26 (8 * i + j)) (σ 27 (8 * i + j) + turn) + σ 0 1047 * σ 28 (8 * i + j)
/-- the tables laid out are in range -/
def tabOK (σ : mS) : Prop := (0 ≤ σ 24 0 ∧ σ 24 0 ≤ 8) ∧ (0 ≤ σ 25 0 ∧ σ 25 0 ≤ 8) ∧ (0 ≤ σ 0 1047 ∧ σ 0 1047 ≤ 20) ∧ ∀ i j, 0 ≤ i → i < σ 24 0 → 0 ≤ j → j < σ 25 0 → (0 ≤ σ 26 (8 * i + j) ∧ σ 26 (8 * i + j) ≤ 64) ∧ (0 ≤ σ 27 (8 * i + j) ∧ σ 27 (8 * i + j) ≤ 64) ∧ (0 ≤ σ 28 (8 * i + j) ∧ σ 28 (8 * i + j) ≤ 4)
theorem cs3_r {σ : mS} (h : tabOK σ) {turn i j : Int} (ht : 0 ≤ turn ∧ turn ≤ 99) (h0 : 0 ≤ i) (h1 : i < σ 24 0) (h2 : 0 ≤ j) (h3 : j < σ 25 0) : 0 ≤ cs3 σ turn i j ∧ cs3 σ turn i j ≤ 144 := by
  obtain ⟨-, -, hp, ht9⟩ := h
  have a := ht9 i j h0 h1 h2 h3
  have b := mul_b (a := σ 0 1047) (b := σ 28 (8 * i + j)) (A := 20) (B := 4) (by omega) (by omega) (by omega) (by omega)
  have d : 0 ≤ σ 0 1047 * σ 28 (8 * i + j) := Int.mul_nonneg hp.1 a.2.2.1
  rw [cs3]
  omega
/-- how far two strokes of two letters are off by place -/
def cll (σ : mS) (a n b m i j : Int) : Int := (if celS σ (a + i) a n 0 - celS σ (b + j) b m 0 < 0 then -(celS σ (a + i) a n 0 - celS σ (b + j) b m 0) else celS σ (a + i) a n 0 - celS σ (b + j) b m 0) + (if celS σ (a + i) a n 1 - celS σ (b + j) b m 1 < 0 then -(celS σ (a + i) a n 1 - celS σ (b + j) b m 1) else celS σ (a + i) a n 1 - celS σ (b + j) b m 1)
def pcst (σ : mS) (a n b m w turn i j : Int) : Int := min (els σ (a + i) (b + j) 0 w) (els σ (a + i) (b + j) 1 w + turn) + σ 0 1047 * cll σ a n b m i j
/-- the score of the strokes a .. a+n-1 with b .. b+m-1 -/
def scr (σ : mS) (a n b m w loose turn : Int) : Int := bsF (pcst σ a n b m w turn) loose m.toNat n.toNat n.toNat 0
theorem els_64 {σ : mS} (he : 4 ≤ σ 0 1042 ∧ σ 0 1042 ≤ 16) (a b k : Int) {w : Int} (hw : 0 ≤ w) : 0 ≤ els σ a b k w ∧ els σ a b k w ≤ 64 := by
  have d := elT_diag (csd_r σ a b k) (w := w) (e := σ 0 1042) hw (by omega) (σ 0 1042 - 1).toNat 0 (by omega) (by omega)
  have := els_r σ a b k w
  rw [els] at this ⊢
  omega
theorem cll_r {σ : mS} {a n b m i j : Int} (ha : letS σ a n) (hb : letS σ b m) (h0 : 0 ≤ i) (h1 : i < n) (h2 : 0 ≤ j) (h3 : j < m) : 0 ≤ cll σ a n b m i j ∧ cll σ a n b m i j ≤ 4 := by
  have p := celS_r (s := a + i) (ax := 0) ha (Or.inl rfl) (by omega) (by omega)
  have q := celS_r (s := a + i) (ax := 1) ha (Or.inr rfl) (by omega) (by omega)
  have r := celS_r (s := b + j) (ax := 0) hb (Or.inl rfl) (by omega) (by omega)
  have s := celS_r (s := b + j) (ax := 1) hb (Or.inr rfl) (by omega) (by omega)
  rw [cll]
  split <;> split <;> omega
theorem pcst_r {σ : mS} (he : 4 ≤ σ 0 1042 ∧ σ 0 1042 ≤ 16) (hp : 0 ≤ σ 0 1047 ∧ σ 0 1047 ≤ 20) {a n b m w turn i j : Int} (hw : 0 ≤ w) (ht : 0 ≤ turn) (ha : letS σ a n) (hb : letS σ b m) (h0 : 0 ≤ i) (h1 : i < n) (h2 : 0 ≤ j) (h3 : j < m) : 0 ≤ pcst σ a n b m w turn i j ∧ pcst σ a n b m w turn i j ≤ 144 := by
  have x := els_64 he (a + i) (b + j) 0 hw
  have y := els_64 he (a + i) (b + j) 1 hw
  have z := cll_r ha hb h0 h1 h2 h3
  have u := mul_b (a := σ 0 1047) (b := cll σ a n b m i j) (A := 20) (B := 4) (by omega) (by omega) (by omega) (by omega)
  have v : 0 ≤ σ 0 1047 * cll σ a n b m i j := Int.mul_nonneg hp.1 z.1
  rw [pcst]
  omega
theorem scr_r {σ : mS} (he : 4 ≤ σ 0 1042 ∧ σ 0 1042 ≤ 16) (hp : 0 ≤ σ 0 1047 ∧ σ 0 1047 ≤ 20) {a n b m w loose turn : Int} (hw : 0 ≤ w) (hl : 0 ≤ loose ∧ loose ≤ 99) (ht : 0 ≤ turn) (ha : letS σ a n) (hb : letS σ b m) : 0 ≤ scr σ a n b m w loose turn ∧ scr σ a n b m w loose turn ≤ 1584 := by
  have hn := ha.2
  have hm := hb.2
  have r := bsF_r (c := pcst σ a n b m w turn) (loose := loose) (om := m.toNat) (fm := n.toNat) hl.1 (by omega) (fun i j h0 h1 h2 h3 => (pcst_r he hp hw ht ha hb h0 (by omega) h2 (by omega)).1) n.toNat (Nat.le_refl _) 0 (Nat.two_pow_pos _)
  have q := mul_b (a := loose) (b := (n.toNat : Int) + m.toNat) (A := 99) (B := 16) (by omega) (by omega) (by omega) (by omega)
  rw [scr]
  omega
theorem edge_same {τ σ : mS} (h0 : τ 0 = σ 0) (h7 : τ 7 = σ 7) (h8 : τ 8 = σ 8) : edge τ = edge σ := by
  have e1 := np_same h0 h8
  have e2 := nu_same h0 h7
  have key : ∀ b ax first k v, edS b τ ax first k v = edS b σ ax first k v := by
    intro b ax first k
    induction k with
    | zero => intro v; rfl
    | succ k ih => intro v; rw [edS, edS, ih, e1, e2]
  funext first many ax b
  rw [edge, edge, key, e2]
theorem celS_same {τ σ : mS} (h0 : τ 0 = σ 0) (h7 : τ 7 = σ 7) (h8 : τ 8 = σ 8) : celS τ = celS σ := by
  funext s first many ax
  rw [celS, celS, edge_same h0 h7 h8]
theorem cll_same {τ σ : mS} (h0 : τ 0 = σ 0) (h7 : τ 7 = σ 7) (h8 : τ 8 = σ 8) : cll τ = cll σ := by
  funext a n b m i j
  rw [cll, cll, celS_same h0 h7 h8]
theorem pcst_same {τ σ : mS} (h0 : τ 0 = σ 0) (h7 : τ 7 = σ 7) (h8 : τ 8 = σ 8) : pcst τ = pcst σ := by
  funext a n b m w turn i j
  rw [pcst, pcst, els_same h0 h7 h8, cll_same h0 h7 h8, h0]
theorem scr_same {τ σ : mS} (h0 : τ 0 = σ 0) (h7 : τ 7 = σ 7) (h8 : τ 8 = σ 8) : scr τ = scr σ := by
  funext a n b m w loose turn
  rw [scr, scr, pcst_same h0 h7 h8]
theorem letS_same {τ σ : mS} (h0 : τ 0 = σ 0) (h7 : τ 7 = σ 7) (h8 : τ 8 = σ 8) : letS τ = letS σ := by
  funext a n
  rw [letS, letS, np_same h0 h8, nu_same h0 h7]
theorem an_tbI {s : Int} (h : 0 ≤ s) (n : Nat) : iI (s / 2 ^ n) &&& iI 1 = iI (if s.toNat.testBit n = true then 1 else 0) := by
  have := an_tb s.toNat n
  rw [show ((s.toNat : Nat) : Int) = s by omega] at this
  exact this
theorem or_I {s : Int} (h : 0 ≤ s) (b : Nat) : iI s ||| iI (b : Int) = iI ((s.toNat ||| b : Nat) : Int) := by
  have := or_nat s.toNat b
  rw [show ((s.toNat : Nat) : Int) = s by omega] at this
  exact this
theorem and_I {s : Int} (h : 0 < s) : iI s &&& iI (s - 1) = iI ((s.toNat &&& (s.toNat - 1) : Nat) : Int) := by
  have := and_nat s.toNat (s.toNat - 1)
  rw [show ((s.toNat : Nat) : Int) = s by omega, show ((s.toNat - 1 : Nat) : Int) = s - 1 by omega] at this
  exact this
theorem cs3_same {τ σ : mS} (h0 : τ 0 = σ 0) (h6 : τ 26 = σ 26) (h7 : τ 27 = σ 27) (h8 : τ 28 = σ 28) : cs3 τ = cs3 σ := by
  funext turn i j
  rw [cs3, cs3, h0, h6, h7, h8]
theorem bsF_b {c : Int → Int → Int} {loose : Int} {om fm : Nat} (hl : 0 ≤ loose ∧ loose ≤ 99) (hm : om ≤ 8) (hf : fm ≤ 8) (h : ∀ i j : Int, 0 ≤ i → i < fm → 0 ≤ j → j < om → 0 ≤ c i j) (r : Nat) (hr : r ≤ fm) (S : Nat) (hS : S < 2 ^ om) : 0 ≤ bsF c loose om fm r S ∧ bsF c loose om fm r S ≤ 1584 := by
  have a := bsF_r hl.1 hm h r hr S hS
  have q := mul_b (a := loose) (b := (r : Int) + om) (A := 99) (B := 16) (by omega) (by omega) (by omega) (by omega)
  omega
