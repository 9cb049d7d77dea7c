set_option maxRecDepth 100000
/-! PAIRS, the plain law: one partner after the other, the first best kept -/
theorem mnJ_min {g : Nat → Int} {c : Int → Int} {S : Nat} (u v : Int) : ∀ j, mnJ g c S (min u v) j = min v (mnJ g c S u j)
  | 0 => by rw [mnJ, mnJ]; omega
  | j + 1 => by
    rw [mnJ, mnJ, mnJ_min u v j]
    by_cases h : S.testBit j = true
    · rw [if_pos h, if_pos h]
    · rw [if_neg h, if_neg h]; omega
theorem mnJ_le {g : Nat → Int} {c : Int → Int} {S : Nat} {u : Int} : ∀ (j i : Nat), i < j → ¬ S.testBit i = true → mnJ g c S u j ≤ c i + g (S ||| 2 ^ i)
  | 0, i, h, _ => absurd h (Nat.not_lt_zero _)
  | j + 1, i, h, hb => by
    rw [mnJ]
    by_cases e : i = j
    · subst e
      rw [if_neg hb]; omega
    · have ih := mnJ_le (g := g) (c := c) (S := S) (u := u) j i (by omega) hb
      split <;> omega
/-- the first of the best so far -/
def ajF (g : Nat → Int) (c : Int → Int) (S : Nat) : Nat → Int
  | 0 => -1
  | j + 1 => if S.testBit j = true then ajF g c S j else if c j + g (S ||| 2 ^ j) < mnJ g c S 1000000 j then (j : Int) else ajF g c S j
theorem ajF_ok {g : Nat → Int} {c : Int → Int} {S : Nat} : ∀ j : Nat, mnJ g c S 1000000 j < 1000000 → (0 ≤ ajF g c S j ∧ ajF g c S j < j) ∧ ¬ S.testBit (ajF g c S j).toNat = true ∧ c (ajF g c S j) + g (S ||| 2 ^ (ajF g c S j).toNat) = mnJ g c S 1000000 j ∧ ∀ i : Nat, (i : Int) < ajF g c S j → ¬ S.testBit i = true → mnJ g c S 1000000 j < c i + g (S ||| 2 ^ i)
  | 0, h => by rw [mnJ] at h; omega
  | j + 1, h => by
    rw [mnJ] at h ⊢
    rw [ajF]
    by_cases hb : S.testBit j = true
    · rw [if_pos hb] at h ⊢
      rw [if_pos hb]
      obtain ⟨a, b, d, e⟩ := ajF_ok j h
      exact ⟨⟨a.1, by omega⟩, b, d, e⟩
    · rw [if_neg hb] at h ⊢
      rw [if_neg hb]
      by_cases hc : c j + g (S ||| 2 ^ j) < mnJ g c S 1000000 j
      · rw [if_pos hc]
        refine ⟨⟨by omega, by omega⟩, by rw [Int.toNat_natCast]; exact hb, by rw [Int.toNat_natCast]; omega, fun i hi hn => ?_⟩
        have := mnJ_le (g := g) (c := c) (S := S) (u := 1000000) j i (by omega) hn
        omega
      · rw [if_neg hc]
        have e9 : min (mnJ g c S 1000000 j) (c j + g (S ||| 2 ^ j)) = mnJ g c S 1000000 j := by omega
        rw [e9] at h ⊢
        obtain ⟨a, b, d, e⟩ := ajF_ok j h
        exact ⟨⟨a.1, by omega⟩, b, d, e⟩
theorem prF_none {P : Int → Bool} : ∀ (k : Nat) (w : Int), (∀ j : Nat, j < k → ¬ P j = true) → prF P k w = w
  | 0, w, _ => rfl
  | k + 1, w, h => by rw [prF, if_neg (h k (by omega))]; exact prF_none k w (fun j hj => h j (by omega))
theorem prF_lt {P : Int → Bool} {j0 : Nat} (h0 : P j0 = true) (h1 : ∀ j : Nat, j < j0 → ¬ P j = true) : ∀ (k : Nat) (w : Int), j0 < k → prF P k w = j0
  | 0, w, h => absurd h (Nat.not_lt_zero _)
  | k + 1, w, h => by
    rw [prF]
    by_cases e : j0 = k
    · subst e
      rw [if_pos h0]; exact prF_none _ _ h1
    · exact prF_lt h0 h1 k _ (by omega)
section PR
variable {c : Int → Int → Int} {lo : Int} {om fm : Nat}
/-- the rest of the pairing from stroke i on -/
def cmS (c : Int → Int → Int) (lo : Int) (om fm : Nat) (i : Int) (S : Nat) : Nat → Nat
  | 0 => S
  | k + 1 => prN (cmS c lo om fm i S k) (prW c lo om fm (i + k) (cmS c lo om fm i S k))
def cmP (c : Int → Int → Int) (lo : Int) (om fm : Nat) (i : Int) (S k : Nat) : Int := prW c lo om fm (i + k) (cmS c lo om fm i S k)
theorem cmS_s (i : Int) (S : Nat) : ∀ k : Nat, cmS c lo om fm i S (k + 1) = cmS c lo om fm (i + 1) (prN S (prW c lo om fm i S)) k
  | 0 => by rw [cmS, cmS, cmS, show i + ((0 : Nat) : Int) = i by omega]
  | k + 1 => by rw [cmS, cmS_s i S k, show i + ((k + 1 : Nat) : Int) = i + 1 + k by omega, cmS]
theorem cmP_s (i : Int) (S k : Nat) : cmP c lo om fm i S (k + 1) = cmP c lo om fm (i + 1) (prN S (prW c lo om fm i S)) k := by
  rw [cmP, cmP, cmS_s, show i + ((k + 1 : Nat) : Int) = i + 1 + k by omega]
theorem cmP_0 (i : Int) (S : Nat) : cmP c lo om fm i S 0 = prW c lo om fm i S := by rw [cmP, cmS, show i + ((0 : Nat) : Int) = i by omega]
theorem cmS_prS : ∀ k, cmS c lo om fm 0 0 k = prS c lo om fm k
  | 0 => rfl
  | k + 1 => by rw [cmS, prS, cmS_prS k, show (0 : Int) + k = k by omega]
theorem cmP_parO {k : Int} (h : 0 ≤ k) : cmP c lo om fm 0 0 k.toNat = parO c lo om fm k := by
  rw [cmP, cmS_prS, parO, show (0 : Int) + ((k.toNat : Nat) : Int) = k by omega]
/-- the rest's least cost: with one of the others, or none -/
theorem bsF_min {i : Int} (hi : 0 ≤ i) (h : i < fm) {S : Nat} (hv : lo + bsF c lo om fm ((fm : Int) - (i + 1)).toNat S ≤ 1000000) : bsF c lo om fm ((fm : Int) - i).toNat S = min (lo + bsF c lo om fm ((fm : Int) - (i + 1)).toNat S) (mnJ (bsF c lo om fm ((fm : Int) - (i + 1)).toNat) (c i) S 1000000 om) := by
  rw [show ((fm : Int) - i).toNat = ((fm : Int) - (i + 1)).toNat + 1 by omega, bsF, show (fm : Int) - ((((fm : Int) - (i + 1)).toNat + 1 : Nat) : Int) = i by omega, ← mnJ_min, show min (1000000 : Int) (lo + bsF c lo om fm ((fm : Int) - (i + 1)).toNat S) = lo + bsF c lo om fm ((fm : Int) - (i + 1)).toNat S by omega]
theorem prW_aj {i : Int} (hi : 0 ≤ i) (h : i < fm) {S : Nat} (hv : lo + bsF c lo om fm ((fm : Int) - (i + 1)).toNat S < 1000000) (hM : mnJ (bsF c lo om fm ((fm : Int) - (i + 1)).toNat) (c i) S 1000000 om ≤ lo + bsF c lo om fm ((fm : Int) - (i + 1)).toNat S) : prW c lo om fm i S = ajF (bsF c lo om fm ((fm : Int) - (i + 1)).toNat) (c i) S om := by
  obtain ⟨a, b, d, e⟩ := ajF_ok (g := bsF c lo om fm ((fm : Int) - (i + 1)).toNat) (c := c i) (S := S) om (by omega)
  have hb := bsF_min (c := c) (lo := lo) (om := om) hi h (S := S) (by omega)
  obtain ⟨j0, hj0⟩ : ∃ j0 : Nat, ajF (bsF c lo om fm ((fm : Int) - (i + 1)).toNat) (c i) S om = j0 := ⟨(ajF (bsF c lo om fm ((fm : Int) - (i + 1)).toNat) (c i) S om).toNat, by omega⟩
  rw [hj0] at a b d e ⊢
  rw [Int.toNat_natCast] at b d
  exact prF_lt (prP_t (by rw [Int.toNat_natCast]; exact b) (by rw [Int.toNat_natCast]; omega)) (fun j hj => prP_f (by
    rw [Int.toNat_natCast]
    by_cases hn : S.testBit j = true
    · exact Or.inl hn
    · have := e j (by omega) hn
      exact Or.inr (by omega))) om (-1) (by omega)
theorem prW_no {i : Int} (hi : 0 ≤ i) (h : i < fm) {S : Nat} (hv : lo + bsF c lo om fm ((fm : Int) - (i + 1)).toNat S < 1000000) (hM : lo + bsF c lo om fm ((fm : Int) - (i + 1)).toNat S < mnJ (bsF c lo om fm ((fm : Int) - (i + 1)).toNat) (c i) S 1000000 om) : prW c lo om fm i S = -1 := by
  have hb := bsF_min (c := c) (lo := lo) (om := om) hi h (S := S) (by omega)
  exact prF_none om (-1) (fun j hj => prP_f (by
    rw [Int.toNat_natCast]
    by_cases hn : S.testBit j = true
    · exact Or.inl hn
    · have := mnJ_le (g := bsF c lo om fm ((fm : Int) - (i + 1)).toNat) (c := c i) (S := S) (u := 1000000) om j hj hn
      exact Or.inr (by omega)))
/-- what giving partners from stroke i on does to the best score, to the partners, to the best row -/
def prQ (c : Int → Int → Int) (lo : Int) (om fm : Nat) (i : Int) (S : Nat) (sum B : Int) (p b : Int → Int) (B' : Int) (p' b' : Int → Int) : Prop := B' = min B (sum + bsF c lo om fm ((fm : Int) - i).toNat S) ∧ (sum + bsF c lo om fm ((fm : Int) - i).toNat S < B → (∀ k, 0 ≤ k → k < i → b' k = p k) ∧ ∀ k : Nat, i + k < fm → b' (i + k) = cmP c lo om fm i S k) ∧ (B ≤ sum + bsF c lo om fm ((fm : Int) - i).toNat S → ∀ k : Int, 0 ≤ k → k < fm → b' k = b k) ∧ ∀ k, 0 ≤ k → k < i → p' k = p k
/-- the same when j of the others have been tried -/
def prI (c : Int → Int → Int) (lo : Int) (om fm : Nat) (i : Int) (S : Nat) (sum B : Int) (p b : Int → Int) (j : Nat) (B' : Int) (p' b' : Int → Int) : Prop := B' = min B (sum + mnJ (bsF c lo om fm ((fm : Int) - (i + 1)).toNat) (c i) S 1000000 j) ∧ (sum + mnJ (bsF c lo om fm ((fm : Int) - (i + 1)).toNat) (c i) S 1000000 j < B → (∀ k, 0 ≤ k → k < i → b' k = p k) ∧ b' i = ajF (bsF c lo om fm ((fm : Int) - (i + 1)).toNat) (c i) S j ∧ ∀ k : Nat, i + 1 + k < fm → b' (i + 1 + k) = cmP c lo om fm (i + 1) (S ||| 2 ^ (ajF (bsF c lo om fm ((fm : Int) - (i + 1)).toNat) (c i) S j).toNat) k) ∧ (B ≤ sum + mnJ (bsF c lo om fm ((fm : Int) - (i + 1)).toNat) (c i) S 1000000 j → ∀ k : Int, 0 ≤ k → k < fm → b' k = b k) ∧ ∀ k, 0 ≤ k → k < i → p' k = p k
variable {i : Int} {S : Nat} {sum B : Int} {p b : Int → Int} {j : Nat} {B1 B2 : Int} {p1 b1 q p2 b2 : Int → Int}
theorem prI_0 (hs : 0 ≤ sum) (hB : B ≤ 100000) : prI c lo om fm i S sum B p b 0 B p b := by
  refine ⟨by rw [mnJ]; omega, fun h => ?_, fun _ k _ _ => rfl, fun k _ _ => rfl⟩
  rw [mnJ] at h
  omega
theorem prI_skip (h : prI c lo om fm i S sum B p b j B1 p1 b1) (hb : S.testBit j = true) : prI c lo om fm i S sum B p b (j + 1) B1 p1 b1 := by
  rw [prI, mnJ, if_pos hb, ajF, if_pos hb]
  exact h
theorem prI_take (hi : 0 ≤ i) (hif : i < fm) (h : prI c lo om fm i S sum B p b j B1 p1 b1) (hb : ¬ S.testBit j = true) (hq : ∀ k, 0 ≤ k → k < i → q k = p1 k) (hqi : q i = j) (hQ : prQ c lo om fm (i + 1) (S ||| 2 ^ j) (sum + c i j) B1 q b1 B2 p2 b2) : prI c lo om fm i S sum B p b (j + 1) B2 p2 b2 := by
  obtain ⟨h1, h2, h3, h4⟩ := h
  obtain ⟨k1, k2, k3, k4⟩ := hQ
  rw [prI, mnJ, if_neg hb, ajF, if_neg hb]
  generalize hM : mnJ (bsF c lo om fm ((fm : Int) - (i + 1)).toNat) (c i) S 1000000 j = M at *
  generalize hx : bsF c lo om fm ((fm : Int) - (i + 1)).toNat (S ||| 2 ^ j) = x at *
  refine ⟨by omega, fun hl => ?_, fun hl => ?_, fun k x0 x1 => by rw [k4 k x0 (by omega), hq k x0 x1]; exact h4 k x0 x1⟩
  · by_cases e : sum + c i j + x < B1
    · obtain ⟨u1, u2⟩ := k2 e
      rw [if_pos (show c i j + x < M by omega)]
      refine ⟨fun k x0 x1 => by rw [u1 k x0 (by omega), hq k x0 x1]; exact h4 k x0 x1, by rw [u1 i hi (by omega)]; exact hqi, fun k hk => ?_⟩
      rw [Int.toNat_natCast]
      exact u2 k hk
    · have u := k3 (by omega)
      rw [if_neg (show ¬ c i j + x < M by omega)]
      obtain ⟨v1, v2, v3⟩ := h2 (by omega)
      exact ⟨fun k x0 x1 => by rw [u k x0 (by omega)]; exact v1 k x0 x1, by rw [u i hi (by omega)]; exact v2, fun k hk => by rw [u _ (by omega) hk]; exact v3 k hk⟩
  · intro k x0 x1
    rw [k3 (by omega) k x0 x1]
    exact h3 (by omega) k x0 x1
theorem prI_end (hi : 0 ≤ i) (hif : i < fm) (hv : lo + bsF c lo om fm ((fm : Int) - (i + 1)).toNat S < 1000000) (h : prI c lo om fm i S sum B p b om B1 p1 b1) (hq : ∀ k, 0 ≤ k → k < i → q k = p1 k) (hqi : q i = -1) (hQ : prQ c lo om fm (i + 1) S (sum + lo) B1 q b1 B2 p2 b2) : prQ c lo om fm i S sum B p b B2 p2 b2 := by
  obtain ⟨h1, h2, h3, h4⟩ := h
  obtain ⟨k1, k2, k3, k4⟩ := hQ
  have hm := bsF_min (c := c) (lo := lo) (om := om) hi hif (S := S) (by omega)
  have w1 := prW_aj (c := c) (lo := lo) (om := om) hi hif (S := S) hv
  have w2 := prW_no (c := c) (lo := lo) (om := om) hi hif (S := S) hv
  have aj := ajF_ok (g := bsF c lo om fm ((fm : Int) - (i + 1)).toNat) (c := c i) (S := S) om
  rw [prQ, hm]
  generalize hM : mnJ (bsF c lo om fm ((fm : Int) - (i + 1)).toNat) (c i) S 1000000 om = M at *
  generalize hx : bsF c lo om fm ((fm : Int) - (i + 1)).toNat S = x at *
  have rest : ∀ k : Nat, i + k < fm → (k = 0 ∧ i + (k : Int) = i) ∨ ∃ k' : Nat, k = k' + 1 ∧ i + (k : Int) = i + 1 + k' ∧ i + 1 + (k' : Int) < fm := fun k hk => by
    by_cases e : k = 0
    · exact Or.inl ⟨e, by omega⟩
    · exact Or.inr ⟨k - 1, by omega, by omega, by omega⟩
  refine ⟨by omega, fun hl => ?_, fun hl => ?_, fun k x0 x1 => by rw [k4 k x0 (by omega), hq k x0 x1]; exact h4 k x0 x1⟩
  · by_cases e : sum + lo + x < B1
    · obtain ⟨u1, u2⟩ := k2 e
      have w := w2 (by omega)
      refine ⟨fun k x0 x1 => by rw [u1 k x0 (by omega), hq k x0 x1]; exact h4 k x0 x1, fun k hk => ?_⟩
      rcases rest k hk with ⟨e0, e1⟩ | ⟨k', e0, e1, e2⟩
      · rw [e1, e0, cmP_0, w, u1 i hi (by omega)]; exact hqi
      · rw [e1, e0, cmP_s, w, prN, if_pos rfl]; exact u2 k' e2
    · have u := k3 (by omega)
      have w := w1 (by omega)
      obtain ⟨v1, v2, v3⟩ := h2 (by omega)
      have a9 := (aj (by omega)).1
      refine ⟨fun k x0 x1 => by rw [u k x0 (by omega)]; exact v1 k x0 x1, fun k hk => ?_⟩
      rcases rest k hk with ⟨e0, e1⟩ | ⟨k', e0, e1, e2⟩
      · rw [e1, e0, cmP_0, w, u i hi (by omega)]; exact v2
      · rw [e1, e0, cmP_s, w, prN, if_neg (by omega), u _ (by omega) e2]; exact v3 k' e2
  · intro k x0 x1
    rw [k3 (by omega) k x0 x1]
    exact h3 (by omega) k x0 x1
theorem prQ_keep (hi : i = fm) (h : B ≤ sum + lo * ((om : Int) - pcN S)) : prQ c lo om fm i S sum B p b B p b := by
  rw [prQ, show ((fm : Int) - i).toNat = 0 by omega, bsF]
  exact ⟨by omega, fun h9 => by omega, fun _ k _ _ => rfl, fun k _ _ => rfl⟩
theorem prQ_new (hi : i = fm) (h : sum + lo * ((om : Int) - pcN S) < B) (hb : ∀ k : Int, 0 ≤ k → k < fm → b1 k = p k) : prQ c lo om fm i S sum B p b (sum + lo * ((om : Int) - pcN S)) p b1 := by
  rw [prQ, show ((fm : Int) - i).toNat = 0 by omega, bsF]
  exact ⟨by omega, fun _ => ⟨fun k x0 x1 => hb k x0 (by omega), fun k hk => by omega⟩, fun h9 => by omega, fun k _ _ => rfl⟩
end PR
theorem prQ_B {c : Int → Int → Int} {lo : Int} {om fm : Nat} {i : Int} {S : Nat} {sum B : Int} {p b : Int → Int} {B' : Int} {p' b' : Int → Int} (h : prQ c lo om fm i S sum B p b B' p' b') (hs : 0 ≤ sum) (hB : 0 ≤ B ∧ B ≤ 100000) (hb : 0 ≤ bsF c lo om fm ((fm : Int) - i).toNat S) : 0 ≤ B' ∧ B' ≤ 100000 := by
  have := h.1
  omega
/-! bits -/
/-- those that are free -/
def frN (om T : Nat) : Int := ((2 ^ om - 1 - T : Nat) : Int)
theorem frN_r : ∀ om, om ≤ 8 → ∀ T, T < 2 ^ om → 0 ≤ frN om T ∧ frN om T < 256 := by decide +kernel
theorem frN_pc : ∀ om, om ≤ 8 → ∀ T, T < 2 ^ om → (pcN (frN om T).toNat : Int) = (om : Int) - pcN T := by decide +kernel
theorem frN_tb : ∀ om, om ≤ 8 → ∀ T, T < 2 ^ om → ∀ j, j < om → (frN om T).toNat.testBit j = !T.testBit j := by decide +kernel
theorem frN_an : ∀ om, om ≤ 8 → ∀ T, T < 2 ^ om → ∀ j, j < om → T.testBit j = false → iI (frN om T) &&& iI (-(((2 ^ j : Nat)) : Int) - 1) = iI (frN om (T ||| 2 ^ j)) := by decide +kernel
theorem xo_1 : ∀ j, j < 8 → iI (((2 ^ j : Nat)) : Int) ^^^ iI (-1) = iI (-(((2 ^ j : Nat)) : Int) - 1) := by decide +kernel
theorem frN_0 : ∀ om, om ≤ 8 → frN om 0 = (((2 ^ om : Nat)) : Int) - 1 := by decide +kernel
/-- bits are counted -/
def ush (x k : Int) : Int := (((iI x).toUInt32 >>> ((iI k).toUInt32 &&& Int32.toUInt32 31)).toInt32).toInt
def anI (x k : Int) : Int := (iI x &&& iI k).toInt
theorem iI_tI (v : Int32) : iI v.toInt = v := Int32.ofInt_toInt v
def bc1 (a : Int) : Int := a - anI (ush a 1) 1431655765
def bc2 (a : Int) : Int := anI a 858993459 + anI (ush a 2) 858993459
def bc3 (a : Int) : Int := anI (a + ush a 4) 252645135
def bc4 (a : Int) : Int := a + ush a 8
def bc5 (a : Int) : Int := a + ush a 16
theorem bc_ok : ∀ n : Nat, n < 256 → anI (bc5 (bc4 (bc3 (bc2 (bc1 (n : Int)))))) 63 = pcN n := by decide +kernel
section XC
variable {l : Launch} {Γ : gC} {E : gE} {X : State → Prop} {y : MethodName} {cc : ByteArray} {nL : Nat} {ret : Option FieldType} {d mc ms : Nat} {post : Option Value → wM → Prop} {S : xS} {D : xD} {R : xR} {cells slots pc : Nat} {lv lv' : List (Option Value)} {st rest : List Value}
theorem xM_D2 {a k : Nat} (ha : (S a).1 = k) (hk : k ≠ 0) (f : Int → Int) : wU (xM E S D R) a (xcell E (kty k) (S a).2.1 f (R a)) = xM E S (uN D a f) R := by
  funext q
  by_cases hq : q = a
  · subst hq
    rw [wU_s, xM_at ha hk, uN_s]
  · rw [wU_n hq, xM, xM, uN_n hq]
theorem x_copyi (hΓ : gOK l Γ E X y cc nL ret d mc ms post) (hAn : xNew E X) {own : String} {ix : Nat} (ho : own = y.cls) (h1 : Cond.methodLink own ix arraycopyName ∈ lw_all) (h2 : Cond.native arraycopyName ∈ lw_all) (h3 : Cond.static arraycopyName ∈ lw_all) (h4 : Cond.initialized "java/lang/System" ∈ lw_all) {a0 a k0 k n0 n1 : Nat} {sp dp n : Int} (ha0 : (S a0).1 = k0) (hn0 : (S a0).2.1 = n0) (hk0 : k0 ≠ 0 ∧ kty k0 = 0) (hA0 : E.2.2 a0) (ha : (S a).1 = k) (hn1 : (S a).2.1 = n1) (hk : k ≠ 0 ∧ kty k = 0) (hA : E.2.2 a) (b : 0 ≤ sp ∧ 0 ≤ dp ∧ 0 ≤ n ∧ sp + n ≤ (n0 : Int) ∧ dp + n ≤ (n1 : Int) ∧ (n0 : Int) < 2147483648 ∧ (n1 : Int) < 2147483648) (hdd : 1 ≤ d) (hrm : (st.map fun v => v.category).sum ≤ 8) (hlv : lv.length = nL) (hd : decode cc pc = .ok (.invokestatic ix, 3)) (kk : ∀ τ : xD, (∀ (q : Nat) (j : Int), q ≠ a → τ q j = D q j) → (∀ j, τ a j = cpI (D a0) (D a) sp dp n j) → gW Γ E (xM E S τ R) cells slots (pc + 3) lv st) : gW Γ E (xM E S D R) cells slots pc lv (.int (iI n) :: .int (iI dp) :: .ref a :: .int (iI sp) :: .ref a0 :: st) := g_copyi hΓ hAn ho h1 h2 h3 h4 (xM_i ha0 hk0.1 hk0.2 (by decide) hn0) hA0 (xM_i ha hk.1 hk.2 (by decide) hn1) hA b hdd hrm hlv hd (by rw [show cAr E 0 n1 (cpI (D a0) (D a) sp dp n) = xcell E (kty k) (S a).2.1 (cpI (D a0) (D a) sp dp n) (R a) by rw [hk.2, xcell_i (by decide), hn1], xM_D2 ha hk.1]; exact kk _ (fun q j h => by rw [uN_n h]) (fun j => by rw [uN_s]))
end XC
