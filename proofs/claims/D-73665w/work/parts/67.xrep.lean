set_option maxRecDepth 100000
/-! THE COMPONENT's HEAP: what always holds of it (GI), where its own cells lie (penOK), what of it stands for the reference's state (Rx) -/
/-- a list's i-th element -/
def lE (R : xR) (a : Nat) (i : Int) : Nat := rf R (rf R a 1) i
/-- only places of these kinds have changed -/
def fr {α : Type} (S : xS) (D D' : Nat → Int → α) (mods : List Nat) : Prop := ∀ (q : Nat) (i : Int), md (S q).1 i ∉ mods → D' q i = D q i
/-- old cells keep their shapes -/
def sle (S S' : xS) : Prop := ∀ q, (S q).1 ≠ 0 → S' q = S q
theorem fr_rfl {α : Type} {S : xS} {D : Nat → Int → α} {m : List Nat} : fr S D D m := fun _ _ _ => rfl
theorem fr_w {α : Type} {S : xS} {D D' : Nat → Int → α} {m m' : List Nat} (h : fr S D D' m) (hs : ∀ x ∈ m, x ∈ m') : fr S D D' m' := fun q i hq => h q i (fun e => hq (hs _ e))
theorem fr_t {α : Type} {S : xS} {D D' D2 : Nat → Int → α} {m : List Nat} (h : fr S D D' m) (h2 : fr S D' D2 m) : fr S D D2 m := fun q i hq => (h2 q i hq).trans (h q i hq)
theorem fr_row {α : Type} {S : xS} {D D' : Nat → Int → α} {m : List Nat} (h : fr S D D' m) {q k : Nat} (hk : (S q).1 = k) (h10 : 10 ≤ k) (hm : k ∉ m) : D' q = D q := by
  funext i
  exact h q i (by rw [hk, mdN i h10]; exact hm)
theorem fr_at {α : Type} {S : xS} {D D' : Nat → Int → α} {m : List Nat} (h : fr S D D' m) {q k : Nat} {i : Int} (hk : (S q).1 = k) (hm : md k i ∉ m) : D' q i = D q i := h q i (by rw [hk]; exact hm)
theorem rf_at {S : xS} {R R' : xR} {m : List Nat} (h : fr S R R' m) {q k : Nat} {i : Int} (hk : (S q).1 = k) (hm : md k i ∉ m) : rf R' q i = rf R q i := by rw [rf, rf, fr_at h hk hm]
/-! strokes -/
/-- what the cache of a stroke holds -/
def caOK (D : xD) (R : xR) (s : Nat) (n e : Int) : Prop := (4 ≤ e ∧ e ≤ 16) ∧ (∀ k ax, 0 ≤ k → k ≤ e → (ax = 0 ∨ ax = 1) → D (rf R s 4) (2 * k + ax) = smp n (D (rf R s 0)) e k ax) ∧ (∀ k, 0 ≤ k → k < e → D (rf R s 5) k = cdk n (D (rf R s 0)) e k) ∧ ∀ k, 0 ≤ k → k < e → D (rf R s 6) k = (cdk n (D (rf R s 0)) e (e - 1 - k) + 4) % 8
/-- where a stroke's rows are -/
def skF0 (S : xS) (R : xR) (s : Nat) (n : Int) : Prop := R s 0 = some (rf R s 0) ∧ (S (rf R s 0)).1 = 40 ∧ ((S (rf R s 0)).2.1 : Int) = 2 * n ∧ R s 1 = some (rf R s 1) ∧ (S (rf R s 1)).1 = 41 ∧ ((S (rf R s 1)).2.1 : Int) = n - 1 ∧ R s 4 = some (rf R s 4) ∧ S (rf R s 4) = (42, 34, s) ∧ R s 5 = some (rf R s 5) ∧ S (rf R s 5) = (43, 16, s) ∧ R s 6 = some (rf R s 6) ∧ S (rf R s 6) = (44, 16, s)
def strN (S : xS) (R : xR) (s : Nat) : Int := (((S (rf R s 0)).2.1 / 2 : Nat) : Int)
/-- a stroke but for what it has laid -/
def strB (S : xS) (D : xD) (R : xR) (s : Nat) : Prop := skF0 S R s (strN S R s) ∧ skOK (strN S R s) (D (rf R s 0)) ∧ (∀ k, 0 ≤ k → k + 1 < strN S R s → D (rf R s 1) k = pcs (D (rf R s 0)) k) ∧ D s 2 = lnS (strN S R s) (D (rf R s 0))
def strOK (S : xS) (D : xD) (R : xR) (s : Nat) : Prop := strB S D R s ∧ (D s 3 = 0 ∨ caOK D R s (strN S R s) (D s 3))
/-- a stroke holds n points, numbers f -/
def skR (S : xS) (D : xD) (R : xR) (s : Nat) (n : Int) (f : Int → Int) : Prop := (S s).1 = 8 ∧ ((S (rf R s 0)).2.1 : Int) = 2 * n ∧ ∀ j, 0 ≤ j → j < 2 * n → D (rf R s 0) j = f j
/-! lists: 10 ink, 11 models, 12 a letter's strokes, 13 row, 14 behind, 15 unused, 16 samples, 17 names -/
def lek (k : Nat) : Nat := match k with
  | 10 => 8
  | 11 => 7
  | 12 => 8
  | 13 => 8
  | 14 => 2
  | 15 => 2
  | 16 => 9
  | 17 => 30
  | _ => 0
def lsOK (Z : Nat → Nat) (S : xS) (D : xD) (R : xR) (a : Nat) : Prop := R a 1 = some (rf R a 1) ∧ (0 ≤ D a 2 ∧ D a 2 ≤ (S (rf R a 1)).2.1 ∧ (S (rf R a 1)).2.1 ≤ 1000) ∧ (((S (rf R a 1)).1 = (S a).1 + 10 ∧ (S (rf R a 1)).2.2 = a ∧ 10 ≤ (S (rf R a 1)).2.1) ∨ (rf R a 1 = Z 0 ∧ (S (rf R a 1)).1 = 28 ∧ (S (rf R a 1)).2.1 = 0)) ∧ ∀ i, 0 ≤ i → i < D a 2 → R (rf R a 1) i = some (lE R a i) ∧ (S (lE R a i)).1 = lek (S a).1
/-- a list holds the strokes first .. first + many - 1 of σ -/
def lsR (S : xS) (D : xD) (R : xR) (a : Nat) (σ : mS) (first many : Int) : Prop := D a 2 = many ∧ ∀ i, 0 ≤ i → i < many → skR S D R (lE R a i) (np σ (first + i)) (nu σ (first + i))
/-! states, letters, samples, strings -/
def stF (S : xS) (R : xR) (s : Nat) : Prop := R s 0 = some (rf R s 0) ∧ (S (rf R s 0)).1 = 11 ∧ (S (rf R s 0)).2.2 = s ∧ R s 1 = some (rf R s 1) ∧ (S (rf R s 1)).1 = 10 ∧ (S (rf R s 1)).2.2 = s ∧ R s 2 = some (rf R s 2) ∧ S (rf R s 2) = (45, 6, s)
def leF0 (S : xS) (R : xR) (t : Nat) : Prop := R t 0 = some (rf R t 0) ∧ (S (rf R t 0)).1 = 30 ∧ R t 1 = some (rf R t 1) ∧ (S (rf R t 1)).1 = 12 ∧ (S (rf R t 1)).2.2 = t
def saF (S : xS) (R : xR) (p : Nat) : Prop := R p 1 = some (rf R p 1) ∧ (S (rf R p 1)).1 = 7
def txF (S : xS) (D : xD) (R : xR) (q : Nat) : Prop := R q 0 = some (rf R q 0) ∧ (S (rf R q 0)).1 = 31 ∧ (S (rf R q 0)).2.1 ≤ 1600 ∧ D q 1 = 0 ∧ ∀ j, 0 ≤ j → j < (S (rf R q 0)).2.1 → 0 ≤ D (rf R q 0) j ∧ D (rf R q 0) j ≤ 127
/-- the constants of the classes: 0 the empty row, 1 BEGUN, 2 OWN, 3 LEAST, 4 GREATEST, 10.. OWN's texts, 30.. texts in the code -/
def begF (j : Int) : Int := if j = 0 then 8 else if j = 1 then 16 else if j = 2 then 20 else if j = 3 then 6 else if j = 4 then 4 else 0
/-- what always holds of the heap -/
def GI (E : gE) (Z : Nat → Nat) (S : xS) (D : xD) (R : xR) : Prop := (∀ s, (S s).1 = 8 → strOK S D R s) ∧ (∀ a, 10 ≤ (S a).1 → (S a).1 ≤ 17 → lsOK Z S D R a) ∧ (∀ s, (S s).1 = 2 → stF S R s) ∧ (∀ t, (S t).1 = 7 → leF0 S R t) ∧ (∀ p, (S p).1 = 9 → saF S R p) ∧ (∀ q, (S q).1 = 30 → txF S D R q) ∧ (∀ q, wk (S q).1 = true → E.2.2 q)
/-- the constants -/
def KI0 (E : gE) (Z : Nat → Nat) (S : xS) (D : xD) (R : xR) : Prop := (S (Z 0)).1 = 28 ∧ (S (Z 0)).2.1 = 0 ∧ ((S (Z 1)).1 = 35 ∧ (S (Z 1)).2.1 = 6 ∧ (∀ j, 0 ≤ j → j < 6 → D (Z 1) j = begF j) ∧ ¬ E.2.2 (Z 1)) ∧ ((S (Z 3)).1 = 33 ∧ (S (Z 3)).2.1 = 6 ∧ ∀ j, 0 ≤ j → j < 6 → D (Z 3) j = lowF j) ∧ ((S (Z 4)).1 = 34 ∧ (S (Z 4)).2.1 = 6 ∧ ∀ j, 0 ≤ j → j < 6 → D (Z 4) j = hghF j)
/-- a text's letters -/
def nmK (S : xS) (D : xD) (R : xR) (q : Nat) (n : Int) (f : Int → Int) : Prop := (S q).1 = 30 ∧ (S (rf R q 0)).1 = 31 ∧ ((S (rf R q 0)).2.1 : Int) = n ∧ ∀ j, 0 ≤ j → j < n → D (rf R q 0) j = f j
def KZ : List Nat := [10, 11, 12, 13, 14, 15, 16, 17, 18, 19, 30, 31, 32, 33, 34, 35, 36]
/-- which of the own words a text of the constants is; 10: the empty one -/
def kwd (z : Nat) : Int := match z with
  | 30 => 0 | 31 => 10 | 32 => 7 | 33 => 8 | 34 => 9 | 35 => 10 | 36 => 10
  | n => (n : Int) - 10
def KS (E : gE) (Z : Nat → Nat) (S : xS) (D : xD) (R : xR) : Prop := (∀ z ∈ KZ, nmK S D R (Z z) (oN (kwd z)) (fun i => owL (oB (kwd z) + i) + 96)) ∧ ((S (Z 2)).1 = 32 ∧ (S (Z 2)).2.1 = 10 ∧ ∀ j : Nat, j < 10 → R (Z 2) (j : Int) = some (Z (10 + j))) ∧ ¬ E.2.2 (Z 0)
def KI (E : gE) (Z : Nat → Nat) (S : xS) (D : xD) (R : xR) : Prop := KI0 E Z S D R ∧ KS E Z S D R
/-! the pen's own cells -/
abbrev xPk : Type := Nat × (Nat → Nat) × (Nat → Int → Nat)
def isPA (k : Nat) : Bool := match k with
  | 0 => true | 2 => true | 3 => true | 12 => true | 13 => true | 14 => true | 15 => true | 16 => true | 17 => true | 18 => true | 19 => true | 23 => true | 24 => true | 25 => true | 26 => true | 27 => true | 28 => true | 29 => true | 32 => true | 33 => true | 34 => true | 36 => true
  | _ => false
def plen (k : Nat) : Nat := match k with
  | 0 => 1600 | 2 => 6 | 3 => 24 | 12 => 16 | 13 => 32 | 14 => 32 | 26 => 9 | 32 => 41 | 33 => 41 | 34 => 41 | 36 => 202
  | _ => 8
def isPG (k : Nat) : Bool := match k with
  | 12 => true | 15 => true | 16 => true | 17 => true | 32 => true
  | _ => false
def gwd (k : Nat) : Nat := match k with
  | 12 => 16
  | _ => 8
def isPL (k : Nat) : Bool := match k with
  | 5 => true | 6 => true | 30 => true | 31 => true | 20 => true | 21 => true
  | _ => false
def pkd (k : Nat) : Nat := match k with
  | 5 => 14 | 6 => 15 | 30 => 13 | 31 => 16 | 20 => 3 | 21 => 19
  | _ => 0
def penOK (Z : Nat → Nat) (S : xS) (R : xR) (P : xPk) : Prop := (S P.1).1 = 1 ∧ (∀ k : Nat, isPA k = true → R P.1 (k : Int) = some (P.2.1 k) ∧ S (P.2.1 k) = (50 + k, plen k, P.1)) ∧ (∀ k : Nat, isPL k = true → R P.1 (k : Int) = some (P.2.1 k) ∧ (S (P.2.1 k)).1 = pkd k) ∧ (∀ k : Nat, isPG k = true → ∀ i : Int, 0 ≤ i → i < (plen k : Int) → R (P.2.1 k) i = some (P.2.2 k i) ∧ S (P.2.2 k i) = (100 + k, gwd k, i.toNat)) ∧ (∀ i : Int, (i = 0 ∨ i = 1) → R (P.2.1 20) i = some (P.2.2 20 i) ∧ S (P.2.2 20 i) = (46 + i.toNat, 2, P.1) ∧ R (P.2.1 21) i = some (P.2.2 21 i) ∧ S (P.2.2 21 i) = (48 + i.toNat, 2, P.1)) ∧ R P.1 11 = some (Z 20) ∧ P.1 = Z 21
section PK
variable {Z : Nat → Nat} {S : xS} {R : xR} {P : xPk}
theorem pA_r (hp : penOK Z S R P) (k : Nat) (h : isPA k = true) {ki : Int} (hk : (k : Int) = ki) : R P.1 ki = some (P.2.1 k) := by rw [← hk]; exact (hp.2.1 k h).1
theorem pA_k (hp : penOK Z S R P) (k : Nat) (h : isPA k = true) {n : Nat} (hn : 50 + k = n) : (S (P.2.1 k)).1 = n := by rw [(hp.2.1 k h).2]; exact hn
theorem pA_n (hp : penOK Z S R P) (k : Nat) (h : isPA k = true) {n : Nat} (hn : plen k = n) : (S (P.2.1 k)).2.1 = n := by rw [(hp.2.1 k h).2]; exact hn
theorem pL_r (hp : penOK Z S R P) (k : Nat) (h : isPL k = true) {ki : Int} (hk : (k : Int) = ki) : R P.1 ki = some (P.2.1 k) := by rw [← hk]; exact (hp.2.2.1 k h).1
theorem pL_k (hp : penOK Z S R P) (k : Nat) (h : isPL k = true) {n : Nat} (hn : pkd k = n) : (S (P.2.1 k)).1 = n := by rw [(hp.2.2.1 k h).2]; exact hn
theorem pG_r (hp : penOK Z S R P) (k : Nat) (h : isPG k = true) {n : Nat} (hn : plen k = n) {i : Int} (hi : 0 ≤ i ∧ i < (n : Int)) : R (P.2.1 k) i = some (P.2.2 k i) := (hp.2.2.2.1 k h i hi.1 (by rw [hn]; exact hi.2)).1
theorem pG_k (hp : penOK Z S R P) (k : Nat) (h : isPG k = true) {n : Nat} (hn : plen k = n) {i : Int} (hi : 0 ≤ i ∧ i < (n : Int)) {m : Nat} (hm : 100 + k = m) : (S (P.2.2 k i)).1 = m := by rw [(hp.2.2.2.1 k h i hi.1 (by rw [hn]; exact hi.2)).2]; exact hm
theorem pG_n (hp : penOK Z S R P) (k : Nat) (h : isPG k = true) {n : Nat} (hn : plen k = n) {i : Int} (hi : 0 ≤ i ∧ i < (n : Int)) {m : Nat} (hm : gwd k = m) : (S (P.2.2 k i)).2.1 = m := by rw [(hp.2.2.2.1 k h i hi.1 (by rw [hn]; exact hi.2)).2]; exact hm
theorem pG_i (hp : penOK Z S R P) (k : Nat) (h : isPG k = true) {n : Nat} (hn : plen k = n) {i j : Int} (hi : 0 ≤ i ∧ i < (n : Int)) (hj : 0 ≤ j ∧ j < (n : Int)) (hij : i ≠ j) : P.2.2 k i ≠ P.2.2 k j := fun e => hij (by
  have h1 := (hp.2.2.2.1 k h i hi.1 (by rw [hn]; exact hi.2)).2
  have h2 := (hp.2.2.2.1 k h j hj.1 (by rw [hn]; exact hj.2)).2
  rw [e, h2] at h1
  have h3 : j.toNat = i.toNat := congrArg (fun z => z.2.2) h1
  omega)
theorem pB_r (hp : penOK Z S R P) (b : Nat) (hb : b = 20 ∨ b = 21) (i : Int) (hi : i = 0 ∨ i = 1) : R (P.2.1 b) i = some (P.2.2 b i) := by
  rcases hb with rfl | rfl
  · exact (hp.2.2.2.2.1 i hi).1
  · exact (hp.2.2.2.2.1 i hi).2.2.1
theorem pB_s (hp : penOK Z S R P) (b : Nat) (hb : b = 20 ∨ b = 21) (i : Int) (hi : i = 0 ∨ i = 1) {k : Nat} (hk : 46 + 2 * (b - 20) + i.toNat = k) : (S (P.2.2 b i)).1 = k ∧ (S (P.2.2 b i)).2.1 = 2 := by
  rcases hb with rfl | rfl
  · rw [(hp.2.2.2.2.1 i hi).2.1]; exact ⟨hk, rfl⟩
  · rw [(hp.2.2.2.2.1 i hi).2.2.2]; exact ⟨hk, rfl⟩
end PK
/-! what stands for the reference's state -/
/-- a text stands for a name of a row -/
def nmR (S : xS) (D : xD) (R : xR) (q : Nat) (g : Int → Int) : Prop := (S (rf R q 0)).2.1 ≤ 4 ∧ ∀ i, 0 ≤ i → i < 4 → g i = if i < ((S (rf R q 0)).2.1 : Int) then D (rf R q 0) i - 96 else 0
/-- a state stands for a row of the reference -/
def stR (S : xS) (D : xD) (R : xR) (s : Nat) (r : Int → Int) : Prop := (S s).1 = 2 ∧ (D (rf R s 2) 0 = r 1042 ∧ D (rf R s 2) 1 = r 1043 ∧ D (rf R s 2) 2 = r 1044 ∧ D (rf R s 2) 3 = r 1045 ∧ D (rf R s 2) 4 = r 1046 ∧ D (rf R s 2) 5 = r 1047) ∧ D (rf R s 1) 2 = r 1009 ∧ (∀ i, 0 ≤ i → i < r 1009 → skR S D R (lE R (rf R s 1) i) (r (960 + i)) (fun j => r (24 * i + j))) ∧ D (rf R s 0) 2 = r 1000 ∧ ∀ m, 0 ≤ m → m < r 1000 → (S (lE R (rf R s 0) m)).1 = 7 ∧ D (rf R (lE R (rf R s 0) m) 1) 2 = r (1001 + m) ∧ (∀ i, 0 ≤ i → i < r (1001 + m) → skR S D R (lE R (rf R (lE R (rf R s 0) m) 1) i) (r (960 + (8 + 4 * m + i))) (fun j => r (24 * (8 + 4 * m + i) + j))) ∧ nmR S D R (rf R (lE R (rf R s 0) m) 0) (fun i => r (1010 + 4 * m + i))
def nowR (S : xS) (D : xD) (R : xR) (P : xPk) (σ : mS) : Prop := R P.1 4 = some (rf R P.1 4) ∧ stR S D R (rf R P.1 4) (σ 0)
/-- the states kept, those that are free, the one of now: all apart -/
def dstR (D : xD) (R : xR) (b u n : Nat) : Prop := (∀ i j, 0 ≤ i → i < j → j < D b 2 → lE R b i ≠ lE R b j) ∧ (∀ i j, 0 ≤ i → i < j → j < D u 2 → lE R u i ≠ lE R u j) ∧ (∀ i, 0 ≤ i → i < D b 2 → lE R b i ≠ n) ∧ (∀ i, 0 ≤ i → i < D u 2 → lE R u i ≠ n) ∧ ∀ i j, 0 ≤ i → i < D b 2 → 0 ≤ j → j < D u 2 → lE R b i ≠ lE R u j
def behR (S : xS) (D : xD) (R : xR) (P : xPk) (σ : mS) : Prop := D (P.2.1 5) 2 = σ 4 0 ∧ (0 ≤ σ 4 0 ∧ σ 4 0 ≤ 20) ∧ (∀ i, 0 ≤ i → i < σ 4 0 → stR S D R (lE R (P.2.1 5) i) (fun j => σ 3 (1048 * i + j)) ∧ rowOK (fun j => σ 3 (1048 * i + j))) ∧ dstR D R (P.2.1 5) (P.2.1 6) (rf R P.1 4) ∧ (0 ≤ D (P.2.1 6) 2 ∧ D (P.2.1 6) 2 + σ 4 0 ≤ 20)
def samR (S : xS) (D : xD) (R : xR) (P : xPk) (σ : mS) : Prop := D (P.2.1 31) 2 = σ 6 0 ∧ tolOK σ ∧ ∀ k, 0 ≤ k → k < σ 6 0 → D (lE R (P.2.1 31) k) 0 = σ 10 k ∧ lsR S D R (rf R (rf R (lE R (P.2.1 31) k) 1) 1) σ (40 + 8 * k) (σ 9 k)
def penD (D : xD) (P : xPk) (σ : mS) : Prop := (D P.1 1 = σ 12 0 ∧ 0 ≤ σ 12 0 ∧ σ 12 0 ≤ 1600) ∧ (∀ j, 0 ≤ j → j < 1600 → D (P.2.1 0) j = σ 11 j ∧ 0 ≤ σ 11 j ∧ σ 11 j < 256) ∧ (∀ j, 0 ≤ j → j < 6 → D (P.2.1 2) j = σ 13 j) ∧ (D P.1 7 = σ 14 0 ∧ D P.1 8 = σ 15 0) ∧ (D P.1 35 = σ 5 0 ∧ 0 ≤ σ 5 0 ∧ σ 5 0 < 2147483648) ∧ (D P.1 37 = σ 40 0 ∧ 0 ≤ σ 40 0 ∧ σ 40 0 ≤ 202) ∧ ∀ j, 0 ≤ j → j < 202 → D (P.2.1 36) j = σ 39 j
def Rx (E : gE) (Z : Nat → Nat) (S : xS) (D : xD) (R : xR) (P : xPk) (σ : mS) : Prop := GI E Z S D R ∧ penOK Z S R P ∧ KI E Z S D R ∧ rowOK (σ 0) ∧ nowR S D R P σ ∧ behR S D R P σ ∧ (P.2.1 99 = 0 → samR S D R P σ) ∧ penD D P σ
/-- the state of now, its lists, its values -/
def nowF (S : xS) (D : xD) (R : xR) (P : xPk) (σ : mS) (N NI NM NV : Nat) : Prop := (R P.1 4 = some N ∧ (S N).1 = 2) ∧ (R N 0 = some NM ∧ (S NM).1 = 11) ∧ (R N 1 = some NI ∧ (S NI).1 = 10) ∧ (R N 2 = some NV ∧ S NV = (45, 6, N)) ∧ D NI 2 = σ 0 1009 ∧ D NM 2 = σ 0 1000 ∧ D NV 0 = σ 0 1042 ∧ D NV 1 = σ 0 1043 ∧ D NV 2 = σ 0 1044 ∧ D NV 3 = σ 0 1045 ∧ D NV 4 = σ 0 1046 ∧ D NV 5 = σ 0 1047 ∧ N = rf R P.1 4 ∧ NM = rf R N 0 ∧ NI = rf R N 1 ∧ NV = rf R N 2
theorem Rx.now {E : gE} {Z : Nat → Nat} {S : xS} {D : xD} {R : xR} {P : xPk} {σ : mS} (h : Rx E Z S D R P σ) : ∃ N NI NM NV : Nat, nowF S D R P σ N NI NM NV := by
  obtain ⟨hg, hp, -, hr, ⟨h1, h2⟩, -⟩ := h
  obtain ⟨k1, ⟨v0, v1, v2, v3, v4, v5⟩, k3, -, k5, -⟩ := h2
  obtain ⟨t1, t2, -, t4, t5, -, t7, t8⟩ := hg.2.2.1 _ k1
  exact ⟨_, _, _, _, ⟨h1, k1⟩, ⟨t1, t2⟩, ⟨t4, t5⟩, ⟨t7, t8⟩, k3, k5, v0, v1, v2, v3, v4, v5, rfl, rfl, rfl, rfl⟩
/-! lists: their rows, their elements -/
theorem lsOK_b {Z : Nat → Nat} {S : xS} {D : xD} {R : xR} {a : Nat} (h : lsOK Z S D R a) (hk : 10 ≤ (S a).1 ∧ (S a).1 ≤ 17) : ∃ b kb : Nat, R a 1 = some b ∧ b = rf R a 1 ∧ (S b).1 = kb ∧ (20 ≤ kb ∧ kb ≤ 28) ∧ 0 ≤ D a 2 ∧ D a 2 ≤ ((S b).2.1 : Int) ∧ (S b).2.1 ≤ 1000 := by
  refine ⟨_, _, h.1, rfl, rfl, ?_, h.2.1.1, h.2.1.2.1, h.2.1.2.2⟩
  rcases h.2.2.1 with q | q
  · rw [q.1]; omega
  · rw [q.2.1]; omega
theorem lsOK_e {Z : Nat → Nat} {S : xS} {D : xD} {R : xR} {a b : Nat} (h : lsOK Z S D R a) (hb : b = rf R a 1) {i : Int} (hi : 0 ≤ i ∧ i < D a 2) : R b i = some (lE R a i) ∧ (S (lE R a i)).1 = lek (S a).1 := by
  rw [hb]
  exact h.2.2.2 i hi.1 hi.2
