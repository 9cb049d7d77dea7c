set_option maxRecDepth 100000
/-! THE PURE WORDS, 2: rows, roots, pieces, samples, codes -/
theorem mul_b {a b A B : Int} (h1 : -A ≤ a) (h2 : a ≤ A) (h3 : -B ≤ b) (h4 : b ≤ B) : -(A * B) ≤ a * b ∧ a * b ≤ A * B := by
  have hA : 0 ≤ A := by omega
  have hB : 0 ≤ B := by omega
  have e1 : (a * b).natAbs ≤ A.natAbs * B.natAbs := by
    rw [Int.natAbs_mul]
    exact Nat.mul_le_mul (by omega) (by omega)
  have e2 : (A * B).natAbs = A.natAbs * B.natAbs := Int.natAbs_mul A B
  have e3 : 0 ≤ A * B := Int.mul_nonneg hA hB
  omega
theorem sq_b {x A : Int} (h1 : -A ≤ x) (h2 : x ≤ A) : 0 ≤ x * x ∧ x * x ≤ A * A := ⟨by rcases Int.le_total 0 x with q | q; exact Int.mul_nonneg q q; exact Int.mul_nonneg_of_nonpos_of_nonpos q q, (mul_b h1 h2 h1 h2).2⟩
theorem sq_lt {x y : Int} (hx : 0 ≤ x) (h : x * x < y * y) (hy : 0 ≤ y) : x < y := by
  by_cases q : x < y
  · exact q
  · have q : y ≤ x := by omega
    have := Int.mul_le_mul q q hy hx
    omega
def isqN (v : Nat) : Nat → Nat
  | 0 => 0
  | n + 1 => if (n + 1) * (n + 1) ≤ v then n + 1 else isqN v n
theorem isqN_le (v n : Nat) : isqN v n ≤ n := by
  induction n with
  | zero => simp [isqN]
  | succ n ih => rw [isqN]; split <;> omega
theorem isqN_sq (v n : Nat) : isqN v n * isqN v n ≤ v := by
  induction n with
  | zero => simp [isqN]
  | succ n ih => rw [isqN]; split <;> assumption
theorem isqN_max (v n m : Nat) (h : m ≤ n) (hm : m * m ≤ v) : m ≤ isqN v n := by
  induction n with
  | zero => omega
  | succ n ih =>
    rw [isqN]
    split
    · exact h
    · rename_i q
      rcases Nat.lt_or_ge m (n + 1) with z | z
      · exact ih (by omega)
      · have : m = n + 1 := by omega
        subst this
        exact absurd hm q
/-- the greatest whole number (to 20000) of which the square is no more -/
def isq (v : Int) : Int := (isqN v.toNat 20000 : Nat)
theorem isq_0 (v : Int) : 0 ≤ isq v := by rw [isq]; omega
theorem isq_eq {v r : Int} (h0 : 0 ≤ r) (hr : r ≤ 20000) (h1 : r * r ≤ v) (h2 : v < (r + 1) * (r + 1)) : r = isq v := by
  obtain ⟨m, rfl⟩ := Int.eq_ofNat_of_zero_le h0
  have hv : 0 ≤ v := Int.le_trans (sq_b (A := (m : Int)) (by omega) (by omega)).1 h1
  obtain ⟨w, rfl⟩ := Int.eq_ofNat_of_zero_le hv
  have h1' : m * m ≤ w := by exact_mod_cast h1
  have h2' : w < (m + 1) * (m + 1) := by exact_mod_cast h2
  rw [isq]
  have e : ((w : Int)).toNat = w := rfl
  rw [e]
  have a1 := isqN_max w 20000 m (by omega) h1'
  have a2 := isqN_sq w 20000
  have a3 : isqN w 20000 ≤ m := by
    rcases Nat.lt_or_ge m (isqN w 20000) with q | q
    · have := Nat.mul_le_mul (show m + 1 ≤ isqN w 20000 from q) (show m + 1 ≤ isqN w 20000 from q)
      omega
    · exact q
  omega
theorem isq_sq {v : Int} (hv : 0 ≤ v) : isq v * isq v ≤ v := by
  obtain ⟨w, rfl⟩ := Int.eq_ofNat_of_zero_le hv
  rw [isq]
  have := isqN_sq w 20000
  have e : ((w : Int)).toNat = w := rfl
  rw [e]
  exact_mod_cast this
/-- a piece's length: of the numbers f from point k to the next -/
def pcs (f : Int → Int) (k : Int) : Int := isq (10000 * ((f (2 * (k + 1) + 0) - f (2 * k + 0)) * (f (2 * (k + 1) + 0) - f (2 * k + 0)) + (f (2 * (k + 1) + 1) - f (2 * k + 1)) * (f (2 * (k + 1) + 1) - f (2 * k + 1))))
/-- a stroke: 2 to 12 points, numbers 0 to 99 -/
def skOK (n : Int) (f : Int → Int) : Prop := 2 ≤ n ∧ n ≤ 12 ∧ ∀ j, 0 ≤ j → j < 2 * n → 0 ≤ f j ∧ f j ≤ 99
theorem skOK.pt {n : Int} {f : Int → Int} (h : skOK n f) {j : Int} (h0 : 0 ≤ j) (h1 : j < 2 * n) : 0 ≤ f j ∧ f j ≤ 99 := h.2.2 j h0 h1
theorem pcs_arg {n : Int} {f : Int → Int} (h : skOK n f) {k : Int} (h0 : 0 ≤ k) (h1 : k + 1 < n) : 0 ≤ (f (2 * (k + 1) + 0) - f (2 * k + 0)) * (f (2 * (k + 1) + 0) - f (2 * k + 0)) ∧ (f (2 * (k + 1) + 0) - f (2 * k + 0)) * (f (2 * (k + 1) + 0) - f (2 * k + 0)) ≤ 9801 ∧ 0 ≤ (f (2 * (k + 1) + 1) - f (2 * k + 1)) * (f (2 * (k + 1) + 1) - f (2 * k + 1)) ∧ (f (2 * (k + 1) + 1) - f (2 * k + 1)) * (f (2 * (k + 1) + 1) - f (2 * k + 1)) ≤ 9801 := by
  have a := h.pt (j := 2 * (k + 1) + 0) (by omega) (by omega)
  have b := h.pt (j := 2 * k + 0) (by omega) (by omega)
  have c := h.pt (j := 2 * (k + 1) + 1) (by omega) (by omega)
  have d := h.pt (j := 2 * k + 1) (by omega) (by omega)
  have e1 := sq_b (x := f (2 * (k + 1) + 0) - f (2 * k + 0)) (A := 99) (by omega) (by omega)
  have e2 := sq_b (x := f (2 * (k + 1) + 1) - f (2 * k + 1)) (A := 99) (by omega) (by omega)
  omega
theorem pcs_r {n : Int} {f : Int → Int} (h : skOK n f) {k : Int} (h0 : 0 ≤ k) (h1 : k + 1 < n) : 0 ≤ pcs f k ∧ pcs f k ≤ 14000 := by
  have a := pcs_arg h h0 h1
  refine ⟨isq_0 _, ?_⟩
  have b := isq_sq (v := 10000 * ((f (2 * (k + 1) + 0) - f (2 * k + 0)) * (f (2 * (k + 1) + 0) - f (2 * k + 0)) + (f (2 * (k + 1) + 1) - f (2 * k + 1)) * (f (2 * (k + 1) + 1) - f (2 * k + 1)))) (by omega)
  have c : pcs f k * pcs f k < 14001 * 14001 := by
    rw [pcs]
    omega
  have := sq_lt (x := pcs f k) (isq_0 _) c (by decide)
  omega
def lenF (f : Int → Int) : Nat → Int
  | 0 => 0
  | k + 1 => lenF f k + pcs f k
theorem lenF_r {n : Int} {f : Int → Int} (h : skOK n f) : ∀ k : Nat, (k : Int) < n → 0 ≤ lenF f k ∧ lenF f k ≤ 14000 * k := by
  intro k
  induction k with
  | zero => intro _; simp [lenF]
  | succ k ih =>
    intro hk
    have a := ih (by omega)
    have b := pcs_r h (k := k) (by omega) (by omega)
    rw [lenF]
    omega
theorem lenF_mono {n : Int} {f : Int → Int} (h : skOK n f) (k : Nat) : ∀ m : Nat, ((k + m : Nat) : Int) < n → lenF f k ≤ lenF f (k + m) := by
  intro m
  induction m with
  | zero => intro _; exact Int.le_refl _
  | succ m ih =>
    intro hk
    have a := ih (by omega)
    have b := pcs_r h (k := (k + m : Nat)) (by omega) (by omega)
    rw [← Nat.add_assoc, lenF]
    omega
/-- the length of a stroke of n points -/
def lnS (n : Int) (f : Int → Int) : Int := lenF f (n - 1).toNat
theorem lnS_r {n : Int} {f : Int → Int} (h : skOK n f) : 0 ≤ lnS n f ∧ lnS n f ≤ 154000 := by
  have := lenF_r h (n - 1).toNat (by have := h.1; omega)
  have h1 := h.1
  have h2 := h.2.1
  rw [lnS]
  omega
/-- from piece p on, l of the way: which piece, how far in it -/
def smP (f : Int → Int) : Nat → Int → Int → Int × Int
  | 0, p, l => (p, l)
  | n + 1, p, l => if pcs f p < l then smP f n (p + 1) (l - pcs f p) else (p, l)
theorem smP_stop {f : Int → Int} {p l : Int} (h : l ≤ pcs f p) : ∀ n, smP f n p l = (p, l)
  | 0 => rfl
  | n + 1 => by rw [smP, if_neg (by omega)]
def smV (f : Int → Int) (ax : Int) (q : Int × Int) : Int := 100 * f (2 * q.1 + ax) + (if pcs f q.1 = 0 then 0 else (100 * (f (2 * (q.1 + 1) + ax) - f (2 * q.1 + ax)) * q.2).tdiv (pcs f q.1))
def smQ (n : Int) (f : Int → Int) (e k : Int) : Int × Int := smP f (n - 2).toNat 0 (k * lnS n f / e)
/-- a number of a sample, in hundredths -/
def smp (n : Int) (f : Int → Int) (e k ax : Int) : Int := smV f ax (smQ n f e k)
theorem smL_r {n : Int} {f : Int → Int} (h : skOK n f) {e k : Int} (he : 4 ≤ e ∧ e ≤ 16) (hk : 0 ≤ k ∧ k ≤ e) : 0 ≤ k * lnS n f ∧ k * lnS n f ≤ 16 * 154000 ∧ 0 ≤ k * lnS n f / e ∧ k * lnS n f / e ≤ lnS n f := by
  have a := lnS_r h
  have b := mul_b (a := k) (b := lnS n f) (A := 16) (B := 154000) (by omega) (by omega) (by omega) (by omega)
  have c : 0 ≤ k * lnS n f := Int.mul_nonneg hk.1 a.1
  refine ⟨c, b.2, Int.ediv_nonneg c (by omega), ?_⟩
  have d : k * lnS n f ≤ e * lnS n f := Int.mul_le_mul_of_nonneg_right hk.2 a.1
  calc k * lnS n f / e ≤ (e * lnS n f) / e := Int.ediv_le_ediv (by omega) d
    _ = lnS n f := Int.mul_ediv_cancel_left _ (by omega)
theorem smP_r {n : Int} {f : Int → Int} (h : skOK n f) : ∀ (q : Nat) (p l : Int), 0 ≤ p → p + q = n - 2 → 0 ≤ l → l ≤ lnS n f - lenF f p.toNat → 0 ≤ (smP f q p l).1 ∧ (smP f q p l).1 ≤ n - 2 ∧ 0 ≤ (smP f q p l).2 ∧ (smP f q p l).2 ≤ pcs f (smP f q p l).1
  | 0, p, l, h0, h1, h2, h3 => by
    rw [smP]
    refine ⟨h0, by omega, h2, ?_⟩
    have e : (n - 1).toNat = p.toNat + 1 := by omega
    rw [lnS, e, lenF] at h3
    have e2 : ((p.toNat : Nat) : Int) = p := by omega
    rw [e2] at h3
    simp only
    omega
  | q + 1, p, l, h0, h1, h2, h3 => by
    rw [smP]
    split
    · rename_i c
      refine smP_r h q (p + 1) (l - pcs f p) (by omega) (by omega) (by omega) ?_
      have e : (p + 1).toNat = p.toNat + 1 := by omega
      have e2 : ((p.toNat : Nat) : Int) = p := by omega
      rw [e, lenF, e2]
      omega
    · exact ⟨h0, by simp only; omega, h2, by simp only; omega⟩
theorem smQ_r {n : Int} {f : Int → Int} (h : skOK n f) {e k : Int} (he : 4 ≤ e ∧ e ≤ 16) (hk : 0 ≤ k ∧ k ≤ e) : 0 ≤ (smQ n f e k).1 ∧ (smQ n f e k).1 ≤ n - 2 ∧ 0 ≤ (smQ n f e k).2 ∧ (smQ n f e k).2 ≤ pcs f (smQ n f e k).1 := by
  have a := smL_r h he hk
  have h1 := h.1
  refine smP_r h (n - 2).toNat 0 _ (by omega) (by omega) a.2.2.1 ?_
  have : lenF f (0 : Int).toNat = 0 := rfl
  omega
theorem tdiv_b {b l c : Int} (B : Int) (hl : 0 ≤ l) (hlc : l ≤ c) (hc : 0 < c) (h1 : -B ≤ b) (h2 : b ≤ B) : -B ≤ (b * l).tdiv c ∧ (b * l).tdiv c ≤ B := by
  have hB : 0 ≤ B := by omega
  have e1 : ((b * l).tdiv c).natAbs = (b * l).natAbs / c.natAbs := Int.natAbs_tdiv _ _
  have e2 : (b * l).natAbs ≤ B.natAbs * c.natAbs := by
    rw [Int.natAbs_mul]
    exact Nat.mul_le_mul (by omega) (by omega)
  have e3 : (b * l).natAbs / c.natAbs ≤ B.natAbs := by
    calc (b * l).natAbs / c.natAbs ≤ (B.natAbs * c.natAbs) / c.natAbs := Nat.div_le_div_right e2
      _ = B.natAbs := Nat.mul_div_cancel _ (by omega)
  omega
theorem smV_r {n : Int} {f : Int → Int} (h : skOK n f) {ax : Int} (hax : ax = 0 ∨ ax = 1) {q : Int × Int} (h0 : 0 ≤ q.1) (h1 : q.1 ≤ n - 2) (h2 : 0 ≤ q.2) (h3 : q.2 ≤ pcs f q.1) : -9900 ≤ smV f ax q ∧ smV f ax q ≤ 19800 := by
  have a := h.pt (j := 2 * q.1 + ax) (by omega) (by omega)
  have b := h.pt (j := 2 * (q.1 + 1) + ax) (by omega) (by omega)
  rw [smV]
  split
  · omega
  · have c := pcs_r h h0 (by omega)
    have d := tdiv_b (b := 100 * (f (2 * (q.1 + 1) + ax) - f (2 * q.1 + ax))) (l := q.2) (c := pcs f q.1) 9900 h2 h3 (by omega) (by omega) (by omega)
    omega
theorem smp_r {n : Int} {f : Int → Int} (h : skOK n f) {e k ax : Int} (he : 4 ≤ e ∧ e ≤ 16) (hk : 0 ≤ k ∧ k ≤ e) (hax : ax = 0 ∨ ax = 1) : -9900 ≤ smp n f e k ax ∧ smp n f e k ax ≤ 19800 := by
  have a := smQ_r h he hk
  exact smV_r h hax a.1 a.2.1 a.2.2.1 a.2.2.2
/-- the code of a way from sample to sample; the last one's, if it doesn't move -/
def cdv (dx dy last : Int) : Int := if dx = 0 ∧ dy = 0 then last else if 70 * (if dy < 0 then -dy else dy) ≤ 29 * (if dx < 0 then -dx else dx) then (if 0 < dx then 0 else 4) else if 70 * (if dx < 0 then -dx else dx) ≤ 29 * (if dy < 0 then -dy else dy) then (if 0 < dy then 2 else 6) else if 0 < dy then (if 0 < dx then 1 else 3) else (if dx < 0 then 5 else 7)
def cdL (n : Int) (f : Int → Int) (e : Int) : Nat → Int
  | 0 => 0
  | k + 1 => cdv (smp n f e ((k : Int) + 1) 0 - smp n f e k 0) (smp n f e ((k : Int) + 1) 1 - smp n f e k 1) (cdL n f e k)
theorem cdv_r {dx dy last : Int} (h : 0 ≤ last ∧ last ≤ 7) : 0 ≤ cdv dx dy last ∧ cdv dx dy last ≤ 7 := by
  rw [cdv]
  repeat' split
  all_goals omega
theorem cdL_r (n : Int) (f : Int → Int) (e : Int) : ∀ k, 0 ≤ cdL n f e k ∧ cdL n f e k ≤ 7
  | 0 => by rw [cdL]; omega
  | k + 1 => by rw [cdL]; exact cdv_r (cdL_r n f e k)
/-- the code at place k -/
def cdk (n : Int) (f : Int → Int) (e k : Int) : Int := cdL n f e (k + 1).toNat
theorem cdk_r (n : Int) (f : Int → Int) (e k : Int) : 0 ≤ cdk n f e k ∧ cdk n f e k ≤ 7 := cdL_r _ _ _ _
/-- how far two codes are apart -/
def apt (a b : Int) : Int := min (if a - b < 0 then -(a - b) else a - b) (8 - (if a - b < 0 then -(a - b) else a - b))
/-- a row of state: what always holds of it -/
def rowOK (r : Int → Int) : Prop := (0 ≤ r 1000 ∧ r 1000 ≤ 8) ∧ (0 ≤ r 1009 ∧ r 1009 ≤ 8) ∧ (4 ≤ r 1042 ∧ r 1042 ≤ 16) ∧ (0 ≤ r 1043 ∧ r 1043 ≤ 16) ∧ (0 ≤ r 1044 ∧ r 1044 ≤ 99) ∧ (0 ≤ r 1045 ∧ r 1045 ≤ 99) ∧ (0 ≤ r 1046 ∧ r 1046 ≤ 99) ∧ (0 ≤ r 1047 ∧ r 1047 ≤ 20) ∧ (∀ m, 0 ≤ m → m < r 1000 → 0 ≤ r (1001 + m) ∧ r (1001 + m) ≤ 4) ∧ (∀ s, 0 ≤ s → s < r 1009 → skOK (r (960 + s)) (fun j => r (24 * s + j))) ∧ (∀ m s, 0 ≤ m → m < r 1000 → 0 ≤ s → s < r (1001 + m) → skOK (r (960 + (8 + 4 * m + s))) (fun j => r (24 * (8 + 4 * m + s) + j))) ∧ (∀ m i, 0 ≤ m → m < r 1000 → 0 ≤ i → i < 4 → 0 ≤ r (1010 + 4 * m + i) ∧ r (1010 + 4 * m + i) ≤ 26)
theorem np_lo {σ : mS} {s : Int} (h : s < 40) : np σ s = σ 0 (960 + s) := by rw [np, if_pos h]
theorem nu_lo {σ : mS} {s : Int} (h : s < 40) : nu σ s = fun j => σ 0 (24 * s + j) := by funext j; rw [nu, if_pos h]
theorem np_same {τ σ : mS} (h0 : τ 0 = σ 0) (h8 : τ 8 = σ 8) : np τ = np σ := by funext s; rw [np, np, h0, h8]
theorem nu_same {τ σ : mS} (h0 : τ 0 = σ 0) (h7 : τ 7 = σ 7) : nu τ = nu σ := by funext s j; rw [nu, nu, h0, h7]
