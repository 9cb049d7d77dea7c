set_option maxRecDepth 100000
/-! THE PURE WORDS, 5: ways, bands -/
def widF (f : Int → Int) (due : Int) : Nat → Int → Int
  | 0, q => q
  | n + 1, q => if f q = due then q else widF f due n (q + 1)
def sp_wide (σ : mS) (a b : Int) : Int := if tol σ a ≠ -1 ∧ tol σ b ≠ -1 then widF (els σ a b 0) (els σ a b 0 16) 16 0 else -1
/-- one step of the way that is gone -/
def nxt (c : Int → Int → Int) (e w : Int) (p : Int × Int) : Int × Int := if rsE c e w (p.1 + 1) (p.2 + 1) = elT c e w p.1 p.2 - c p.1 p.2 then (p.1 + 1, p.2 + 1) else if rsE c e w (p.1 + 1) p.2 = elT c e w p.1 p.2 - c p.1 p.2 then (p.1 + 1, p.2) else (p.1, p.2 + 1)
/-- the way up to place k (or its end): where, how many steps -/
def wayL (c : Int → Int → Int) (e w k : Int) : Nat → Int × Int → Int → (Int × Int) × Int
  | 0, p, n => (p, n)
  | q + 1, p, n => if n ≠ k ∧ ¬ (p.1 = e - 1 ∧ p.2 = e - 1) then wayL c e w k q (nxt c e w p) (n + 1) else (p, n)
theorem wayL_stop {c : Int → Int → Int} {e w k n : Int} {p : Int × Int} (h : ¬ (n ≠ k ∧ ¬ (p.1 = e - 1 ∧ p.2 = e - 1))) : ∀ q, wayL c e w k q p n = (p, n)
  | 0 => rfl
  | q + 1 => by rw [wayL, if_neg h]
def wayE (σ : mS) (a b k : Int) : (Int × Int) × Int := wayL (csd σ a b 0) (σ 0 1042) (σ 0 1043) k 32 (0, 0) 0
def sp_way (σ : mS) (a b k w : Int) : Int := if ¬ (tol σ a ≠ -1 ∧ tol σ b ≠ -1) ∨ k < -1 ∨ (k ≠ -1 ∧ ¬ (0 ≤ w ∧ w ≤ 1)) then -1 else if k = -1 then (wayE σ a b k).2 + 1 else if (wayE σ a b k).2 < k then -1 else if w = 0 then (wayE σ a b k).1.1 else (wayE σ a b k).1.2
theorem elV_fin {c : Int → Int → Int} {w i j on : Int} (h : elV c w i j on < 100000000) : ¬ (w < (if i - j < 0 then -(i - j) else i - j)) ∧ on < 100000000 ∧ elV c w i j on = on + c i j := by
  rw [elV] at h ⊢
  by_cases q : w < (if i - j < 0 then -(i - j) else i - j) ∨ 100000000 ≤ on
  · rw [if_pos q] at h; omega
  · rw [if_neg q]; exact ⟨fun z => q (Or.inl z), by omega, rfl⟩
/-- along the diagonal it costs no more than 4 a place -/
theorem elT_diag {c : Int → Int → Int} {e w : Int} (hc : ∀ i j, 0 ≤ c i j ∧ c i j ≤ 4) (hw : 0 ≤ w) (he : e ≤ 16) : ∀ (u : Nat) (i : Int), i = e - 1 - u → (u : Int) < 16 → elT c e w i i ≤ 4 * (u + 1) := by
  intro u
  induction u with
  | zero =>
    intro i hi _
    rw [elT_eq c e w (by omega) (by omega), if_pos ⟨by omega, by omega⟩, elV, if_neg (by rw [Int.sub_self]; simp; omega)]
    have := hc i i
    omega
  | succ u ih =>
    intro i hi hu
    have h := ih (i + 1) (by omega) (by omega)
    have h2 : rsE c e w (i + 1) (i + 1) = elT c e w (i + 1) (i + 1) := by rw [rsE, if_pos ⟨by omega, by omega⟩]
    rw [elT_eq c e w (by omega) (by omega), if_neg (by omega), elV, if_neg (by rw [Int.sub_self, h2]; simp; omega), h2]
    have := hc i i
    omega
/-- the way goes on within the table -/
theorem nxt_ok {c : Int → Int → Int} {e w : Int} (hc : ∀ i j, 0 ≤ c i j ∧ c i j ≤ 4) {p : Int × Int} (h1 : p.1 < e) (h2 : p.2 < e) (hf : elT c e w p.1 p.2 < 100000000) (hn : ¬ (p.1 = e - 1 ∧ p.2 = e - 1)) : p.1 ≤ (nxt c e w p).1 ∧ p.2 ≤ (nxt c e w p).2 ∧ p.1 + p.2 < (nxt c e w p).1 + (nxt c e w p).2 ∧ (nxt c e w p).1 < e ∧ (nxt c e w p).2 < e ∧ elT c e w (nxt c e w p).1 (nxt c e w p).2 < 100000000 ∧ elT c e w (nxt c e w p).1 (nxt c e w p).2 = elT c e w p.1 p.2 - c p.1 p.2 := by
  have hE := elT_eq c e w h1 h2
  rw [if_neg hn] at hE
  rw [hE] at hf
  obtain ⟨-, k2, k3⟩ := elV_fin hf
  rw [k3] at hE
  have key : ∀ i j : Int, rsE c e w i j < 100000000 → i < e ∧ j < e ∧ rsE c e w i j = elT c e w i j := by
    intro i j h
    rw [rsE] at h ⊢
    by_cases q : i < e ∧ j < e
    · rw [if_pos q]; exact ⟨q.1, q.2, rfl⟩
    · rw [if_neg q] at h; omega
  have hd : elT c e w p.1 p.2 - c p.1 p.2 = min (rsE c e w (p.1 + 1) (p.2 + 1)) (min (rsE c e w (p.1 + 1) p.2) (rsE c e w p.1 (p.2 + 1))) := by omega
  rw [nxt]
  split
  · rename_i q
    have := key (p.1 + 1) (p.2 + 1) (by omega)
    simp only
    omega
  · split
    · rename_i q0 q
      have := key (p.1 + 1) p.2 (by omega)
      simp only
      omega
    · rename_i q0 q
      have := key p.1 (p.2 + 1) (by omega)
      simp only
      omega
theorem wayL_r {c : Int → Int → Int} {e w k : Int} (hc : ∀ i j, 0 ≤ c i j ∧ c i j ≤ 4) : ∀ (q : Nat) (p : Int × Int) (n : Int), 0 ≤ p.1 → 0 ≤ p.2 → p.1 < e → p.2 < e → elT c e w p.1 p.2 < 100000000 → 0 ≤ (wayL c e w k q p n).1.1 ∧ (wayL c e w k q p n).1.1 < e ∧ 0 ≤ (wayL c e w k q p n).1.2 ∧ (wayL c e w k q p n).1.2 < e ∧ n ≤ (wayL c e w k q p n).2 ∧ (wayL c e w k q p n).2 ≤ n + q
  | 0, p, n, h1, h2, h3, h4, _ => by rw [wayL]; simp only; omega
  | q + 1, p, n, h1, h2, h3, h4, h5 => by
    rw [wayL]
    split
    · rename_i z
      have a := nxt_ok hc h3 h4 h5 z.2
      have b := wayL_r (k := k) hc q (nxt c e w p) (n + 1) (by omega) (by omega) a.2.2.2.1 a.2.2.2.2.1 a.2.2.2.2.2.1
      omega
    · simp only; omega
theorem wayE_r {σ : mS} (hr : rowOK (σ 0)) (a b k : Int) : 0 ≤ (wayE σ a b k).1.1 ∧ (wayE σ a b k).1.1 < σ 0 1042 ∧ 0 ≤ (wayE σ a b k).1.2 ∧ (wayE σ a b k).1.2 < σ 0 1042 ∧ 0 ≤ (wayE σ a b k).2 ∧ (wayE σ a b k).2 ≤ 32 := by
  obtain ⟨-, -, h1042, h1043, -⟩ := id hr
  have d := elT_diag (csd_r σ a b 0) (w := σ 0 1043) (e := σ 0 1042) (by omega) (by omega) (σ 0 1042 - 1).toNat 0 (by omega) (by omega)
  have := wayL_r (e := σ 0 1042) (w := σ 0 1043) (k := k) (csd_r σ a b 0) 32 (0, 0) 0 (by simp) (by simp) (by simp only; omega) (by simp only; omega) (by simp only; omega)
  rw [wayE]
  omega
theorem sp_way_r {σ : mS} (hr : rowOK (σ 0)) (a b k w : Int) : -1 ≤ sp_way σ a b k w ∧ sp_way σ a b k w ≤ 33 := by
  have := wayE_r hr a b k
  obtain ⟨-, -, h1042, -⟩ := id hr
  rw [sp_way]
  (repeat' split) <;> omega
def strF (σ : mS) (a b : Int) : Nat → Int
  | 0 => 0
  | k + 1 => max (strF σ a b k) (if sp_way σ a b k 0 - sp_way σ a b k 1 < 0 then -(sp_way σ a b k 0 - sp_way σ a b k 1) else sp_way σ a b k 0 - sp_way σ a b k 1)
theorem strF_r {σ : mS} (hr : rowOK (σ 0)) (a b : Int) : ∀ k, 0 ≤ strF σ a b k ∧ strF σ a b k ≤ 34
  | 0 => by rw [strF]; omega
  | k + 1 => by
    have h := strF_r hr a b k
    have h1 := sp_way_r hr a b k 0
    have h2 := sp_way_r hr a b k 1
    rw [strF]
    split <;> omega
def sp_strays (σ : mS) (a b : Int) : Int := if sp_way σ a b (-1) 0 = -1 then -1 else strF σ a b (sp_way σ a b (-1) 0).toNat
theorem sp_way_same {τ σ : mS} (h0 : τ 0 = σ 0) (h7 : τ 7 = σ 7) (h8 : τ 8 = σ 8) : sp_way τ = sp_way σ := by
  funext a b k w
  rw [sp_way, sp_way, wayE, wayE, tol, tol, tol, tol, csd_same h0 h7 h8, h0]
theorem prd_same {τ σ : mS} (h0 : τ 0 = σ 0) (h7 : τ 7 = σ 7) (h8 : τ 8 = σ 8) : prd τ = prd σ := by
  funext a b
  rw [prd, prd, els_same h0 h7 h8, h0]
