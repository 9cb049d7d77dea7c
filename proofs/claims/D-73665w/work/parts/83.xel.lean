set_option maxRecDepth 100000
/-! ELASTIC, as the component reckons it: 100000 for what is too far -/
def fa (v : Int) : Int := if 100000000 ≤ v then 100000 else v
/-- a number of the table: far, or small -/
def eok (v : Int) : Prop := 100000000 ≤ v ∨ (0 ≤ v ∧ v ≤ 300)
theorem elR_fin {c : Int → Int → Int} {e w : Int} (hc : ∀ i j, 0 ≤ c i j ∧ c i j ≤ 4) : ∀ (n u v : Nat), u + v ≤ n → 100000000 ≤ elR c e w u v ∨ (0 ≤ elR c e w u v ∧ elR c e w u v ≤ 4 * ((u : Int) + v + 1)) := by
  have key : ∀ (i j on B : Int), (100000000 ≤ on ∨ (0 ≤ on ∧ on ≤ B)) → 100000000 ≤ elV c w i j on ∨ (0 ≤ elV c w i j on ∧ elV c w i j on ≤ B + 4) := by
    intro i j on B h
    have := hc i j
    by_cases h2 : w < (if i - j < 0 then -(i - j) else i - j) ∨ 100000000 ≤ on
    · left; rw [elV, if_pos h2]; omega
    · right; rw [elV, if_neg h2]; omega
  intro n
  induction n with
  | zero =>
    intro u v h
    have hu : u = 0 := by omega
    have hv : v = 0 := by omega
    subst hu hv
    rw [elR]
    have := key (e - 1) (e - 1) 0 0 (Or.inr (by omega))
    omega
  | succ n ih =>
    intro u v h
    cases u with
    | zero =>
      cases v with
      | zero =>
        rw [elR]
        have := key (e - 1) (e - 1) 0 0 (Or.inr (by omega))
        omega
      | succ v =>
        rw [elR]
        have a := ih 0 v (by omega)
        have := key (e - 1) (e - 1 - (v + 1 : Nat)) (min 100000000 (min 100000000 (elR c e w 0 v))) (4 * ((0 : Int) + v + 1)) (by omega)
        omega
    | succ u =>
      cases v with
      | zero =>
        rw [elR]
        have a := ih u 0 (by omega)
        have := key (e - 1 - (u + 1 : Nat)) (e - 1) (min 100000000 (min (elR c e w u 0) 100000000)) (4 * ((u : Int) + 0 + 1)) (by omega)
        omega
      | succ v =>
        rw [elR]
        have a := ih u v (by omega)
        have b := ih u (v + 1) (by omega)
        have d := ih (u + 1) v (by omega)
        have := key (e - 1 - (u + 1 : Nat)) (e - 1 - (v + 1 : Nat)) (min (elR c e w u v) (min (elR c e w u (v + 1)) (elR c e w (u + 1) v))) (4 * ((u : Int) + 1 + v + 1)) (by omega)
        omega
theorem elT_ok {c : Int → Int → Int} {e w : Int} (hc : ∀ i j, 0 ≤ c i j ∧ c i j ≤ 4) (he : e ≤ 16) {i j : Int} (hi : 0 ≤ i) (hj : 0 ≤ j) : eok (elT c e w i j) := by
  have := elR_fin (e := e) (w := w) hc _ (e - 1 - i).toNat (e - 1 - j).toNat (Nat.le_refl _)
  rw [eok, elT]
  omega
theorem fa_r {v : Int} (h : eok v) : 0 ≤ fa v ∧ fa v ≤ 100000 := by
  rw [fa]; rw [eok] at h; split <;> omega
/-- the stages of one place -/
def el0 (e i j : Int) : Int := if i = e - 1 ∧ j = e - 1 then 0 else 100000
def el1 (c : Int → Int → Int) (e w i j : Int) : Int := if i < e - 1 ∧ j < e - 1 then fa (elT c e w (i + 1) (j + 1)) else el0 e i j
def el2 (c : Int → Int → Int) (e w i j : Int) : Int := if i < e - 1 then min (el1 c e w i j) (fa (elT c e w (i + 1) j)) else el1 c e w i j
def el3 (c : Int → Int → Int) (e w i j : Int) : Int := if j < e - 1 then min (el2 c e w i j) (fa (elT c e w i (j + 1))) else el2 c e w i j
theorem el_r {c : Int → Int → Int} {e w i j : Int} (hc : ∀ i j, 0 ≤ c i j ∧ c i j ≤ 4) (he : e ≤ 16) (hi : 0 ≤ i ∧ i < e) (hj : 0 ≤ j ∧ j < e) : (0 ≤ el0 e i j ∧ el0 e i j ≤ 100000) ∧ (0 ≤ el1 c e w i j ∧ el1 c e w i j ≤ 100000) ∧ (0 ≤ el2 c e w i j ∧ el2 c e w i j ≤ 100000) ∧ (0 ≤ el3 c e w i j ∧ el3 c e w i j ≤ 100000) := by
  have a := fa_r (elT_ok (w := w) hc he (i := i + 1) (j := j + 1) (by omega) (by omega))
  have b := fa_r (elT_ok (w := w) hc he (i := i + 1) (j := j) (by omega) (by omega))
  have d := fa_r (elT_ok (w := w) hc he (i := i) (j := j + 1) (by omega) (by omega))
  have h0 : 0 ≤ el0 e i j ∧ el0 e i j ≤ 100000 := by rw [el0]; split <;> omega
  have h1 : 0 ≤ el1 c e w i j ∧ el1 c e w i j ≤ 100000 := by rw [el1]; split <;> omega
  have h2 : 0 ≤ el2 c e w i j ∧ el2 c e w i j ≤ 100000 := by rw [el2]; split <;> omega
  have h3 : 0 ≤ el3 c e w i j ∧ el3 c e w i j ≤ 100000 := by rw [el3]; split <;> omega
  exact ⟨h0, h1, h2, h3⟩
theorem fa_c {v : Int} (h : eok v) : (100000000 ≤ v ∧ fa v = 100000) ∨ (0 ≤ v ∧ v ≤ 300 ∧ fa v = v) := by
  rcases h with h | h
  · left; exact ⟨h, by rw [fa, if_pos h]⟩
  · right; exact ⟨h.1, h.2, by rw [fa, if_neg (by omega)]⟩
theorem el_end {c : Int → Int → Int} {e w i j : Int} (hc : ∀ i j, 0 ≤ c i j ∧ c i j ≤ 4) (he : e ≤ 16) (hi : 0 ≤ i ∧ i < e) (hj : 0 ≤ j ∧ j < e) : (if w < (if i - j < 0 then -(i - j) else i - j) then 100000 else min 100000 (el3 c e w i j + c i j)) = fa (elT c e w i j) := by
  have h9 := hc i j
  have a := fa_c (elT_ok (w := w) hc he (i := i + 1) (j := j + 1) (by omega) (by omega))
  have b := fa_c (elT_ok (w := w) hc he (i := i + 1) (j := j) (by omega) (by omega))
  have d := fa_c (elT_ok (w := w) hc he (i := i) (j := j + 1) (by omega) (by omega))
  rw [elT_eq c e w hi.2 hj.2]
  obtain ⟨on, ho⟩ : ∃ z : Int, z = (if i = e - 1 ∧ j = e - 1 then 0 else min (rsE c e w (i + 1) (j + 1)) (min (rsE c e w (i + 1) j) (rsE c e w i (j + 1)))) := ⟨_, rfl⟩
  rw [← ho]
  have key : (100000000 ≤ on ∧ el3 c e w i j = 100000) ∨ (0 ≤ on ∧ on ≤ 300 ∧ el3 c e w i j = on) := by
    by_cases h1 : i = e - 1
    · by_cases h2 : j = e - 1
      · rw [if_pos ⟨h1, h2⟩] at ho
        have e3 : el3 c e w i j = 0 := by rw [el3, if_neg (by omega), el2, if_neg (by omega), el1, if_neg (by omega), el0, if_pos ⟨h1, h2⟩]
        omega
      · have r1 : rsE c e w (i + 1) (j + 1) = 100000000 := by rw [rsE, if_neg (by omega)]
        have r2 : rsE c e w (i + 1) j = 100000000 := by rw [rsE, if_neg (by omega)]
        have r3 : rsE c e w i (j + 1) = elT c e w i (j + 1) := by rw [rsE, if_pos (by omega)]
        rw [if_neg (by omega), r1, r2, r3] at ho
        have e3 : el3 c e w i j = min 100000 (fa (elT c e w i (j + 1))) := by rw [el3, if_pos (by omega), el2, if_neg (by omega), el1, if_neg (by omega), el0, if_neg (by omega)]
        omega
    · by_cases h2 : j = e - 1
      · have r1 : rsE c e w (i + 1) (j + 1) = 100000000 := by rw [rsE, if_neg (by omega)]
        have r2 : rsE c e w (i + 1) j = elT c e w (i + 1) j := by rw [rsE, if_pos (by omega)]
        have r3 : rsE c e w i (j + 1) = 100000000 := by rw [rsE, if_neg (by omega)]
        rw [if_neg (by omega), r1, r2, r3] at ho
        have e3 : el3 c e w i j = min 100000 (fa (elT c e w (i + 1) j)) := by rw [el3, if_neg (by omega), el2, if_pos (by omega), el1, if_neg (by omega), el0, if_neg (by omega)]
        omega
      · have r1 : rsE c e w (i + 1) (j + 1) = elT c e w (i + 1) (j + 1) := by rw [rsE, if_pos (by omega)]
        have r2 : rsE c e w (i + 1) j = elT c e w (i + 1) j := by rw [rsE, if_pos (by omega)]
        have r3 : rsE c e w i (j + 1) = elT c e w i (j + 1) := by rw [rsE, if_pos (by omega)]
        rw [if_neg (by omega), r1, r2, r3] at ho
        have e3 : el3 c e w i j = min (min (fa (elT c e w (i + 1) (j + 1))) (fa (elT c e w (i + 1) j))) (fa (elT c e w i (j + 1))) := by rw [el3, if_pos (by omega), el2, if_pos (by omega), el1, if_pos (by omega)]
        omega
  rw [elV]
  by_cases hw : w < (if i - j < 0 then -(i - j) else i - j)
  · rw [if_pos hw, if_pos (Or.inl hw)]
    rfl
  · rw [if_neg hw]
    by_cases h2 : 100000000 ≤ on
    · rw [if_pos (Or.inr h2), show fa 100000000 = 100000 from rfl]
      omega
    · rw [if_neg (fun z => z.elim hw h2), fa, if_neg (by omega)]
      omega
theorem ks_43_44 {k : Nat} (h : 43 ≤ k ∧ k ≤ 44) : k ≠ 0 ∧ kty k = 0 := by
  rcases (show k = 43 ∨ k = 44 by omega) with rfl | rfl <;> decide
theorem els_fa {σ : mS} (he : 4 ≤ σ 0 1042 ∧ σ 0 1042 ≤ 16) {a b k w : Int} (hw : 0 ≤ w) : fa (elT (csd σ a b k) (σ 0 1042) w 0 0) = els σ a b k w := by
  have h : 0 ≤ els σ a b k w ∧ els σ a b k w ≤ 64 := els_64 he a b k hw
  show fa (els σ a b k w) = _
  rw [fa, if_neg (by omega)]
/-- the stroke told as one number -/
def tolA (R : xR) (N : Nat) (n : Int) : Nat := if n < 8 then lE R (lsA R N (-1)) n else lE R (lsA R N ((n - 8) / 4)) (n % 4)
theorem tol_lo {σ : mS} {n : Int} (h : 0 ≤ n ∧ n < 8) : stO σ (-1) n = -1 ↔ tol σ n = -1 := by
  rw [stO, tol, if_pos (show 0 ≤ n ∧ n ≤ 7 by omega), mnS, if_pos rfl, fsS, if_pos rfl]
  by_cases c : n < σ 0 1009
  · rw [if_pos ⟨Or.inl rfl, h.1, c⟩, if_pos c]; omega
  · rw [if_neg (fun z => c z.2.2), if_neg c]
theorem tol_hi {σ : mS} {n : Int} (h : 8 ≤ n) : stO σ ((n - 8) / 4) (n % 4) = -1 ↔ tol σ n = -1 := by
  have e : (n - 8) / 4 = n / 4 - 2 := by omega
  have e1 : mnS σ ((n - 8) / 4) = σ 0 (1001 + (n / 4 - 2)) := by rw [mnS, if_neg (by omega), e]
  have e2 : fsS ((n - 8) / 4) = 8 + 4 * (n / 4 - 2) := by rw [fsS, if_neg (by omega), e]
  rw [stO, e1, e2, e, tol, if_neg (show ¬ (0 ≤ n ∧ n ≤ 7) by omega)]
  by_cases c : n / 4 - 2 < σ 0 1000 ∧ n % 4 < σ 0 (1001 + (n / 4 - 2))
  · rw [if_pos ⟨Or.inr ⟨by omega, c.1⟩, by omega, c.2⟩, if_pos ⟨h, c⟩]; omega
  · rw [if_neg (fun z => c ⟨by have := z.1; omega, z.2.2⟩), if_neg (fun z => c z.2)]
