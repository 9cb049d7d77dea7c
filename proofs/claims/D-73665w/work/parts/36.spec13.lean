set_option maxRecDepth 100000
/-! THE PURE WORDS, 13: samples told -/
def tolOK (σ : mS) : Prop := (0 ≤ σ 6 0 ∧ σ 6 0 ≤ 8) ∧ ∀ k, 0 ≤ k → k < σ 6 0 → (1 ≤ σ 9 k ∧ σ 9 k ≤ 8) ∧ (0 ≤ σ 10 k ∧ σ 10 k < 8) ∧ letS σ (40 + 8 * k) (σ 9 k)
theorem tolOK_same {τ σ : mS} (h0 : τ 0 = σ 0) (h6 : τ 6 = σ 6) (h7 : τ 7 = σ 7) (h8 : τ 8 = σ 8) (h9 : τ 9 = σ 9) (h10 : τ 10 = σ 10) (h : tolOK σ) : tolOK τ := by
  rw [tolOK, h6, h9, h10, letS_same h0 h7 h8]
  exact h
def sp_toldAs (σ : mS) (k w : Int) : Int := if (0 ≤ k ∧ k < σ 6 0) ∧ 0 ≤ w ∧ w ≤ 2 then (if w < 2 then (if w = 0 then σ 10 k else σ 9 k) else if 0 ≤ σ 10 k ∧ σ 10 k < σ 0 1000 then plF (scM σ (40 + 8 * k) (σ 9 k)) (σ 10 k) (nMod σ) else -1) else -1
/-- how many values are tried -/
def vlN (which : Int) : Int := if which = 2 then 17 else 41
/-- the score of what was told with a model, by a value in place of one -/
def vlS (σ : mS) (k which m v : Int) : Int := scr σ (40 + 8 * k) (σ 9 k) (fsS m) (mnS σ m) (if which = 2 then v else σ 0 1043) (if which = 0 then v else σ 0 1044) (if which = 1 then v else σ 0 1045)
theorem vlS_same {τ σ : mS} (h0 : τ 0 = σ 0) (h7 : τ 7 = σ 7) (h8 : τ 8 = σ 8) (h9 : τ 9 = σ 9) : vlS τ = vlS σ := by
  funext k which m v
  rw [vlS, vlS, scr_same h0 h7 h8, mnS_same h0, h0, h9]
theorem vlS_r {σ : mS} (hr : rowOK (σ 0)) (ht : tolOK σ) {k which m v : Int} (hk : 0 ≤ k ∧ k < σ 6 0) (hm : 0 ≤ m ∧ m < σ 0 1000) (hv : 0 ≤ v ∧ v < 41) : 0 ≤ vlS σ k which m v ∧ vlS σ k which m v ≤ 1584 := by
  obtain ⟨-, -, h1042, h1043, h1044, h1045, h1046, h1047, -⟩ := id hr
  have a := (ht.2 k hk.1 hk.2).2.2
  have b := letS_of hr (m := m) (Or.inr ⟨hm.1, hm.2⟩)
  rw [vlS]
  exact scr_r h1042 h1047 (by split <;> omega) (by split <;> omega) (by split <;> omega) a b
/-- whether the model of what was told is the first so far; by how much the others' least score is more -/
def rgF (S : Int → Int) (its isM : Int) : Nat → Int × Int
  | 0 => (isM, 100000000)
  | m + 1 => if (m : Int) = its then rgF S its isM m else ((if (rgF S its isM m).1 ≠ 0 ∧ (0 < S m - (if isM = 0 then 0 else S its) ∨ (S m - (if isM = 0 then 0 else S its) = 0 ∧ its < m)) then 1 else 0), min (rgF S its isM m).2 (S m - (if isM = 0 then 0 else S its)))
abbrev isM (σ : mS) (m : Int) : Int := if 0 ≤ m ∧ m < σ 0 1000 then 1 else 0
def rgE (σ : mS) (k which v : Int) : Int × Int := rgF (fun m => vlS σ k which m v) (σ 10 k) (isM σ (σ 10 k)) (nMod σ)
theorem rgF_r {S : Int → Int} {its im : Int} (him : im = 0 ∨ im = 1) {N : Nat} (h : ∀ m : Int, 0 ≤ m → m < N → 0 ≤ S m ∧ S m ≤ 1584) (hi : im = 0 ∨ (0 ≤ its ∧ its < N)) : ∀ k : Nat, k ≤ N → ((rgF S its im k).1 = 0 ∨ (rgF S its im k).1 = 1) ∧ -1584 ≤ (rgF S its im k).2 ∧ (rgF S its im k).2 ≤ 100000000
  | 0, _ => by rw [rgF]; simp only; omega
  | k + 1, hk => by
    have a := rgF_r him h hi k (by omega)
    have b := h k (by omega) (by omega)
    rw [rgF]
    by_cases c : (k : Int) = its
    · rw [if_pos c]; exact a
    · rw [if_neg c]
      simp only
      have d : 0 ≤ (if im = 0 then 0 else S its) ∧ (if im = 0 then 0 else S its) ≤ 1584 := by
        by_cases z : im = 0
        · rw [if_pos z]; omega
        · rw [if_neg z]; exact h its (by omega) (by omega)
      refine ⟨?_, by omega, by omega⟩
      (repeat' split) <;> first | exact Or.inr rfl | exact Or.inl rfl
def dfF (σ : mS) (which v : Int) : Nat → Int
  | 0 => 1
  | k + 1 => if (rgE σ k which v).1 = 0 then 0 else dfF σ which v k
def rbF (σ : mS) (which v : Int) : Nat → Int
  | 0 => 100000000
  | k + 1 => min (rbF σ which v k) (rgE σ k which v).2
def ftF (d : Int → Int) (k : Int) : Nat → Int → Int → Int
  | 0, _, n => if k = -1 then n else -1
  | q + 1, v, n => if d v = 0 then ftF d k q (v + 1) n else if n = k then v else ftF d k q (v + 1) (n + 1)
def sp_fits (σ : mS) (which k : Int) : Int := if (0 ≤ which ∧ which ≤ 2) ∧ ¬ σ 6 0 = 0 ∧ ¬ k < -1 then ftF (fun v => dfF σ which v (σ 6 0).toNat) k (vlN which).toNat 0 0 else -1
def bvF (r : Int → Int) : Nat → Int → Int → Int
  | 0, _, x => x
  | q + 1, v, x => bvF r q (v + 1) (if r x < r v then v else x)
def allM (σ : mS) : Nat → Bool
  | 0 => true
  | k + 1 => allM σ k && decide (0 ≤ σ 10 k ∧ σ 10 k < σ 0 1000)
abbrev isBs (σ : mS) (which w : Int) : Prop := (0 ≤ which ∧ which ≤ 2) ∧ (0 ≤ w ∧ w ≤ 1) ∧ (allM σ (σ 6 0).toNat = true ∧ 0 < σ 6 0 ∧ 1 < σ 0 1000)
def bvE (σ : mS) (which : Int) : Int := bvF (fun v => rbF σ which v (σ 6 0).toNat) (vlN which - 1).toNat 1 0
def sp_best (σ : mS) (which w : Int) : Int := if isBs σ which w then (if w = 0 then bvE σ which else rbF σ which (bvE σ which) (σ 6 0).toNat) else -1000000
theorem rgE_r {σ : mS} (hr : rowOK (σ 0)) (ht : tolOK σ) {k which v : Int} (hk : 0 ≤ k ∧ k < σ 6 0) (hv : 0 ≤ v ∧ v < 41) : ((rgE σ k which v).1 = 0 ∨ (rgE σ k which v).1 = 1) ∧ -1584 ≤ (rgE σ k which v).2 ∧ (rgE σ k which v).2 ≤ 100000000 := by
  have h1000 := hr.1
  have hnm : ((nMod σ : Nat) : Int) = σ 0 1000 := by rw [nMod]; omega
  refine rgF_r (by rw [isM]; split <;> omega) (N := nMod σ) (fun m h0 h1 => vlS_r hr ht hk ⟨h0, by omega⟩ hv) ?_ _ (Nat.le_refl _)
  rw [isM]
  split
  · right; omega
  · exact Or.inl rfl
theorem rbF_r {σ : mS} (hr : rowOK (σ 0)) (ht : tolOK σ) {which v : Int} (hv : 0 ≤ v ∧ v < 41) : ∀ k : Nat, (k : Int) ≤ σ 6 0 → (-1584 ≤ rbF σ which v k ∧ rbF σ which v k ≤ 100000000) ∧ (dfF σ which v k = 0 ∨ dfF σ which v k = 1)
  | 0, _ => by rw [rbF, dfF]; omega
  | k + 1, h => by
    have a := rbF_r hr ht (which := which) hv k (by omega)
    have b := rgE_r hr ht (k := k) (which := which) ⟨by omega, by omega⟩ hv
    rw [rbF, dfF]
    refine ⟨by omega, ?_⟩
    split
    · exact Or.inl rfl
    · exact a.2
theorem allM_at {σ : mS} : ∀ {N : Nat}, allM σ N = true → ∀ {k : Int}, 0 ≤ k → k < N → 0 ≤ σ 10 k ∧ σ 10 k < σ 0 1000
  | 0, _, k, h0, h1 => by omega
  | N + 1, h, k, h0, h1 => by
    rw [allM, Bool.and_eq_true] at h
    by_cases c : k = N
    · subst c; exact of_decide_eq_true h.2
    · exact allM_at h.1 h0 (by omega)
