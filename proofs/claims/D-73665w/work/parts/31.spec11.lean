set_option maxRecDepth 100000
/-! THE PURE WORDS, 11: a stroke lifted -/
/-- strokes k .. s-1 are overwritten by the next ones, of stroke s the first i numbers (and, if c, how many) -/
def lifP (r : Int → Int) (k s i c : Int) : Int → Int := fun j => if 24 * k ≤ j ∧ j < 24 * s + i then r (j + 24) else if 960 + k ≤ j ∧ j < 960 + s + c then r (j + 1) else r j
def lifF (r : Int → Int) (k : Int) : Int → Int := fun j => if j = 1009 then r 1009 - 1 else lifP r k (r 1009 - 1) 0 0 j
def lifS (σ : mS) (k : Int) : mS := fun f j => if f = 0 then lifF (σ 0) k j else σ f j
theorem lifS_0 (σ : mS) (k : Int) : lifS σ k 0 = lifF (σ 0) k := by funext j; simp [lifS]
theorem lifS_n (σ : mS) (k : Int) {f : Nat} (h : f ≠ 0) : lifS σ k f = σ f := by funext j; simp [lifS, h]
theorem lifF_hi {r : Int → Int} {k j : Int} (hk : 0 ≤ k) (hi : r 1009 ≤ 8) (h : 192 ≤ j ∧ j < 960 ∨ 968 ≤ j) (hn : j ≠ 1009) : lifF r k j = r j := by
  rw [lifF, if_neg hn, lifP, if_neg (by omega), if_neg (by omega)]
theorem lifF_pt {r : Int → Int} {k s : Int} (hk : 0 ≤ k) (hi : r 1009 ≤ 8) (hs : 0 ≤ s ∧ s < r 1009 - 1) : lifF r k (960 + s) = r (960 + (if s < k then s else s + 1)) ∧ ∀ j, 0 ≤ j → j < 24 → lifF r k (24 * s + j) = r (24 * (if s < k then s else s + 1) + j) := by
  refine ⟨?_, fun j h0 h1 => ?_⟩
  · rw [lifF, if_neg (by omega), lifP, if_neg (by omega)]
    by_cases c : s < k
    · rw [if_neg (by omega), if_pos c]
    · rw [if_pos (by omega), if_neg c]; congr 1; omega
  · rw [lifF, if_neg (by omega), lifP]
    by_cases c : s < k
    · rw [if_neg (by omega), if_neg (by omega), if_pos c]
    · rw [if_pos (by omega), if_neg c]; congr 1; omega
theorem rowOK_lif {r : Int → Int} (h : rowOK r) {k : Int} (h0 : 0 ≤ k) (h1 : k < r 1009) : rowOK (lifF r k) ∧ lifF r k 1009 = r 1009 - 1 ∧ lifF r k 1000 = r 1000 := by
  obtain ⟨a, b, c, d, e, f, g, i, hms, hsi, hsm, hnm⟩ := id h
  have hh : ∀ j : Int, 968 ≤ j → j ≠ 1009 → lifF r k j = r j := fun j q1 q2 => lifF_hi h0 (by omega) (Or.inr q1) q2
  have h9 : lifF r k 1009 = r 1009 - 1 := by rw [lifF, if_pos rfl]
  have h00 := hh 1000 (by omega) (by omega)
  refine ⟨⟨by rw [h00]; exact a, by rw [h9]; omega, by rw [hh 1042 (by omega) (by omega)]; exact c, by rw [hh 1043 (by omega) (by omega)]; exact d, by rw [hh 1044 (by omega) (by omega)]; exact e, by rw [hh 1045 (by omega) (by omega)]; exact f, by rw [hh 1046 (by omega) (by omega)]; exact g, by rw [hh 1047 (by omega) (by omega)]; exact i, fun m q0 q1 => ?_, fun s q0 q1 => ?_, fun m s q0 q1 q2 q3 => ?_, fun m j q0 q1 q2 q3 => ?_⟩, h9, h00⟩
  · rw [h00] at q1
    rw [hh (1001 + m) (by omega) (by omega)]
    exact hms m q0 q1
  · rw [h9] at q1
    obtain ⟨w1, w2⟩ := lifF_pt (r := r) h0 (by omega) ⟨q0, q1⟩
    rw [w1]
    have z := hsi (if s < k then s else s + 1) (by split <;> omega) (by split <;> omega)
    refine ⟨z.1, z.2.1, fun j p0 p1 => ?_⟩
    have z2 := z.2.1
    simp only
    rw [w2 j p0 (by omega)]
    exact z.2.2 j p0 p1
  · rw [h00] at q1
    rw [hh (1001 + m) (by omega) (by omega)] at q3
    have z := hms m q0 q1
    have z2 := hsm m s q0 q1 q2 q3
    rw [hh (960 + (8 + 4 * m + s)) (by omega) (by omega)]
    have e2 : (fun j => lifF r k (24 * (8 + 4 * m + s) + j)) = fun j => lifF r k (24 * (8 + 4 * m + s) + j) := rfl
    refine ⟨z2.1, z2.2.1, fun j p0 p1 => ?_⟩
    have z3 := z2.2.1
    simp only
    rw [lifF_hi h0 (by omega) (Or.inl ⟨by omega, by omega⟩) (by omega)]
    exact z2.2.2 j p0 p1
  · rw [h00] at q1
    rw [hh (1010 + 4 * m + j) (by omega) (by omega)]
    exact hnm m j q0 q1 q2 q3
def lfM (σ : mS) (k m : Int) : Int := scM (lifS σ k) 0 (σ 0 1009 - 1) m
theorem lfM_r {σ : mS} (hr : rowOK (σ 0)) {k m : Int} (h0 : 0 ≤ k) (h1 : k < σ 0 1009) (h2 : 0 ≤ m) (h3 : m < σ 0 1000) : 0 ≤ lfM σ k m ∧ lfM σ k m ≤ 1584 := by
  obtain ⟨a, b, c⟩ := rowOK_lif hr h0 h1
  rw [← lifS_0] at a b c
  have z := inkS a
  rw [b] at z
  exact scM_r a z h2 (by rw [c]; exact h3)
abbrev isLf (σ : mS) (k w : Int) : Prop := ¬ σ 0 1000 = 0 ∧ (0 ≤ k ∧ k < σ 0 1009) ∧ 0 ≤ w ∧ w ≤ 2
def sp_lifted (σ : mS) (k w : Int) : Int := if isLf σ k w then (if w = 0 then moA (lfM σ k) (nMod σ) 0 else if w = 1 then lfM σ k (moA (lfM σ k) (nMod σ) 0) else mgn (lfM σ k) (nMod σ)) else -1
theorem lfM_same {τ σ : mS} (h0 : τ 0 = σ 0) (h7 : τ 7 = σ 7) (h8 : τ 8 = σ 8) : lfM τ = lfM σ := by
  funext k m
  rw [lfM, lfM, scM_same (τ := lifS τ k) (σ := lifS σ k) (by rw [lifS_0, lifS_0, h0]) (by rw [lifS_n _ _ (by decide), lifS_n _ _ (by decide), h7]) (by rw [lifS_n _ _ (by decide), lifS_n _ _ (by decide), h8]), h0]
theorem sp_lifted_same {τ σ : mS} (h0 : τ 0 = σ 0) (h7 : τ 7 = σ 7) (h8 : τ 8 = σ 8) : sp_lifted τ = sp_lifted σ := by
  funext k w
  simp only [sp_lifted, isLf, lfM_same h0 h7 h8, nMod, h0]
theorem lf1_r {σ : mS} (hr : rowOK (σ 0)) {k : Int} (hn : 0 < σ 0 1000) (h0 : 0 ≤ k) (h1 : k < σ 0 1009) : 0 ≤ sp_lifted σ k 1 ∧ sp_lifted σ k 1 ≤ 1584 := by
  rw [sp_lifted, if_pos ⟨by omega, ⟨h0, h1⟩, by omega, by omega⟩, if_neg (by omega), if_pos rfl]
  have a := moA_in (f := lfM σ k) (N := nMod σ) (p := 0) (by omega) (by rw [nMod]; omega)
  have hnm : ((nMod σ : Nat) : Int) = σ 0 1000 := by rw [nMod]; omega
  exact lfM_r hr h0 h1 a.1 (by omega)
def weF (f : Int → Int) : Nat → Int → Int × Int → Int × Int
  | 0, _, s => s
  | q + 1, k, s => weF f q (k + 1) (if s.2 ≤ f k then s else (k, f k))
def sp_weakest (σ : mS) : Int := if σ 0 1000 = 0 then -1 else (weF (fun k => sp_lifted σ k 1) (σ 0 1009).toNat 0 (-1, 100000000)).1
