set_option maxRecDepth 100000
/-! BOXES: the least and greatest numbers of some strokes, one by one -/
theorem edP_op0 {f : Int → Int} {ax u : Int} : ∀ (k : Nat) (v : Int), edP 0 f ax k (min u v) = min u (edP 0 f ax k v)
  | 0, v => rfl
  | k + 1, v => by rw [edP, edP, edP_op0 k v]; simp only [if_true]; omega
theorem edP_op1 {f : Int → Int} {ax u : Int} : ∀ (k : Nat) (v : Int), edP 1 f ax k (max u v) = max u (edP 1 f ax k v)
  | 0, v => rfl
  | k + 1, v => by rw [edP, edP, edP_op1 k v]; simp only [show ¬ ((1 : Int) = 0) by decide, if_false]; omega
theorem edP_m0 {f : Int → Int} {ax : Int} {k : Nat} (h : 1 ≤ k) (v : Int) : edP 0 f ax k v = min v (edP 0 f ax k (f (2 * 0 + ax))) := by
  have a := edP_op0 (f := f) (ax := ax) (u := v) k (f (2 * 0 + ax))
  have b := edP_op0 (f := f) (ax := ax) (u := f (2 * 0 + ax)) k v
  have c := (edP_lo (f := f) (ax := ax) k v).2 0 h
  rw [show (min v (f (2 * 0 + ax))) = min (f (2 * 0 + ax)) v by omega, b] at a
  have d : f (2 * ((0 : Nat) : Int) + ax) = f (2 * 0 + ax) := rfl
  omega
theorem edP_m1 {f : Int → Int} {ax : Int} {k : Nat} (h : 1 ≤ k) (v : Int) : edP 1 f ax k v = max v (edP 1 f ax k (f (2 * 0 + ax))) := by
  have a := edP_op1 (f := f) (ax := ax) (u := v) k (f (2 * 0 + ax))
  have b := edP_op1 (f := f) (ax := ax) (u := f (2 * 0 + ax)) k v
  have c := (edP_hi (f := f) (ax := ax) k v).2 0 h
  rw [show (max v (f (2 * 0 + ax))) = max (f (2 * 0 + ax)) v by omega, b] at a
  have d : f (2 * ((0 : Nat) : Int) + ax) = f (2 * 0 + ax) := rfl
  omega
theorem edP_congr {b ax : Int} {f g : Int → Int} : ∀ (k : Nat) {v w : Int}, v = w → (∀ j : Nat, j < k → f (2 * j + ax) = g (2 * j + ax)) → edP b f ax k v = edP b g ax k w
  | 0, v, w, h, _ => h
  | k + 1, v, w, h, hf => by rw [edP, edP, edP_congr k h (fun j hj => hf j (by omega)), hf k (by omega)]
/-- the end of a stroke by its own numbers -/
def enF (b : Int) (n : Int) (f : Int → Int) (ax : Int) : Int := edP b f ax n.toNat (f (2 * 0 + ax))
theorem enF_congr {b n ax : Int} {f g : Int → Int} (hax : ax = 0 ∨ ax = 1) (hn : 1 ≤ n) (h : ∀ j, 0 ≤ j → j < 2 * n → f j = g j) : enF b n f ax = enF b n g ax := edP_congr _ (h _ (by omega) (by omega)) (fun j hj => h _ (by omega) (by omega))
theorem enF_edge (σ : mS) (s ax b : Int) : edge σ s 1 ax b = enF b (np σ s) (nu σ s) ax := by
  show edP b (nu σ (s + ((0 : Nat) : Int))) ax (np σ (s + ((0 : Nat) : Int))).toNat (nu σ s (2 * 0 + ax)) = _
  rw [show s + ((0 : Nat) : Int) = s by omega]
  rfl
theorem enF_r {b n : Int} {f : Int → Int} {ax : Int} (h : skOK n f) (hax : ax = 0 ∨ ax = 1) : 0 ≤ enF b n f ax ∧ enF b n f ax ≤ 99 := by
  have h1 := h.1
  have h0 := h.2.2 (2 * 0 + ax) (by omega) (by omega)
  exact edP_in _ _ h0.1 h0.2 (fun j hj => h.2.2 _ (by omega) (by omega))
/-- least (b = 0), greatest numbers of strokes first .. first + s - 1, one stroke after the other -/
def bxF (b : Int) (σ : mS) (ax first : Int) : Nat → Int
  | 0 => if b = 0 then 99 else 0
  | s + 1 => if b = 0 then min (bxF b σ ax first s) (edge σ (first + s) 1 ax b) else max (bxF b σ ax first s) (edge σ (first + s) 1 ax b)
theorem bxF_r {b : Int} {σ : mS} {ax first many : Int} (h : letS σ first many) (hax : ax = 0 ∨ ax = 1) : ∀ s : Nat, (s : Int) ≤ many → 0 ≤ bxF b σ ax first s ∧ bxF b σ ax first s ≤ 99
  | 0, _ => by rw [bxF]; split <;> omega
  | s + 1, hs => by
    have a := bxF_r (b := b) h hax s (by omega)
    have c := enF_r (b := b) (h.2.2.2.2 (first + s) (by omega) (by omega)) hax
    rw [bxF, enF_edge]
    split <;> omega
theorem bxF_0 {σ : mS} {ax first many : Int} (h : letS σ first many) (hax : ax = 0 ∨ ax = 1) {v : Int} (hv : v ≤ 99) : ∀ s : Nat, (s : Int) ≤ many → edS 0 σ ax first s v = min v (bxF 0 σ ax first s)
  | 0, _ => by rw [edS, bxF, if_pos rfl]; omega
  | s + 1, hs => by
    have a := bxF_0 h hax hv s (by omega)
    have c := (h.2.2.2.2 (first + s) (by omega) (by omega)).1
    rw [edS, bxF, if_pos rfl, edP_m0 (by omega), a, enF_edge, enF]
    omega
theorem bxF_1 {σ : mS} {ax first many : Int} (h : letS σ first many) (hax : ax = 0 ∨ ax = 1) {v : Int} (hv : 0 ≤ v) : ∀ s : Nat, (s : Int) ≤ many → edS 1 σ ax first s v = max v (bxF 1 σ ax first s)
  | 0, _ => by rw [edS, bxF, if_neg (by decide)]; omega
  | s + 1, hs => by
    have a := bxF_1 h hax hv s (by omega)
    have c := (h.2.2.2.2 (first + s) (by omega) (by omega)).1
    rw [edS, bxF, if_neg (by decide), edP_m1 (by omega), a, enF_edge, enF]
    omega
theorem bxF_edge {σ : mS} {ax first many : Int} (h : letS σ first many) (h1 : 1 ≤ many) (hax : ax = 0 ∨ ax = 1) : bxF 0 σ ax first many.toNat = edge σ first many ax 0 ∧ bxF 1 σ ax first many.toNat = edge σ first many ax 1 := by
  have hk := h.2.2.2.2 first (by omega) (by omega)
  have hn := hk.1
  have hv := hk.2.2 (2 * 0 + ax) (by omega) (by omega)
  have a := bxF_0 h hax hv.2 many.toNat (by omega)
  have b := bxF_1 h hax hv.1 many.toNat (by omega)
  have c := edge_lo (σ := σ) (ax := ax) (first := first) (many := many) (s := first) (k := 0) (by omega) (by omega) (by omega) (by omega)
  have d := edge_hi (σ := σ) (ax := ax) (first := first) (many := many) (s := first) (k := 0) (by omega) (by omega) (by omega) (by omega)
  have e1 : edge σ first many ax 0 = edS 0 σ ax first many.toNat (nu σ first (2 * 0 + ax)) := rfl
  have e2 : edge σ first many ax 1 = edS 1 σ ax first many.toNat (nu σ first (2 * 0 + ax)) := rfl
  -- the first stroke's own end is among them
  have key0 : ∀ s : Nat, 1 ≤ s → (s : Int) ≤ many → bxF 0 σ ax first s ≤ edge σ first 1 ax 0 := by
    intro s
    induction s with
    | zero => intro hs; omega
    | succ s ih =>
      intro _ hs
      rw [bxF, if_pos rfl]
      by_cases c9 : s = 0
      · subst c9
        rw [show first + ((0 : Nat) : Int) = first by omega]
        omega
      · have := ih (by omega) (by omega)
        omega
  have key1 : ∀ s : Nat, 1 ≤ s → (s : Int) ≤ many → edge σ first 1 ax 1 ≤ bxF 1 σ ax first s := by
    intro s
    induction s with
    | zero => intro hs; omega
    | succ s ih =>
      intro _ hs
      rw [bxF, if_neg (by decide)]
      by_cases c9 : s = 0
      · subst c9
        rw [show first + ((0 : Nat) : Int) = first by omega]
        omega
      · have := ih (by omega) (by omega)
        omega
  have f0 := key0 many.toNat (by omega) (by omega)
  have f1 := key1 many.toNat (by omega) (by omega)
  have g0 := (edP_lo (f := nu σ first) (ax := ax) (np σ first).toNat (nu σ first (2 * 0 + ax))).1
  have g1 := (edP_hi (f := nu σ first) (ax := ax) (np σ first).toNat (nu σ first (2 * 0 + ax))).1
  rw [enF_edge, enF] at f0 f1
  omega
theorem strB_fr {S : xS} {D t : xD} {R : xR} {s : Nat} {m : List Nat} (hB : strB S D R s) (hs : (S s).1 = 8) (h : fr S D t m) (hm : 8002 ∉ m ∧ 40 ∉ m ∧ 41 ∉ m) : strB S t R s := by
  obtain ⟨hf, hk, hp, hl⟩ := hB
  have e0 : t (rf R s 0) = D (rf R s 0) := fr_row h hf.2.1 (by decide) hm.2.1
  have e1 : t (rf R s 1) = D (rf R s 1) := fr_row h hf.2.2.2.2.1 (by decide) hm.2.2
  exact ⟨hf, by rw [e0]; exact hk, fun k a b => by rw [e1, e0]; exact hp k a b, by rw [show t s 2 = D s 2 from fr_at h hs hm.1, e0]; exact hl⟩
theorem GS_fr {S : xS} {D t : xD} {R R' : xR} {m m' : List Nat} (hG : GS S D R) (h : fr S D t m) (h' : fr S R R' m') (hm : (∀ x ∈ m, x ∉ [8002, 8003, 40, 41, 42, 43, 44])) (hm' : ∀ x ∈ m', x ∉ [8000, 8001, 8004, 8005, 8006]) : GS S t R' := by
  intro s hs
  have hx : ∀ k : Nat, k ∈ [8000, 8001, 8004, 8005, 8006] → k ∉ m' := fun k hk e => hm' k e hk
  have hy : ∀ k : Nat, k ∈ [8002, 8003, 40, 41, 42, 43, 44] → k ∉ m := fun k hk e => hm k e hk
  have r0 : R' s 0 = R s 0 := fr_at h' hs (hx _ (by decide))
  have r1 : R' s 1 = R s 1 := fr_at h' hs (hx _ (by decide))
  have r4 : R' s 4 = R s 4 := fr_at h' hs (hx _ (by decide))
  have r5 : R' s 5 = R s 5 := fr_at h' hs (hx _ (by decide))
  have r6 : R' s 6 = R s 6 := fr_at h' hs (hx _ (by decide))
  have q0 : rf R' s 0 = rf R s 0 := by rw [rf, rf, r0]
  have q1 : rf R' s 1 = rf R s 1 := by rw [rf, rf, r1]
  have q4 : rf R' s 4 = rf R s 4 := by rw [rf, rf, r4]
  have q5 : rf R' s 5 = rf R s 5 := by rw [rf, rf, r5]
  have q6 : rf R' s 6 = rf R s 6 := by rw [rf, rf, r6]
  obtain ⟨⟨hf, hk, hp, hl⟩, hc⟩ := hG s hs
  have k4 : (S (rf R s 4)).1 = 42 := by rw [hf.2.2.2.2.2.2.2.1]
  have k5 : (S (rf R s 5)).1 = 43 := by rw [hf.2.2.2.2.2.2.2.2.2.1]
  have k6 : (S (rf R s 6)).1 = 44 := by rw [hf.2.2.2.2.2.2.2.2.2.2.2]
  have e0 : t (rf R s 0) = D (rf R s 0) := fr_row h hf.2.1 (by decide) (hy _ (by decide))
  have e1 : t (rf R s 1) = D (rf R s 1) := fr_row h hf.2.2.2.2.1 (by decide) (hy _ (by decide))
  have e4 : t (rf R s 4) = D (rf R s 4) := fr_row h k4 (by decide) (hy _ (by decide))
  have e5 : t (rf R s 5) = D (rf R s 5) := fr_row h k5 (by decide) (hy _ (by decide))
  have e6 : t (rf R s 6) = D (rf R s 6) := fr_row h k6 (by decide) (hy _ (by decide))
  have e2 : t s 2 = D s 2 := fr_at h hs (hy _ (by decide))
  have e3 : t s 3 = D s 3 := fr_at h hs (hy _ (by decide))
  have hn : strN S R' s = strN S R s := by rw [strN, strN, q0]
  refine ⟨⟨?_, ?_, ?_, ?_⟩, ?_⟩
  · simp only [skF0, hn, r0, r1, r4, r5, r6, q0, q1, q4, q5, q6]
    exact hf
  · rw [hn, q0, e0]; exact hk
  · rw [hn, q0, q1, e0, e1]; exact hp
  · rw [hn, q0, e0, e2]; exact hl
  · simp only [caOK, hn, q0, q4, q5, q6, e0, e4, e5, e6, e3]
    exact hc
