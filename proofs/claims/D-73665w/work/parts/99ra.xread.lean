set_option maxRecDepth 100000
/-! THE INK READ: the component's rows -/
def rdT (D : xD) (P : xPk) (s : Int) : (Int × Int) × (Int × Int) := ((D (P.2.1 26) s, D (P.2.1 27) s), (D (P.2.1 28) s, D (P.2.1 29) s))
/-- behind a row's laying out -/
def lrQ (D D' : xD) (P : xPk) (σ : mS) (f m : Int) : Prop := ∀ j, rdT D' P j = if j = f ∧ rdV σ f m + D (P.2.1 26) (f + m) < D (P.2.1 26) f then ((rdV σ f m + D (P.2.1 26) (f + m), m), (rdM σ f m, rdV σ f m)) else rdT D P j
theorem rd_step {D D' : xD} {P : xPk} {σ : mS} {Q : Int → Int} {s n : Int} {q : Nat} {e : (Int × Int) × (Int × Int)} (h : lrQ D D' P σ s n) (hc : rdS σ Q s (q + 1) n (rdT D P s) = e) (hQ : D (P.2.1 26) (s + n) = Q (s + n)) : rdS σ Q s q (n + 1) (rdT D' P s) = e := by
  rw [rdS] at hc
  rw [← hc, h s, hQ]
  congr 1
  have e1 : (rdT D P s).1.1 = D (P.2.1 26) s := rfl
  rw [e1]
  by_cases c : rdV σ s n + Q (s + n) < D (P.2.1 26) s
  · rw [if_pos ⟨rfl, c⟩, if_pos c]
  · rw [if_neg (fun z => c z.2), if_neg c]
theorem lr_ne {D D' : xD} {P : xPk} {σ : mS} {f m j : Int} (h : lrQ D D' P σ f m) (hj : j ≠ f) : rdT D' P j = rdT D P j := by rw [h j, if_neg (fun z => hj z.1)]
theorem rd_far {σ : mS} {Q : Int → Int} {s : Int} (hc : 1 ≤ rdC σ s) (hv : rdV σ s 1 + Q (s + 1) < 100000) (b : Int) (c : Int × Int) : rdS σ Q s (rdC σ s) 1 ((100000, b), c) = rdA σ Q s := by
  obtain ⟨k, hk⟩ : ∃ k : Nat, rdC σ s = k + 1 := ⟨rdC σ s - 1, by omega⟩
  rw [rdA, hk, rdS, rdS, if_pos hv, if_pos (by simp only; omega)]
/-- those behind s are laid out -/
def rdI (D : xD) (P : xPk) (σ : mS) (s : Int) : Prop := D (P.2.1 26) (σ 0 1009) = 0 ∧ ∀ j, s < j → j < σ 0 1009 → rdT D P j = rdE σ j
theorem rdR_at {σ : mS} : ∀ k : Nat, (k : Int) ≤ σ 0 1009 → rdR σ k (σ 0 1009) = 0 ∧ ∀ j, σ 0 1009 - k ≤ j → j < σ 0 1009 → rdR σ k j = (rdE σ j).1.1
  | 0, _ => ⟨rfl, fun j x y => by omega⟩
  | k + 1, h => by
    have ih := rdR_at (σ := σ) k (by omega)
    refine ⟨?_, fun j x y => ?_⟩
    · show (if σ 0 1009 = σ 0 1009 - (k + 1 : Nat) then _ else rdR σ k (σ 0 1009)) = 0
      rw [if_neg (by omega)]; exact ih.1
    · show (if j = σ 0 1009 - (k + 1 : Nat) then _ else rdR σ k j) = _
      by_cases c : j = σ 0 1009 - (k + 1 : Nat)
      · rw [if_pos c, ← c, rdE, show (σ 0 1009 - 1 - j).toNat = k by omega]
      · rw [if_neg c]; exact ih.2 j (by omega) y
theorem rdI_at {D : xD} {P : xPk} {σ : mS} {s j : Int} (h : rdI D P σ s) (h0 : 0 ≤ s) (h1 : s < j) (h2 : j ≤ σ 0 1009) : D (P.2.1 26) j = rdR σ (σ 0 1009 - 1 - s).toNat j := by
  have r := rdR_at (σ := σ) (σ 0 1009 - 1 - s).toNat (by omega)
  by_cases c : j = σ 0 1009
  · rw [c, r.1]; exact h.1
  · rw [r.2 j (by omega) (by omega)]
    have w := h.2 j h1 (by omega)
    exact congrArg (fun z => z.1.1) w
/-- a candidate's cost -/
theorem rd_le {D : xD} {P : xPk} {σ : mS} (hr : rowOK (σ 0)) (hn : 0 < σ 0 1000) {s j : Int} (h : rdI D P σ s) (h0 : 0 ≤ s) (h1 : s < j) (h2 : j ≤ σ 0 1009) : 0 ≤ D (P.2.1 26) j ∧ D (P.2.1 26) j ≤ 14256 := by
  obtain ⟨-, h9, -⟩ := id hr
  have r := rdR_r hr hn (σ 0 1009 - 1 - s).toNat (by omega) j
  rw [rdI_at h h0 h1 h2]; omega
def rdG (D : xD) (P : xPk) (σ : mS) (s n : Int) : Prop := rdI D P σ s ∧ (0 ≤ D (P.2.1 26) s ∧ D (P.2.1 26) s ≤ 100000) ∧ rdS σ (rdR σ (σ 0 1009 - 1 - s).toNat) s ((rdC σ s : Int) + 1 - n).toNat n (rdT D P s) = rdE σ s
theorem rdG_0 {D : xD} {P : xPk} {σ : mS} (hr : rowOK (σ 0)) (hn : 0 < σ 0 1000) {s : Int} (h : rdI D P σ s) (h0 : 0 ≤ s) (h1 : s < σ 0 1009) (hs : D (P.2.1 26) s = 100000) : rdG D P σ s 1 := by
  obtain ⟨-, h9, -⟩ := id hr
  have v := rdV_r hr hn h0 (n := 1) (by omega) (by omega)
  have l := rd_le hr hn h h0 (j := s + 1) (by omega) (by omega)
  have e := rdI_at h h0 (j := s + 1) (by omega) (by omega)
  have c : rdC σ s = (min 4 (σ 0 1009 - s)).toNat := rfl
  refine ⟨h, by omega, ?_⟩
  rw [show ((rdC σ s : Int) + 1 - 1).toNat = rdC σ s by omega, rdT, hs, rd_far (by omega) (by omega)]; rfl
theorem rdG_s {D D' : xD} {P : xPk} {σ : mS} (hr : rowOK (σ 0)) (hn : 0 < σ 0 1000) {s n : Int} (h : rdG D P σ s n) (h0 : 0 ≤ s) (h1 : 1 ≤ n ∧ n ≤ 4) (h2 : s + n ≤ σ 0 1009) (hl : lrQ D D' P σ s n) : rdG D' P σ s (n + 1) := by
  obtain ⟨-, h9, -⟩ := id hr
  obtain ⟨i, b, e⟩ := h
  have v := rdV_r hr hn h0 (n := n) (by omega) (by omega)
  have l := rd_le hr hn i h0 (j := s + n) (by omega) (by omega)
  have c : rdC σ s = (min 4 (σ 0 1009 - s)).toNat := rfl
  rw [show ((rdC σ s : Int) + 1 - n).toNat = ((rdC σ s : Int) + 1 - (n + 1)).toNat + 1 by omega] at e
  refine ⟨⟨?_, fun j x y => ?_⟩, ?_, rd_step hl e (rdI_at i h0 (by omega) (by omega))⟩
  · have w := congrArg (fun z => z.1.1) (lr_ne hl (j := σ 0 1009) (by omega)); exact w.trans i.1
  · exact (lr_ne hl (by omega)).trans (i.2 j x y)
  · have w : D' (P.2.1 26) s = (rdT D' P s).1.1 := rfl
    rw [w, hl s]
    split
    · simp only; omega
    · exact b
theorem rdG_e {D : xD} {P : xPk} {σ : mS} {s n : Int} (h : rdG D P σ s n) (hn : 4 < n ∨ σ 0 1009 < s + n) (h0 : 0 ≤ s) (h1 : 1 ≤ n) : rdI D P σ (s - 1) := by
  obtain ⟨i, b, e⟩ := h
  have c : rdC σ s = (min 4 (σ 0 1009 - s)).toNat := rfl
  rw [show ((rdC σ s : Int) + 1 - n).toNat = 0 by omega, rdS] at e
  refine ⟨i.1, fun j x y => ?_⟩
  by_cases q : j = s
  · rw [q]; exact e
  · exact i.2 j (by omega) y
theorem rdI_set {D D' : xD} {P : xPk} {σ : mS} {s : Int} (h : rdI D P σ s) (h1 : s < σ 0 1009) (h26 : ∀ j, j ≠ s → D' (P.2.1 26) j = D (P.2.1 26) j) (h2 : ∀ k ∈ [27, 28, 29], D' (P.2.1 k) = D (P.2.1 k)) : rdI D' P σ s := by
  refine ⟨(h26 _ (by omega)).trans h.1, fun j x y => ?_⟩
  rw [← h.2 j x y, rdT, rdT, h26 j (by omega), h2 27 (by decide), h2 28 (by decide), h2 29 (by decide)]
theorem ls_row {S : xS} {D : xD} {R : xR} {a : Nat} {σ : mS} {f n : Int} (h : f + n ≤ σ 0 1009) (hr : rowOK (σ 0)) (hw : rwL S D R a n (fun i => σ 0 (960 + (f + i))) (fun i j => σ 0 (24 * (f + i) + j))) : lsR S D R a σ f n := by
  obtain ⟨-, h9, -⟩ := id hr
  refine ⟨hw.1, fun i x y => skR_to (hw.2 i x y) ?_ (fun j _ _ => ?_)⟩
  · rw [np, if_pos (by omega)]
  · rw [nu, if_pos (by omega)]
theorem rd_lo {σ : mS} {k w : Int} (h : k < -1) : -1 = sp_read σ k w := by
  rw [sp_read]
  by_cases c : isRd σ
  · rw [if_pos c, if_neg (by omega), if_pos (by omega)]
  · rw [if_neg c]
