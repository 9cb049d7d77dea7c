set_option maxRecDepth 100000
/-! WAYS, as the component goes them -/
theorem nxt_cmp {c : Int → Int → Int} {e w i j lf : Int} (hc : ∀ i j, 0 ≤ c i j ∧ c i j ≤ 4) (he : e ≤ 16) (hi : 0 ≤ i ∧ i < e) (hj : 0 ≤ j ∧ j < e) (hf : elT c e w i j < 100000000) (hne : ¬ (i = e - 1 ∧ j = e - 1)) (hl : lf = elT c e w i j - c i j) : ((i < e - 1 ∧ j < e - 1 ∧ fa (elT c e w (i + 1) (j + 1)) = lf) → nxt c e w (i, j) = (i + 1, j + 1)) ∧ (¬ (i < e - 1 ∧ j < e - 1 ∧ fa (elT c e w (i + 1) (j + 1)) = lf) → (i < e - 1 ∧ fa (elT c e w (i + 1) j) = lf) → nxt c e w (i, j) = (i + 1, j)) ∧ (¬ (i < e - 1 ∧ j < e - 1 ∧ fa (elT c e w (i + 1) (j + 1)) = lf) → ¬ (i < e - 1 ∧ fa (elT c e w (i + 1) j) = lf) → nxt c e w (i, j) = (i, j + 1)) := by
  have h9 := hc i j
  have a := fa_c (elT_ok (w := w) hc he (i := i + 1) (j := j + 1) (by omega) (by omega))
  have b := fa_c (elT_ok (w := w) hc he (i := i + 1) (j := j) (by omega) (by omega))
  have d := fa_c (elT_ok (w := w) hc he (i := i) (j := j) (by omega) (by omega))
  have ok := nxt_ok hc (p := (i, j)) hi.2 hj.2 hf hne
  have hn : nxt c e w (i, j) = if rsE c e w (i + 1) (j + 1) = lf then (i + 1, j + 1) else if rsE c e w (i + 1) j = lf then (i + 1, j) else (i, j + 1) := by rw [hl]; rfl
  have hl0 : 0 ≤ lf := by
    have h8 := elT_r (c := c) (e := e) (w := w) (i := (nxt c e w (i, j)).1) (j := (nxt c e w (i, j)).2) hc
    have := ok.2.2.2.2.2.2
    simp only [] at this
    omega
  have r1 : rsE c e w (i + 1) (j + 1) = lf ↔ (i < e - 1 ∧ j < e - 1 ∧ fa (elT c e w (i + 1) (j + 1)) = lf) := by
    rw [rsE]
    by_cases q : i + 1 < e ∧ j + 1 < e
    · rw [if_pos q]; omega
    · rw [if_neg q]; omega
  have r2 : rsE c e w (i + 1) j = lf ↔ (i < e - 1 ∧ fa (elT c e w (i + 1) j) = lf) := by
    rw [rsE]
    by_cases q : i + 1 < e ∧ j < e
    · rw [if_pos q]; omega
    · rw [if_neg q]; omega
  refine ⟨fun h => ?_, fun h h2 => ?_, fun h h2 => ?_⟩
  · rw [hn, if_pos (r1.mpr h)]
  · rw [hn, if_neg (fun z => h (r1.mp z)), if_pos (r2.mpr h2)]
  · rw [hn, if_neg (fun z => h (r1.mp z)), if_neg (fun z => h2 (r2.mp z))]
theorem wayL_go {c : Int → Int → Int} {e w k m i j : Int} {p : Int × Int} (hm : 0 ≤ m ∧ m < 32) (hk : k ≠ m) (hne : ¬ (i = e - 1 ∧ j = e - 1)) (hp : nxt c e w (i, j) = p) : wayL c e w k (32 - m).toNat (i, j) m = wayL c e w k (32 - (m + 1)).toNat p (m + 1) := by
  rw [show (32 - m).toNat = (32 - (m + 1)).toNat + 1 by omega, wayL, if_pos ⟨fun z => hk z.symm, hne⟩, hp]
