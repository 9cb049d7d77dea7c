set_option maxRecDepth 100000
/-! MODELS AMONG EACH OTHER: starts, ends -/
theorem plF_n {f : Int → Int} {m : Int} : ∀ N : Nat, 0 ≤ m → m < N → plF f m N < N
  | 0, h0, h1 => by omega
  | N + 1, h0, h1 => by
    rw [plF]
    by_cases c : m = N
    · subst c
      have := plF_r f N N
      rw [if_neg (by omega)]; omega
    · have := plF_n (f := f) N h0 (by omega)
      split <;> omega
theorem moA_out {f : Int → Int} {N : Nat} {p : Int} (h : p < 0 ∨ (N : Int) ≤ p) : moA f N p = -1 := by
  rcases moF_spec (f := f) (N := N) (p := p) N 0 (Int.le_refl _) with q | ⟨q1, q2, q3⟩
  · exact q.1
  · have a := plF_r f (moF f N p N 0) N
    have b := plF_n (f := f) N q1 (by omega)
    omega
theorem nMod_c {σ : mS} (h : 0 ≤ σ 0 1000) : ((nMod σ : Nat) : Int) = σ 0 1000 := by rw [nMod]; omega
theorem clE_start {σ : mS} (hr : rowOK (σ 0)) (h2 : 2 ≤ σ 0 1000) : clE σ = clO (sc2 σ) (σ 0 1000) (σ 0 1000 - 0).toNat 0 ((0, 1), 100000) := by
  have hs := sc2_r hr (x := 0) (y := 1) (Or.inr (by omega)) (Or.inr (by omega))
  obtain ⟨q, hq⟩ : ∃ q : Nat, nMod σ = q + 1 := ⟨nMod σ - 1, by rw [nMod]; omega⟩
  obtain ⟨p, hp⟩ : ∃ p : Nat, (σ 0 1000 - (0 + 1)).toNat = p + 1 := ⟨(σ 0 1000 - (0 + 1)).toNat - 1, by omega⟩
  rw [clE, show (σ 0 1000 - 0).toNat = nMod σ by rw [nMod]; omega, hq, clO, clO, hp, clJ, clJ, show (0 : Int) + 1 = 1 by decide]
  rw [if_pos (by show sc2 σ 0 1 < 100000000; omega), if_pos (by show sc2 σ 0 1 < 100000; omega)]
theorem ceE_start {σ : mS} (hr : rowOK (σ 0)) (h2 : 1 ≤ σ 0 1000) : ceE σ = ceF (suE σ) (σ 0 1000 - 1).toNat 1 (0, suE σ 0) := by
  have hs := suE_r hr (m := 0) (by omega) (by omega)
  rw [ceE, show nMod σ = (σ 0 1000 - 1).toNat + 1 by rw [nMod]; omega, ceF, if_neg (by show ¬ (100000000 : Int) ≤ _; omega), show (0 : Int) + 1 = 1 by decide]
/-- the nearest so far: found and its score, as the component keeps them -/
def neI (σ : mS) (m o fo few : Int) : Prop := ((fo = -1 ∧ few = 100000) ∨ (0 ≤ fo ∧ 0 ≤ few ∧ few ≤ 1584)) ∧ neE σ m = neF (sc2 σ m) m (σ 0 1000 - o).toNat o (fo, if fo = -1 then -1 else few)
theorem neI_0 (σ : mS) (m : Int) : neI σ m 0 (-1) 100000 := ⟨Or.inl ⟨rfl, rfl⟩, by rw [neE, if_pos rfl, nMod, show (σ 0 1000 - 0).toNat = (σ 0 1000).toNat by omega]⟩
theorem neI_keep {σ : mS} {m o fo few : Int} (h : neI σ m o fo few) (h1 : o < σ 0 1000) (hc : o = m ∨ (0 ≤ sc2 σ m o ∧ sc2 σ m o ≤ 1584 ∧ few ≤ sc2 σ m o)) : neI σ m (o + 1) fo few := by
  obtain ⟨a, b⟩ := h
  refine ⟨a, ?_⟩
  rw [b, show (σ 0 1000 - o).toNat = (σ 0 1000 - (o + 1)).toNat + 1 by omega, neF, if_pos]
  rcases hc with hc | hc
  · exact Or.inl hc
  · refine Or.inr ⟨by show fo ≠ -1; omega, ?_⟩
    show (if fo = -1 then (-1 : Int) else few) ≤ _
    rw [if_neg (by omega)]; omega
theorem neI_take {σ : mS} {m o fo few : Int} (h : neI σ m o fo few) (h1 : o < σ 0 1000) (h0 : 0 ≤ o) (hm : o ≠ m) (hc : 0 ≤ sc2 σ m o ∧ sc2 σ m o ≤ 1584 ∧ sc2 σ m o < few) : neI σ m (o + 1) o (sc2 σ m o) := by
  obtain ⟨a, b⟩ := h
  refine ⟨Or.inr (by omega), ?_⟩
  rw [b, show (σ 0 1000 - o).toNat = (σ 0 1000 - (o + 1)).toNat + 1 by omega, neF, if_neg, if_neg (show ¬ o = -1 by omega)]
  rintro (q | ⟨q1, q2⟩)
  · exact hm q
  · have q3 : fo ≠ -1 := q1
    have q4 : (if fo = -1 then (-1 : Int) else few) ≤ sc2 σ m o := q2
    rw [if_neg q3] at q4
    omega
theorem ne_one {σ : mS} {m : Int} (h : σ 0 1000 = 1) (hm : m = 0) : neE σ m = (-1, -1) := by
  rw [neE, show nMod σ = 1 by rw [nMod]; omega, neF, neF, if_pos (Or.inl hm.symm)]
