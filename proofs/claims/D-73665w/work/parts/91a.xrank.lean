set_option maxRecDepth 100000
/-! RANKS: each one is put in its place among those ahead of it -/
def rkI (f : Int → Int) (N : Nat) (g : Int → Int) : Prop := ∀ k : Int, 0 ≤ k → k < N → 0 ≤ g k ∧ g k < N ∧ plF f (g k) N = k
theorem rkI_0 (f g : Int → Int) : rkI f 0 g := fun k h0 h1 => absurd h1 (by omega)
theorem rkI_pos {f g : Int → Int} {N : Nat} (hg : rkI f N g) {k : Int} (hk : 0 ≤ k ∧ k ≤ N) (hgt : ∀ j, k ≤ j → j < (N : Int) → f N < f (g j)) (hle : k = 0 ∨ f (g (k - 1)) ≤ f N) : plF f N N = k := by
  have r := plF_r f N N
  have lo : ∀ j, 0 ≤ j → j < (N : Int) → j < plF f N N → f (g j) ≤ f N := fun j h0 h1 h2 => by
    obtain ⟨a1, a2, a3⟩ := hg j h0 h1
    rcases (show f (g j) ≤ f N ∨ ltR f N (g j) by omega) with q | q
    · exact q
    · have := plF_le (f := f) (a := N) (b := g j) N (fun o _ _ ho => by omega)
      omega
  have hi : ∀ j, 0 ≤ j → j < (N : Int) → plF f N N ≤ j → f N < f (g j) := fun j h0 h1 h2 => by
    obtain ⟨a1, a2, a3⟩ := hg j h0 h1
    rcases (show f N < f (g j) ∨ ltR f (g j) N by omega) with q | q
    · exact q
    · have := plF_step a1 a2 q
      omega
  rcases (show plF f N N < k ∨ plF f N N = k ∨ k < plF f N N by omega) with q | q | q
  · have := hi (k - 1) (by omega) (by omega) (by omega)
    omega
  · exact q
  · have a := lo k (by omega) (by omega) q
    have b := hgt k (by omega) (by omega)
    omega
theorem rkI_ins {f g g' : Int → Int} {m : Int} (hm : 0 ≤ m) (hg : rkI f m.toNat g) {k : Int} (hk : 0 ≤ k ∧ k ≤ m) (hgt : ∀ j, k ≤ j → j < m → f m < f (g j)) (hle : k = 0 ∨ f (g (k - 1)) ≤ f m) (h1 : ∀ j, 0 ≤ j → j < k → g' j = g j) (h2 : g' k = m) (h3 : ∀ j, k < j → j ≤ m → g' j = g (j - 1)) : rkI f (m + 1).toNat g' := by
  obtain ⟨N, rfl⟩ : ∃ N : Nat, m = N := ⟨m.toNat, by omega⟩
  rw [Int.toNat_natCast] at hg
  rw [show ((N : Int) + 1).toNat = N + 1 by omega]
  have hp := rkI_pos hg hk hgt hle
  intro j h0 hj
  rcases (show j < k ∨ j = k ∨ k < j by omega) with c | c | c
  · rw [h1 j h0 c]
    obtain ⟨a1, a2, a3⟩ := hg j h0 (by omega)
    refine ⟨a1, by omega, ?_⟩
    rw [plF, if_neg, a3]
    · omega
    · intro q
      have := plF_le (f := f) (a := N) (b := g j) N (fun o _ _ ho => by omega)
      omega
  · rw [c, h2]
    refine ⟨by omega, by omega, ?_⟩
    rw [plF, if_neg (by omega)]
    omega
  · rw [h3 j c (by omega)]
    obtain ⟨a1, a2, a3⟩ := hg (j - 1) (by omega) (by omega)
    refine ⟨a1, by omega, ?_⟩
    rw [plF, if_pos, a3]
    · omega
    · exact Or.inl (hgt (j - 1) (by omega) (by omega))
theorem rkI_moA {f g : Int → Int} {N : Nat} (hg : rkI f N g) {k : Int} (h0 : 0 ≤ k) (h1 : k < N) : g k = moA f N k := by
  obtain ⟨a1, a2, a3⟩ := hg k h0 h1
  exact (moA_eq a1 a2 a3).symm
theorem rk_end {f g : Int → Int} {N : Nat} {m M : Int} (hN : m.toNat = N) (h : rkI f m.toNat g) (hM : 0 ≤ m ∧ m = M) {k : Int} (h0 : 0 ≤ k) (h1 : k < M) : (0 ≤ g k ∧ g k < M) ∧ g k = moA f N k := by
  rw [hN] at h
  obtain ⟨a, b, c⟩ := h k h0 (by omega)
  exact ⟨⟨a, by omega⟩, rkI_moA h h0 (by omega)⟩
