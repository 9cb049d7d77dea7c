set_option maxRecDepth 100000
/-! THE PURE WORDS, 12: the ink read -/
/-- the best model for the strokes s .. s+n-1; its score -/
def rdM (σ : mS) (s n : Int) : Int := moA (scM σ s n) (nMod σ) 0
def rdV (σ : mS) (s n : Int) : Int := scM σ s n (rdM σ s n)
/-- rows of n, n+1 .. strokes from stroke s on: ((what the rest costs, how many strokes), (the model, its score)) -/
def rdS (σ : mS) (R : Int → Int) (s : Int) : Nat → Int → (Int × Int) × (Int × Int) → (Int × Int) × (Int × Int)
  | 0, _, a => a
  | q + 1, n, a => rdS σ R s q (n + 1) (if rdV σ s n + R (s + n) < a.1.1 then ((rdV σ s n + R (s + n), n), (rdM σ s n, rdV σ s n)) else a)
def rdC (σ : mS) (s : Int) : Nat := (min 4 (σ 0 1009 - s)).toNat
def rdA (σ : mS) (R : Int → Int) (s : Int) : (Int × Int) × (Int × Int) := rdS σ R s (rdC σ s) 1 ((100000000, 0), (0, 0))
/-- what the rest costs from each stroke on, the last k being laid out -/
def rdR (σ : mS) : Nat → Int → Int
  | 0 => fun _ => 0
  | k + 1 => fun j => if j = σ 0 1009 - (k + 1 : Nat) then (rdA σ (rdR σ k) (σ 0 1009 - (k + 1 : Nat))).1.1 else rdR σ k j
def rdE (σ : mS) (s : Int) : (Int × Int) × (Int × Int) := rdA σ (rdR σ (σ 0 1009 - 1 - s).toNat) s
theorem subS {σ : mS} {a n b m : Int} (h : letS σ a n) (h0 : a ≤ b) (h1 : 0 ≤ m) (h2 : b + m ≤ a + n) : letS σ b m := by
  obtain ⟨p, q, r, s, t⟩ := h
  exact ⟨by omega, h1, by omega, by omega, fun z z0 z1 => t z (by omega) (by omega)⟩
theorem rdV_r {σ : mS} (hr : rowOK (σ 0)) (hn : 0 < σ 0 1000) {s n : Int} (h0 : 0 ≤ s) (h1 : 0 ≤ n) (h2 : s + n ≤ σ 0 1009) : (0 ≤ rdV σ s n ∧ rdV σ s n ≤ 1584) ∧ 0 ≤ rdM σ s n ∧ rdM σ s n < σ 0 1000 := by
  have hnm : ((nMod σ : Nat) : Int) = σ 0 1000 := by rw [nMod]; omega
  have a := moA_in (f := scM σ s n) (N := nMod σ) (p := 0) (by omega) (by omega)
  exact ⟨scM_r hr (subS (inkS hr) h0 h1 (by omega)) a.1 (by have := a.2.1; rw [rdM]; omega), a.1, by have := a.2.1; rw [rdM]; omega⟩
theorem rdS_r {σ : mS} (hr : rowOK (σ 0)) (hn : 0 < σ 0 1000) {R : Int → Int} {s : Int} (h0 : 0 ≤ s) {U : Int} (hU : 0 ≤ U) (hR : ∀ j, s < j → j ≤ σ 0 1009 → 0 ≤ R j ∧ R j ≤ U) : ∀ (q : Nat) (n : Int) (a : (Int × Int) × (Int × Int)), 1 ≤ n → s + n + q ≤ σ 0 1009 + 1 → n + q ≤ 5 → 0 ≤ a.1.1 → a.1.1 ≤ U + 1584 → (1 ≤ a.1.2 ∧ a.1.2 ≤ 4 ∧ s + a.1.2 ≤ σ 0 1009) → (0 ≤ a.2.1 ∧ a.2.1 < σ 0 1000 ∧ 0 ≤ a.2.2 ∧ a.2.2 ≤ 1584) → 0 ≤ (rdS σ R s q n a).1.1 ∧ (rdS σ R s q n a).1.1 ≤ U + 1584 ∧ (1 ≤ (rdS σ R s q n a).1.2 ∧ (rdS σ R s q n a).1.2 ≤ 4 ∧ s + (rdS σ R s q n a).1.2 ≤ σ 0 1009) ∧ (0 ≤ (rdS σ R s q n a).2.1 ∧ (rdS σ R s q n a).2.1 < σ 0 1000 ∧ 0 ≤ (rdS σ R s q n a).2.2 ∧ (rdS σ R s q n a).2.2 ≤ 1584)
  | 0, n, a, _, _, _, b1, b2, b3, b4 => ⟨b1, b2, b3, b4⟩
  | q + 1, n, a, h1, h2, h3, b1, b2, b3, b4 => by
    have v := rdV_r hr hn h0 (n := n) (by omega) (by omega)
    have w := hR (s + n) (by omega) (by omega)
    rw [rdS]
    split
    · exact rdS_r hr hn h0 hU hR q (n + 1) _ (by omega) (by omega) (by omega) (by simp only; omega) (by simp only; omega) (by simp only; omega) (by simp only; omega)
    · exact rdS_r hr hn h0 hU hR q (n + 1) _ (by omega) (by omega) (by omega) b1 b2 b3 b4
theorem rdA_r {σ : mS} (hr : rowOK (σ 0)) (hn : 0 < σ 0 1000) {R : Int → Int} {s : Int} (h0 : 0 ≤ s) (h1 : s < σ 0 1009) {U : Int} (hU : 0 ≤ U) (hU2 : U ≤ 20000) (hR : ∀ j, s < j → j ≤ σ 0 1009 → 0 ≤ R j ∧ R j ≤ U) : 0 ≤ (rdA σ R s).1.1 ∧ (rdA σ R s).1.1 ≤ U + 1584 ∧ (1 ≤ (rdA σ R s).1.2 ∧ (rdA σ R s).1.2 ≤ 4 ∧ s + (rdA σ R s).1.2 ≤ σ 0 1009) ∧ (0 ≤ (rdA σ R s).2.1 ∧ (rdA σ R s).2.1 < σ 0 1000 ∧ 0 ≤ (rdA σ R s).2.2 ∧ (rdA σ R s).2.2 ≤ 1584) := by
  have v := rdV_r hr hn h0 (n := 1) (by omega) (by omega)
  have w := hR (s + 1) (by omega) (by omega)
  obtain ⟨c, hc⟩ : ∃ c : Nat, rdC σ s = c + 1 := ⟨rdC σ s - 1, by rw [rdC]; omega⟩
  have hc2 : rdC σ s = (min 4 (σ 0 1009 - s)).toNat := rfl
  rw [rdA, hc, rdS, if_pos (by simp only; omega)]
  exact rdS_r hr hn h0 hU hR c 2 _ (by omega) (by omega) (by omega) (by simp only; omega) (by simp only; omega) (by simp only; omega) (by simp only; omega)
theorem rdR_r {σ : mS} (hr : rowOK (σ 0)) (hn : 0 < σ 0 1000) : ∀ k : Nat, (k : Int) ≤ σ 0 1009 → ∀ j, 0 ≤ rdR σ k j ∧ rdR σ k j ≤ 1584 * k
  | 0, _, j => by rw [rdR]; simp only; omega
  | k + 1, h, j => by
    have ih := rdR_r hr hn k (by omega)
    have h8 : σ 0 1009 ≤ 8 := by obtain ⟨-, q, -⟩ := id hr; omega
    rw [rdR]
    simp only
    split
    · have a := rdA_r hr hn (R := rdR σ k) (s := σ 0 1009 - (k + 1 : Nat)) (by omega) (by omega) (U := 1584 * k) (by omega) (by omega) (fun j _ _ => ih j)
      omega
    · have := ih j
      omega
theorem rdE_r {σ : mS} (hr : rowOK (σ 0)) (hn : 0 < σ 0 1000) {s : Int} (h0 : 0 ≤ s) (h1 : s < σ 0 1009) : 0 ≤ (rdE σ s).1.1 ∧ (rdE σ s).1.1 ≤ 14256 ∧ (1 ≤ (rdE σ s).1.2 ∧ (rdE σ s).1.2 ≤ 4 ∧ s + (rdE σ s).1.2 ≤ σ 0 1009) ∧ (0 ≤ (rdE σ s).2.1 ∧ (rdE σ s).2.1 < σ 0 1000 ∧ 0 ≤ (rdE σ s).2.2 ∧ (rdE σ s).2.2 ≤ 1584) := by
  have h8 : σ 0 1009 ≤ 8 := by obtain ⟨-, q, -⟩ := id hr; omega
  have r := rdR_r hr hn (σ 0 1009 - 1 - s).toNat (by omega)
  have a := rdA_r hr hn (R := rdR σ (σ 0 1009 - 1 - s).toNat) h0 h1 (U := 1584 * (σ 0 1009 - 1 - s).toNat) (by omega) (by omega) (fun j _ _ => r j)
  rw [rdE]
  omega
abbrev isRd (σ : mS) : Prop := 0 < σ 0 1000 ∧ 0 < σ 0 1009
def sp_reads (σ : mS) : Int := if isRd σ then (rdE σ 0).1.1 else -1
def rwF (f : Int → Int) (N k : Int) : Nat → Int → Int → Int × Int
  | 0, s, n => (s, n)
  | q + 1, s, n => if s < N ∧ n ≠ k then rwF f N k q (s + f s) (n + 1) else (s, n)
theorem rwF_stop {f : Int → Int} {N k s n : Int} (h : ¬ (s < N ∧ n ≠ k)) : ∀ q, rwF f N k q s n = (s, n)
  | 0 => rfl
  | q + 1 => by rw [rwF, if_neg h]
def rwE (σ : mS) (k : Int) : Int × Int := rwF (fun s => (rdE σ s).1.2) (σ 0 1009) k 9 0 0
def sp_read (σ : mS) (k w : Int) : Int := if isRd σ then (if k = -1 then (rwE σ k).2 else if k < 0 ∨ (rwE σ k).1 = σ 0 1009 ∨ ¬ (0 ≤ w ∧ w ≤ 2) then -1 else if w = 0 then (rdE σ (rwE σ k).1).1.2 else if w = 1 then (rdE σ (rwE σ k).1).2.1 else (rdE σ (rwE σ k).1).2.2) else -1
