set_option maxRecDepth 100000
/-! THE PURE WORDS, 9: ranked by scores -/
abbrev ltR (f : Int → Int) (a b : Int) : Prop := f a < f b ∨ (f a = f b ∧ a < b)
/-- the place of m among 0 .. k-1 -/
def plF (f : Int → Int) (m : Int) : Nat → Int
  | 0 => 0
  | k + 1 => plF f m k + (if ltR f k m then 1 else 0)
theorem plF_le {f : Int → Int} {a b : Int} : ∀ N : Nat, (∀ o : Int, 0 ≤ o → o < N → ltR f o a → ltR f o b) → plF f a N ≤ plF f b N
  | 0, _ => Int.le_refl _
  | N + 1, h => by
    have ih := plF_le (f := f) (a := a) (b := b) N (fun o h0 h1 => h o h0 (by omega))
    have h2 := h N (by omega) (by omega)
    rw [plF, plF]
    by_cases c : ltR f N a
    · rw [if_pos c, if_pos (h2 c)]; omega
    · rw [if_neg c]; split <;> omega
theorem plF_lt {f : Int → Int} {a b : Int} : ∀ N : Nat, (∀ o : Int, 0 ≤ o → o < N → ltR f o a → ltR f o b) → (∃ o : Int, 0 ≤ o ∧ o < N ∧ ltR f o b ∧ ¬ ltR f o a) → plF f a N + 1 ≤ plF f b N
  | 0, _, ⟨o, h0, h1, _⟩ => by omega
  | N + 1, h, ⟨o, h0, h1, h2, h3⟩ => by
    by_cases q : o = N
    · subst q
      have ih := plF_le (f := f) (a := a) (b := b) N (fun o h0 h1 => h o h0 (by omega))
      rw [plF, plF, if_neg h3, if_pos h2]
      omega
    · have ih := plF_lt (f := f) (a := a) (b := b) N (fun o h0 h1 => h o h0 (by omega)) ⟨o, h0, by omega, h2, h3⟩
      have h4 := h N (by omega) (by omega)
      rw [plF, plF]
      by_cases c : ltR f N a
      · rw [if_pos c, if_pos (h4 c)]; omega
      · rw [if_neg c]; split <;> omega
theorem plF_r (f : Int → Int) (m : Int) : ∀ N : Nat, 0 ≤ plF f m N ∧ plF f m N ≤ N
  | 0 => by rw [plF]; omega
  | N + 1 => by
    have := plF_r f m N
    rw [plF]
    split <;> omega
theorem plF_step {f : Int → Int} {N : Nat} {a b : Int} (ha : 0 ≤ a) (ha2 : a < N) (h : ltR f a b) : plF f a N + 1 ≤ plF f b N := plF_lt N (fun o _ _ ho => by omega) ⟨a, ha, ha2, h, by omega⟩
theorem plF_inj {f : Int → Int} {N : Nat} {a b : Int} (ha : 0 ≤ a) (ha2 : a < N) (hb : 0 ≤ b) (hb2 : b < N) (h : plF f a N = plF f b N) : a = b := by
  rcases (show ltR f a b ∨ ltR f b a ∨ a = b by omega) with q | q | q
  · have := plF_step ha ha2 q; omega
  · have := plF_step hb hb2 q; omega
  · exact q
/-- each place is some one's -/
theorem rank_ex (f : Int → Int) : ∀ N : Nat, ∃ g : Int → Int, ∀ k : Int, 0 ≤ k → k < N → 0 ≤ g k ∧ g k < N ∧ plF f (g k) N = k
  | 0 => ⟨fun _ => 0, fun k h0 h1 => absurd h1 (by omega)⟩
  | N + 1 => by
    obtain ⟨g, hg⟩ := rank_ex f N
    have r := plF_r f N N
    refine ⟨fun j => if j < plF f N N then g j else if j = plF f N N then N else g (j - 1), fun j h0 h1 => ?_⟩
    simp only
    by_cases c1 : j < plF f N N
    · rw [if_pos c1]
      obtain ⟨a1, a2, a3⟩ := hg j h0 (by omega)
      refine ⟨a1, by omega, ?_⟩
      rw [plF, if_neg, a3]
      · omega
      · intro q
        have := plF_le (f := f) (a := N) (b := g j) N (fun o _ _ ho => by omega)
        omega
    · rw [if_neg c1]
      by_cases c2 : j = plF f N N
      · rw [if_pos c2]
        refine ⟨by omega, by omega, ?_⟩
        rw [plF, if_neg (by omega)]
        omega
      · rw [if_neg c2]
        obtain ⟨a1, a2, a3⟩ := hg (j - 1) (by omega) (by omega)
        refine ⟨a1, by omega, ?_⟩
        rw [plF, if_pos, a3]
        · omega
        · rcases (show ltR f (g (j - 1)) N ∨ ltR f N (g (j - 1)) by omega) with q | q
          · have := plF_step a1 a2 q
            omega
          · exact q
/-- the first of q, from m on, that has place p -/
def moF (f : Int → Int) (N : Nat) (p : Int) : Nat → Int → Int
  | 0, _ => -1
  | q + 1, m => if plF f m N = p then m else moF f N p q (m + 1)
/-- the model at place p; -1 -/
def moA (f : Int → Int) (N : Nat) (p : Int) : Int := moF f N p N 0
theorem moF_spec {f : Int → Int} {N : Nat} {p : Int} : ∀ (q : Nat) (m : Int), 0 ≤ m → (moF f N p q m = -1 ∧ ∀ o, m ≤ o → o < m + q → plF f o N ≠ p) ∨ (m ≤ moF f N p q m ∧ moF f N p q m < m + q ∧ plF f (moF f N p q m) N = p)
  | 0, m, h => Or.inl ⟨rfl, fun o h0 h1 => absurd h1 (by omega)⟩
  | q + 1, m, h => by
    rw [moF]
    by_cases c : plF f m N = p
    · rw [if_pos c]; exact Or.inr ⟨by omega, by omega, c⟩
    · rw [if_neg c]
      rcases moF_spec (f := f) (N := N) (p := p) q (m + 1) (by omega) with ⟨a, b⟩ | ⟨a, b, d⟩
      · refine Or.inl ⟨a, fun o h0 h1 => ?_⟩
        by_cases z : o = m
        · subst z; exact c
        · exact b o (by omega) (by omega)
      · exact Or.inr ⟨by omega, by omega, d⟩
theorem moA_in {f : Int → Int} {N : Nat} {p : Int} (h0 : 0 ≤ p) (h1 : p < N) : 0 ≤ moA f N p ∧ moA f N p < N ∧ plF f (moA f N p) N = p := by
  rcases moF_spec (f := f) (N := N) (p := p) N 0 (by omega) with ⟨-, b⟩ | ⟨a, b, d⟩
  · obtain ⟨g, hg⟩ := rank_ex f N
    obtain ⟨a1, a2, a3⟩ := hg p h0 h1
    exact absurd a3 (b (g p) (by omega) (by omega))
  · exact ⟨a, by rw [moA]; omega, d⟩
theorem moA_r (f : Int → Int) (N : Nat) (p : Int) : -1 ≤ moA f N p ∧ moA f N p < (N : Int) ∨ moA f N p = -1 := by
  rcases moF_spec (f := f) (N := N) (p := p) N 0 (by omega) with ⟨a, -⟩ | ⟨a, b, -⟩
  · exact Or.inr a
  · exact Or.inl ⟨by rw [moA]; omega, by rw [moA]; omega⟩
theorem moA_eq {f : Int → Int} {N : Nat} {m p : Int} (h0 : 0 ≤ m) (h1 : m < N) (h : plF f m N = p) : moA f N p = m := by
  have r := plF_r f m N
  rcases moF_spec (f := f) (N := N) (p := p) N 0 (by omega) with ⟨-, b⟩ | ⟨a, b, d⟩
  · exact absurd h (b m (by omega) (by omega))
  · exact plF_inj (a := moA f N p) a (by rw [moA]; omega) h0 h1 (d.trans h.symm)
theorem plF_congr {f g : Int → Int} {N : Nat} (h : ∀ o : Int, 0 ≤ o → o < N → f o = g o) {m : Int} (h0 : 0 ≤ m) (h1 : m < N) : ∀ k : Nat, k ≤ N → plF f m k = plF g m k
  | 0, _ => rfl
  | k + 1, hk => by rw [plF, plF, plF_congr h h0 h1 k (by omega)]; simp only [ltR, h k (by omega) (by omega), h m h0 h1]
theorem moF_congr {f g : Int → Int} {N : Nat} (h : ∀ o : Int, 0 ≤ o → o < N → f o = g o) (p : Int) : ∀ (q : Nat) (m : Int), 0 ≤ m → m + q ≤ N → moF f N p q m = moF g N p q m
  | 0, _, _, _ => rfl
  | q + 1, m, h0, h1 => by rw [moF, moF, plF_congr h h0 (by omega) N (Nat.le_refl _), moF_congr h p q (m + 1) (by omega) (by omega)]
theorem moA_congr {f g : Int → Int} {N : Nat} (h : ∀ o : Int, 0 ≤ o → o < N → f o = g o) (p : Int) : moA f N p = moA g N p := moF_congr h p N 0 (by omega) (by omega)
/-- the scores of some strokes with all models -/
def scM (σ : mS) (a n m : Int) : Int := scS σ a n (fsS m) (mnS σ m)
theorem scM_r {σ : mS} (hr : rowOK (σ 0)) {a n m : Int} (ha : letS σ a n) (h0 : 0 ≤ m) (h1 : m < σ 0 1000) : 0 ≤ scM σ a n m ∧ scM σ a n m ≤ 1584 := scS_r hr ha (letS_of hr (Or.inr ⟨h0, h1⟩))
theorem scM_same {τ σ : mS} (h0 : τ 0 = σ 0) (h7 : τ 7 = σ 7) (h8 : τ 8 = σ 8) : scM τ = scM σ := by
  funext a n m
  rw [scM, scM, scS_same h0 h7 h8, mnS_same h0]
/-- the ink's strokes are a letter -/
theorem inkS {σ : mS} (hr : rowOK (σ 0)) : letS σ 0 (σ 0 1009) := by
  have := letS_of hr (m := -1) (Or.inl rfl)
  rw [fsS, mnS, if_pos rfl, if_pos rfl] at this
  exact this
def nMod (σ : mS) : Nat := (σ 0 1000).toNat
def sp_rank (σ : mS) (k : Int) : Int := moA (scM σ 0 (σ 0 1009)) (nMod σ) k
/-- by how much the second one's score is more -/
def mgn (f : Int → Int) (N : Nat) : Int := if N < 2 then -1000000 else f (moA f N 1) - f (moA f N 0)
def sp_margin (σ : mS) : Int := mgn (scM σ 0 (σ 0 1009)) (nMod σ)
def sp_sure (σ : mS) : Int := if σ 0 1000 = 0 then -1 else if σ 0 1000 = 1 ∨ σ 0 1046 ≤ sp_margin σ then 1 else 0
theorem mgn_congr {f g : Int → Int} {N : Nat} (h : ∀ o : Int, 0 ≤ o → o < N → f o = g o) : mgn f N = mgn g N := by
  rw [mgn, mgn]
  split
  · rfl
  · have a := moA_in (f := f) (N := N) (p := 0) (by omega) (by omega)
    have b := moA_in (f := f) (N := N) (p := 1) (by omega) (by omega)
    rw [h _ a.1 a.2.1, h _ b.1 b.2.1, moA_congr h, moA_congr h]
theorem mgn_r {f : Int → Int} {N : Nat} (h : ∀ o : Int, 0 ≤ o → o < N → 0 ≤ f o ∧ f o ≤ 1584) : -1000000 ≤ mgn f N ∧ mgn f N ≤ 1584 := by
  rw [mgn]
  split
  · omega
  · have a := moA_in (f := f) (N := N) (p := 0) (by omega) (by omega)
    have b := moA_in (f := f) (N := N) (p := 1) (by omega) (by omega)
    have c := h _ a.1 a.2.1
    have d := h _ b.1 b.2.1
    omega
