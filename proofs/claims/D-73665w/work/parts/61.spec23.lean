set_option maxRecDepth 100000
/-! THE PURE WORDS, 23: the parser's state -/
/-- what the parser looks at is the same -/
def pEq (t σ : mS) : Prop := t 11 = σ 11 ∧ t 21 = σ 21 ∧ t 1 = σ 1 ∧ t 16 0 = σ 16 0 ∧ t 17 0 = σ 17 0 ∧ t 18 0 = σ 18 0 ∧ t 19 0 = σ 19 0 ∧ t 20 0 = σ 20 0
theorem pEq.refl (σ : mS) : pEq σ σ := ⟨rfl, rfl, rfl, rfl, rfl, rfl, rfl, rfl⟩
theorem pEq.trans {a b c : mS} (h : pEq a b) (g : pEq b c) : pEq a c := ⟨h.1.trans g.1, h.2.1.trans g.2.1, h.2.2.1.trans g.2.2.1, h.2.2.2.1.trans g.2.2.2.1, h.2.2.2.2.1.trans g.2.2.2.2.1, h.2.2.2.2.2.1.trans g.2.2.2.2.2.1, h.2.2.2.2.2.2.1.trans g.2.2.2.2.2.2.1, h.2.2.2.2.2.2.2.trans g.2.2.2.2.2.2.2⟩
theorem hrS_of {t σ : mS} (h : pEq t σ) : hrS t = hrS σ := by
  obtain ⟨h11, -, -, h16, h17, -⟩ := h
  rw [hrS, hrS, skZ_of h11 h16, h17]
theorem wdS_of {t σ : mS} (h : pEq t σ) : wdS t = wdS σ := by
  have hh := hrS_of h
  obtain ⟨h11, -, -, h16, h17, h18, h19, h20⟩ := h
  simp only [wdS, beW, hh, bya_of h11 h16, h17, h18, h19, h20]
  rw [show skZ isSl t (hrS σ) = skZ isSl σ (hrS σ) by rw [skZ_of h11 h16]]
theorem ewS_of {t σ : mS} (h : pEq t σ) : ewS t = ewS σ := by
  have hh := hrS_of h
  obtain ⟨h11, -, -, h16, h17, h18, h19, h20⟩ := h
  simp only [ewS, hh, bya_of h11 h16, h17, h19, h20]
theorem nuE_of {t σ : mS} (h : pEq t σ) : nuE t = nuE σ := funext fun q => by
  simp only [nuE, bya_of h.1 h.2.2.2.1]
theorem nuV_of {t σ : mS} (h : pEq t σ) : nuV t = nuV σ := funext fun q => by
  simp only [nuV, bya_of h.1 h.2.2.2.1]
theorem nuK_of {t σ : mS} (h : pEq t σ) (lo hi : Int) : nuK t lo hi = nuK σ lo hi := by
  simp only [nuK, beW, hrS_of h, nuV_of h, bya_of h.1 h.2.2.2.1, h.2.2.2.2.2.2.1]
theorem owE_of {t σ : mS} (h : pEq t σ) (n : Int) : ∀ i, owE t n i = owE σ n i
  | 0 => rfl
  | i + 1 => by rw [owE, owE, owE_of h n i, h.1, h.2.2.2.2.2.1]
theorem owF_of {t σ : mS} (h : pEq t σ) : ∀ (m : Nat) (n : Int), owF t m n = owF σ m n
  | 0, n => rfl
  | m + 1, n => by
    simp only [owF, owM, owE_of h, owF_of h m, h.2.2.2.2.1, h.2.2.2.2.2.1]
theorem sp_own_of {t σ : mS} (h : pEq t σ) : sp_own t = sp_own σ := owF_of h 10 0
theorem owF_r {σ : mS} : ∀ (m : Nat) (n : Int), 0 ≤ n → owF σ m n = -1 ∨ (n ≤ owF σ m n ∧ owF σ m n < n + m)
  | 0, n, _ => Or.inl rfl
  | m + 1, n, h => by
    rw [owF]
    split
    · right; omega
    · rcases owF_r (σ := σ) m (n + 1) (by omega) with z | z
      · exact Or.inl z
      · right; omega
theorem sp_own_r (σ : mS) : -1 ≤ sp_own σ ∧ sp_own σ ≤ 9 := by
  rcases owF_r (σ := σ) 10 0 (by omega) with z | z <;> rw [sp_own] <;> omega
/-- the four numbers of the parser set anew -/
def pzT (σ : mS) (x : (Int × Int) × (Int × Int)) : mS := fun k j => if j = 0 then (if k = 17 then x.1.1 else if k = 18 then x.1.2 else if k = 19 then x.2.1 else if k = 20 then x.2.2 else σ k j) else σ k j
theorem pzT_1 (σ : mS) (x) : pzT σ x 1 = σ 1 := funext fun j => by rw [pzT]; split <;> rfl
theorem pzT_11 (σ : mS) (x) : pzT σ x 11 = σ 11 := funext fun j => by rw [pzT]; split <;> rfl
theorem pzT_21 (σ : mS) (x) : pzT σ x 21 = σ 21 := funext fun j => by rw [pzT]; split <;> rfl
theorem pzT_16 (σ : mS) (x) : pzT σ x 16 0 = σ 16 0 := rfl
theorem pzT_eq {t σ : mS} {x} (h11 : t 11 = σ 11) (h21 : t 21 = σ 21) (h1 : t 1 = σ 1) (h16 : t 16 0 = σ 16 0) (h : p4R t x) : pEq t (pzT σ x) := ⟨h11.trans (pzT_11 σ x).symm, h21.trans (pzT_21 σ x).symm, h1.trans (pzT_1 σ x).symm, h16, h.1, h.2.1, h.2.2.1, h.2.2.2⟩
/-- behind a word -/
theorem wdS_r {σ : mS} (hat : 0 ≤ σ 17 0 ∧ σ 17 0 ≤ σ 16 0) (hf : 0 ≤ σ 18 0 ∧ σ 18 0 ≤ σ 17 0) (hw : 0 ≤ σ 19 0 ∧ σ 19 0 ≤ 5) : (0 ≤ (wdS σ).1.2 ∧ (wdS σ).1.2 ≤ (wdS σ).1.1 ∧ (wdS σ).1.1 ≤ σ 16 0) ∧ 0 ≤ (wdS σ).2.1 ∧ (wdS σ).2.1 ≤ 5 := by
  have hh := hrS_r hat.2
  have h2 := skZ_r isSl σ hh.2
  rw [wdS]
  split
  · split <;> simp only <;> omega
  · simp only; omega
abbrev nuX (σ : mS) (lo hi : Int) : (Int × Int) × (Int × Int) := (((if nuK σ lo hi = 0 then σ 17 0 else if nuK σ lo hi = 1 then hrS σ else nuE σ (hrS σ)), (if nuK σ lo hi = 0 then σ 18 0 else hrS σ)), ((if nuK σ lo hi = 0 then σ 19 0 else if nuK σ lo hi = 4 then 0 else if nuK σ lo hi = 3 then 2 else 1), (if nuK σ lo hi = 0 ∨ nuK σ lo hi = 4 then σ 20 0 else if nuK σ lo hi = 2 then hrS σ + 2 else hrS σ)))
theorem nuX_of {t σ : mS} (h : pEq t σ) (lo hi : Int) : nuX t lo hi = nuX σ lo hi := by
  rw [nuX, nuX, nuK_of h, hrS_of h, nuE_of h, h.2.2.2.2.1, h.2.2.2.2.2.1, h.2.2.2.2.2.2.1, h.2.2.2.2.2.2.2]
theorem nuR_X {t σ : mS} {lo hi : Int} (h : nuR t σ lo hi) : p4R t (nuX σ lo hi) := h
abbrev loO (w : Int) : Int := lowF (w - 1)
abbrev hiO (w : Int) : Int := hghF (w - 1)
def wdT (σ : mS) : mS := pzT σ (wdS σ)
/-- a value set by the text -/
def rsT (σ : mS) : mS :=
  if (wdS σ).2.1 = 0 then (if 1 ≤ sp_own (wdT σ) ∧ sp_own (wdT σ) ≤ 6 then (if nuK (wdT σ) (loO (sp_own (wdT σ))) (hiO (sp_own (wdT σ))) = 4 then us (pzT (wdT σ) (nuX (wdT σ) (loO (sp_own (wdT σ))) (hiO (sp_own (wdT σ))))) 1 (1042 + sp_own (wdT σ) - 1) (nuV (wdT σ) (hrS (wdT σ))) else pzT (wdT σ) (nuX (wdT σ) (loO (sp_own (wdT σ))) (hiO (sp_own (wdT σ))))) else pzT (wdT σ) (((wdS σ).1.1, (wdS σ).1.2), (1, (wdS σ).1.2))) else wdT σ
theorem nuK_r (σ : mS) (lo hi : Int) : 0 ≤ nuK σ lo hi ∧ nuK σ lo hi ≤ 4 ∧ (σ 19 0 = 0 → nuK σ lo hi ≠ 0) := by
  rw [nuK]
  split
  · omega
  · split
    · omega
    · split
      · omega
      · split <;> omega
theorem pEq_us1 {a b : mS} (h : pEq a b) (i x : Int) : pEq (us a 1 i x) (us b 1 i x) := by
  obtain ⟨h11, h21, h1, h16, h17, h18, h19, h20⟩ := h
  refine ⟨?_, ?_, ?_, ?_, ?_, ?_, ?_, ?_⟩
  · funext j; simp [us, h11]
  · funext j; simp [us, h21]
  · funext j; simp [us, h1]
  all_goals simp [us, h16, h17, h18, h19, h20]
