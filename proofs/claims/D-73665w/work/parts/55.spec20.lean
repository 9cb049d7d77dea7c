set_option maxRecDepth 100000
/-! THE PURE WORDS, 20: a number of the text -/
def nuE (σ : mS) (q : Int) : Int := if ¬ isDg (bya σ (q + 1)) then q + 1 else if ¬ isDg (bya σ (q + 2)) then q + 2 else q + 3
def nuV (σ : mS) (q : Int) : Int := if ¬ isDg (bya σ (q + 1)) then bya σ q - 48 else 10 * (bya σ q - 48) + (bya σ (q + 1) - 48)
/-- what comes of it: 0 all was wrong before, 1 there is none, 2 too long, 3 out of range, 4 well -/
def nuK (σ : mS) (lo hi : Int) : Int :=
  if ¬ σ 19 0 = 0 then 0 else if ¬ beW isDg σ (hrS σ) then 1 else if isDg (bya σ (hrS σ + 1)) ∧ isDg (bya σ (hrS σ + 2)) then 2 else if lo ≤ nuV σ (hrS σ) ∧ nuV σ (hrS σ) ≤ hi then 4 else 3
def nuR (t σ : mS) (lo hi : Int) : Prop :=
  t 17 0 = (if nuK σ lo hi = 0 then σ 17 0 else if nuK σ lo hi = 1 then hrS σ else nuE σ (hrS σ)) ∧ t 18 0 = (if nuK σ lo hi = 0 then σ 18 0 else hrS σ) ∧ t 19 0 = (if nuK σ lo hi = 0 then σ 19 0 else if nuK σ lo hi = 4 then 0 else if nuK σ lo hi = 3 then 2 else 1) ∧ t 20 0 = (if nuK σ lo hi = 0 ∨ nuK σ lo hi = 4 then σ 20 0 else if nuK σ lo hi = 2 then hrS σ + 2 else hrS σ)
/-- behind k digits -/
def nuI (σ : mS) (k v : Int) : Prop := (k = 0 ∧ v = 0) ∨ (k = 1 ∧ v = bya σ (hrS σ) - 48) ∨ (k = 2 ∧ v = 10 * (bya σ (hrS σ) - 48) + (bya σ (hrS σ + 1) - 48) ∧ isDg (bya σ (hrS σ + 1))) ∨ (k = 3 ∧ 0 ≤ v ∧ v ≤ 999 ∧ isDg (bya σ (hrS σ + 1)) ∧ isDg (bya σ (hrS σ + 2)))
theorem nuI_r {σ : mS} {k v : Int} (h : nuI σ k v) (h0 : isDg (bya σ (hrS σ))) : 0 ≤ k ∧ k ≤ 3 ∧ 0 ≤ v ∧ v ≤ 999 ∧ (k < 3 → v ≤ 99) := by
  rw [isDg] at h0
  rcases h with h | h | h | h
  · omega
  · omega
  · obtain ⟨a, b, c⟩ := h
    rw [isDg] at c; omega
  · omega
theorem nuI_s {σ : mS} {k v : Int} (h : nuI σ k v) (h0 : isDg (bya σ (hrS σ))) (h3 : k < 3) (hd : isDg (bya σ (hrS σ + k))) : nuI σ (k + 1) (10 * v + bya σ (hrS σ + k) - 48) := by
  have hr := nuI_r h h0
  have hd' := hd
  rw [isDg] at hd'
  rcases h with ⟨a, b⟩ | ⟨a, b⟩ | ⟨a, b, c⟩ | h
  · right; left
    rw [a, Int.add_zero]; omega
  · right; right; left
    rw [a] at hd ⊢
    exact ⟨rfl, by omega, hd⟩
  · right; right; right
    rw [a] at hd hd' ⊢
    exact ⟨rfl, by omega, by omega, c, hd⟩
  · omega
theorem nuK_fin {σ : mS} {lo hi k v : Int} (h19 : σ 19 0 = 0) (hb : beW isDg σ (hrS σ)) (hI : nuI σ k v) (hx : ¬ isDg (bya σ (hrS σ + k)) ∨ k = 3) : (k = 3 ∧ nuK σ lo hi = 2 ∧ nuE σ (hrS σ) = hrS σ + 3) ∨ (k < 3 ∧ v = nuV σ (hrS σ) ∧ nuE σ (hrS σ) = hrS σ + k ∧ nuK σ lo hi = if lo ≤ v ∧ v ≤ hi then 4 else 3) := by
  rcases hI with ⟨a, b⟩ | ⟨a, b⟩ | ⟨a, b, c⟩ | ⟨a, -, -, c, d⟩
  · rw [a, Int.add_zero] at hx
    rcases hx with hx | hx
    · exact absurd hb.1 hx
    · omega
  · right
    rw [a] at hx
    have hn : ¬ isDg (bya σ (hrS σ + 1)) := by
      rcases hx with hx | hx
      · exact hx
      · omega
    have hv : nuV σ (hrS σ) = v := by rw [nuV, if_pos hn, b]
    refine ⟨by omega, hv.symm, by rw [nuE, if_pos hn, a], ?_⟩
    rw [nuK, if_neg (by omega), if_neg (fun z => z hb), if_neg (fun z => hn z.1), hv]
  · right
    rw [a] at hx
    have hn : ¬ isDg (bya σ (hrS σ + 2)) := by
      rcases hx with hx | hx
      · exact hx
      · omega
    have hv : nuV σ (hrS σ) = v := by rw [nuV, if_neg (fun z => z c), b]
    refine ⟨by omega, hv.symm, by rw [nuE, if_neg (fun z => z c), if_pos hn, a], ?_⟩
    rw [nuK, if_neg (by omega), if_neg (fun z => z hb), if_neg (fun z => hn z.2), hv]
  · left
    refine ⟨a, by rw [nuK, if_neg (by omega), if_neg (fun z => z hb), if_pos ⟨c, d⟩], by rw [nuE, if_neg (fun z => z c), if_neg (fun z => z d)]⟩
/-- the fault of a third digit -/
def nu2 (t σ : mS) (k : Int) : Prop := (k = 3 ∧ t 19 0 = 1 ∧ t 20 0 = hrS σ + 2) ∨ (k < 3 ∧ t 19 0 = 0 ∧ t 20 0 = σ 20 0)
theorem nu2_r {t σ : mS} {k : Int} (h : nu2 t σ k) : 0 ≤ t 19 0 ∧ t 19 0 ≤ 1 ∧ (t 19 0 = 0 → k < 3) ∧ (t 19 0 ≠ 0 → k = 3) := by
  rcases h with h | h <;> omega
