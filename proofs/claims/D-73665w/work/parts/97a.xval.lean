set_option maxRecDepth 100000
/-! VALUES TRIED: the table as far as it is laid -/
def vtI (P : xPk) (t : xD) (σ : mS) (k which most m v : Int) : Prop := ∀ v' m', 0 ≤ v' → v' ≤ most → 0 ≤ m' → (m' < m ∨ (m' = m ∧ v' < v)) → t (P.2.2 32 v') m' = vlS σ k which m' v'
theorem vtI_0 {P : xPk} {t : xD} {σ : mS} {k which most : Int} : vtI P t σ k which most 0 0 := fun v' m' x y z u => by omega
theorem vtI_row {P : xPk} {t : xD} {σ : mS} {k which most m v : Int} (h : vtI P t σ k which most m v) (hv : most < v) : vtI P t σ k which most (m + 1) 0 := fun v' m' x y z u => h v' m' x y z (by omega)
theorem vtI_fr {Z : Nat → Nat} {S : xS} {R : xR} {P : xPk} {t t' : xD} {σ : mS} {k which most m v : Int} (hp : penOK Z S R P) (hm : most ≤ 40) (h : vtI P t σ k which most m v) (hf : ∀ (q : Nat) (j : Int), (S q).1 = 132 → t' q j = t q j) : vtI P t' σ k which most m v := fun v' m' x y z u => by
  rw [hf _ _ (pG_k hp 32 rfl (n := 41) rfl (i := v') (by omega) (m := 132) rfl)]
  exact h v' m' x y z u
theorem vtI_step {Z : Nat → Nat} {S : xS} {R : xR} {P : xPk} {t t' : xD} {σ : mS} {k which most m v : Int} (hp : penOK Z S R P) (hm : most ≤ 40) (hv : 0 ≤ v ∧ v ≤ most) (h : vtI P t σ k which most m v) (hf : ∀ (q : Nat) (j : Int), (S q).1 = 132 → (q ≠ P.2.2 32 v ∨ j ≠ m) → t' q j = t q j) (h1 : t' (P.2.2 32 v) m = vlS σ k which m v) : vtI P t' σ k which most m (v + 1) := by
  intro v' m' x y z u
  by_cases c : v' = v ∧ m' = m
  · rw [c.1, c.2]; exact h1
  · have n5 : P.2.2 32 v' ≠ P.2.2 32 v ∨ m' ≠ m := by
      by_cases c2 : v' = v
      · exact Or.inr (fun c3 => c ⟨c2, c3⟩)
      · exact Or.inl (pG_i hp 32 rfl (n := 41) rfl (by omega) (by omega) c2)
    rw [hf _ _ (pG_k hp 32 rfl (n := 41) rfl (i := v') (by omega) (m := 132) rfl) n5]
    exact h v' m' x y z (by omega)
