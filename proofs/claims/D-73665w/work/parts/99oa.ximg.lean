set_option maxRecDepth 100000
/-! IMAGES -/
def wrS (σ : mS) (v : Int) : mS := fun k j => if k = 39 then up (σ 39) (σ 40 0) v j else if k = 40 ∧ j = 0 then σ 40 0 + 1 else σ k j
theorem wrS_f {σ : mS} {v : Int} {k : Nat} (h : k ≠ 39 ∧ k ≠ 40) : wrS σ v k = σ k := by
  funext j
  rw [wrS, if_neg h.1, if_neg (fun z => h.2 z.1)]
theorem wrS_39 (σ : mS) (v : Int) : wrS σ v 39 = up (σ 39) (σ 40 0) v := by funext j; rfl
theorem wrS_40 (σ : mS) (v : Int) : wrS σ v 40 0 = σ 40 0 + 1 := rfl
def imgS (σ : mS) : mS := fun k j => if k = 39 then (imE σ).1 j else if k = 40 ∧ j = 0 then (imE σ).2 else σ k j
