set_option maxRecDepth 100000
/-! THE TAPE -/
theorem i2c_256 : ∀ n : Nat, n < 256 → ((iI (n : Int)).toUInt32 % 65536).toInt32 = iI (n : Int) := by decide +kernel
theorem i2c_r {a : Int} (h : 0 ≤ a ∧ a < 256) : ((iI a).toUInt32 % 65536).toInt32 = iI a := by
  have := i2c_256 a.toNat (by omega)
  rw [show ((a.toNat : Nat) : Int) = a by omega] at this
  exact this
theorem narC_256 : ∀ n : Nat, n < 256 → vp_nar .char (iI (n : Int)) = iI (n : Int) := by decide +kernel
theorem narC {a : Int} (h : 0 ≤ a ∧ a < 256) : vp_nar .char (iI a) = iI a := by
  have := narC_256 a.toNat (by omega)
  rw [show ((a.toNat : Nat) : Int) = a by omega] at this
  exact this
/-- four bytes more on the tape -/
def layS (σ : mS) (v : Int) : mS := fun k j => if k = 11 then lay4 (σ 11) (σ 12 0) v j else if k = 12 ∧ j = 0 then σ 12 0 + 4 else σ k j
theorem layS_f {σ : mS} {v : Int} {k : Nat} (h : k ≠ 11 ∧ k ≠ 12) : layS σ v k = σ k := by
  funext j
  rw [layS, if_neg h.1, if_neg (fun z => h.2 z.1)]
theorem layS_t {σ : mS} {v : Int} : layS σ v 12 0 = σ 12 0 + 4 := rfl
