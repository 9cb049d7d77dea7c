set_option maxRecDepth 100000
/-! VALUES THAT FIT, THE BEST VALUE -/
theorem narZ {a : Int} (h : a = 0 ∨ a = 1) : vp_nar .boolean (iI a) = iI a := by rcases h with h | h <;> rw [h] <;> decide +kernel
theorem and01 {a b : Int} (ha : a = 0 ∨ a = 1) (hb : b = 0 ∨ b = 1) : iI a &&& iI b = iI (if b = 0 then 0 else a) := by
  rcases ha with h | h <;> rcases hb with g | g <;> rw [h, g] <;> decide +kernel
theorem rgF_le {S : Int → Int} {its : Int} : ∀ {N : Nat} {m : Int}, 0 ≤ m → m < N → m ≠ its → (rgF S its 1 N).2 ≤ S m - S its
  | 0, m, h0, h1, _ => by omega
  | N + 1, m, h0, h1, hm => by
    rw [rg_step]
    by_cases c : m = N
    · subst c
      rw [if_neg hm]
      show min _ _ ≤ _
      omega
    · have ih := rgF_le (S := S) (its := its) (N := N) h0 (by omega) hm
      split
      · exact ih
      · show min _ _ ≤ _
        omega
theorem rgE_le {σ : mS} (hr : rowOK (σ 0)) (ht : tolOK σ) {k q v : Int} (hk : 0 ≤ k ∧ k < σ 6 0) (hv : 0 ≤ v ∧ v < 41) (h2 : 2 ≤ σ 0 1000) (hm : 0 ≤ σ 10 k ∧ σ 10 k < σ 0 1000) : (rgE σ k q v).2 ≤ 1584 := by
  have hn : ((nMod σ : Nat) : Int) = σ 0 1000 := by rw [nMod]; omega
  have g := vlS_r hr ht (which := q) hk hm hv
  rw [rgE, isM, if_pos hm]
  by_cases c : σ 10 k = 0
  · have w := rgF_le (S := fun m => vlS σ k q m v) (its := σ 10 k) (N := nMod σ) (m := 1) (by omega) (by omega) (by omega)
    have z := vlS_r hr ht (which := q) hk (m := 1) (by omega) hv
    omega
  · have w := rgF_le (S := fun m => vlS σ k q m v) (its := σ 10 k) (N := nMod σ) (m := 0) (by omega) (by omega) (by omega)
    have z := vlS_r hr ht (which := q) hk (m := 0) (by omega) hv
    omega
theorem rb_s {σ : mS} {q v i : Int} (h : 0 ≤ i) : rbF σ q v (i + 1).toNat = min (rbF σ q v i.toNat) (rgE σ i q v).2 ∧ dfF σ q v (i + 1).toNat = if (rgE σ i q v).1 = 0 then 0 else dfF σ q v i.toNat := by
  rw [show (i + 1).toNat = i.toNat + 1 by omega, rbF, dfF, show ((i.toNat : Nat) : Int) = i by omega]
  exact ⟨rfl, rfl⟩
theorem allM_s {σ : mS} {i : Int} (h : 0 ≤ i) (ha : allM σ i.toNat = true) (hm : 0 ≤ σ 10 i ∧ σ 10 i < σ 0 1000) : allM σ (i + 1).toNat = true := by
  rw [show (i + 1).toNat = i.toNat + 1 by omega, allM, ha, show ((i.toNat : Nat) : Int) = i by omega]
  simp [hm]
theorem bvF_r {r : Int → Int} : ∀ (q : Nat) {v x : Int}, 0 ≤ x → x ≤ v + q → 0 ≤ v → 0 ≤ bvF r q v x ∧ bvF r q v x ≤ v + q
  | 0, v, x, h0, h1, _ => ⟨h0, h1⟩
  | q + 1, v, x, h0, h1, h2 => by
    rw [bvF]
    have a := bvF_r (r := r) q (v := v + 1) (x := if r x < r v then v else x) (by split <;> omega) (by split <;> omega) (by omega)
    omega
