set_option maxRecDepth 100000
/-! THE INK WOBBLES -/
/-- seeds -/
def sdN (s : Int) : Nat → Int
  | 0 => s
  | k + 1 => sdF (sdN s k)
theorem us_us (σ : mS) (k : Nat) (i x y : Int) : us (us σ k i x) k i y = us σ k i y := by
  funext q j
  simp only [us]
  split <;> rfl
theorem wbK_sp {n s : Int} : ∀ (q : Nat) (a : (Int → Int) × Int), (wbK n s q a).2 = sdN a.2 q ∧ ∀ j : Int, 0 ≤ j → j < q → (wbK n s q a).1 (24 * s + j) = wbV (a.1 (24 * s + j)) n (sdN a.2 j.toNat)
  | 0, a => ⟨rfl, fun j x y => by omega⟩
  | q + 1, a => by
    obtain ⟨h1, h2⟩ := wbK_sp q a
    refine ⟨by rw [wbK, sdN, h1], fun j x y => ?_⟩
    rw [wbK]
    simp only
    by_cases c : j = q
    · rw [c, up_s, h1, wbK_off q a _ (Or.inr (by omega)), show ((q : Nat) : Int).toNat = q by omega]
    · rw [up_n (by omega)]
      exact h2 j x (by omega)
theorem wbV_r (x n sd : Int) : 0 ≤ wbV x n sd ∧ wbV x n sd ≤ 99 := by rw [wbV]; omega
theorem sdN_r {s : Int} (h : 0 ≤ s ∧ s < 2147483648) : ∀ k, 0 ≤ sdN s k ∧ sdN s k < 2147483648
  | 0 => h
  | k + 1 => sdF_r _
def wobS (σ : mS) (n : Int) : mS := fun k j => if k = 0 then (wbS n (fun s => σ 0 (960 + s)) (σ 0 1009).toNat (σ 0, σ 5 0)).1 j else if k = 5 ∧ j = 0 then (wbS n (fun s => σ 0 (960 + s)) (σ 0 1009).toNat (σ 0, σ 5 0)).2 else remS σ k j
section WO
variable {E : gE} {Z : Nat → Nat} {S S' : xS} {D D' : xD} {R R' : xR} {P : xPk} {σ τ : mS}
theorem nowF_w (hS : ∀ q, (S q).1 ≠ 0 → S' q = S q) (hR : ∀ q, (S q).1 ≠ 0 → R' q = R q) (hD : ∀ q, (S q).1 = 10 ∨ (S q).1 = 11 ∨ (S q).1 = 45 → D' q = D q) (kP : (S P.1).1 = 1) {N NI NM NV : Nat} (h : nowF S D R P σ N NI NM NV) : nowF S' D' R' P σ N NI NM NV := by
  obtain ⟨⟨a1, a2⟩, ⟨b1, b2⟩, ⟨c1, c2⟩, ⟨d1, d2⟩, e1, e2, f0, f1, f2, f3, f4, f5, g1, g2, g3, g4⟩ := h
  have rP := hR P.1 (by rw [kP]; decide)
  have rN := hR N (by rw [a2]; decide)
  have k45 : (S NV).1 = 45 := by rw [d2]
  have kd : (S NV).1 ≠ 0 := by rw [k45]; decide
  have dV := hD NV (Or.inr (Or.inr k45))
  have q4 : rf R' P.1 4 = rf R P.1 4 := by rw [rf, rf, rP]
  have qN : ∀ j, rf R' N j = rf R N j := fun j => by rw [rf, rf, rN]
  exact ⟨⟨by rw [rP]; exact a1, by rw [hS N (by rw [a2]; decide)]; exact a2⟩, ⟨by rw [rN]; exact b1, by rw [hS NM (by rw [b2]; decide)]; exact b2⟩, ⟨by rw [rN]; exact c1, by rw [hS NI (by rw [c2]; decide)]; exact c2⟩, ⟨by rw [rN]; exact d1, by rw [hS NV kd]; exact d2⟩, by rw [hD NI (Or.inl c2)]; exact e1, by rw [hD NM (Or.inr (Or.inl b2))]; exact e2, by rw [dV]; exact f0, by rw [dV]; exact f1, by rw [dV]; exact f2, by rw [dV]; exact f3, by rw [dV]; exact f4, by rw [dV]; exact f5, by rw [q4]; exact g1, by rw [qN]; exact g2, by rw [qN]; exact g3, by rw [qN]; exact g4⟩
theorem act_wob (hx : Rx E Z S D R P τ) {k : Int} (hk : 0 ≤ k ∧ k < τ 0 1009) {q : Nat} {g r' : Int → Int} (hq : skR S D R q (τ 0 (960 + k)) g) (h : GI E Z S D' R' ∧ D' = D ∧ chg (lT S (rf R (rf R P.1 4) 1)) S S D D' R R' ∧ ∀ j, 0 ≤ j → j < D (rf R (rf R P.1 4) 1) 2 → lE R' (rf R (rf R P.1 4) 1) j = if j = k then q else lE R (rf R (rf R P.1 4) 1) j) (h1 : ∀ j, (j < 24 * k ∨ 24 * k + 2 * τ 0 (960 + k) ≤ j) → r' j = τ 0 j) (h2 : ∀ j, 0 ≤ j → j < 2 * τ 0 (960 + k) → r' (24 * k + j) = g j) : Rx E Z S D' R' P (rowS τ r') := by
  have hs := hx.2.2.2.2.1.2
  have hr := hx.2.2.2.1
  have b9 := hr.2.1
  have kk := (kNI hx).1
  obtain ⟨g', eD, hc, eE⟩ := h
  have hsk := hr.2.2.2.2.2.2.2.2.2.1
  have w12 := (hsk k hk.1 hk.2).2.1
  have hh : ∀ j, 192 ≤ j → r' j = τ 0 j := fun j x => h1 j (by omega)
  refine Rx_ink hx g' hc (by rw [eD, hs.2.2.1, hh 1009 (by decide)]) (by rw [hh 1009 (by decide)]; exact b9.2) (fun i x y => ?_) (fun j a b => hh j (by omega))
  rw [hh 1009 (by decide)] at y
  rw [eE i x (by rw [hs.2.2.1]; exact y), hh (960 + i) (by omega)]
  have w := (hsk i x y).2.1
  by_cases c : i = k
  · rw [if_pos c, c]
    exact skR_to (skR_chg hc (lT_k (by omega)) hx.1.1 hq) rfl (fun j x9 y9 => h2 j x9 y9)
  · rw [if_neg c]
    exact skR_to (skR_chg hc (lT_k (by omega)) hx.1.1 (hs.2.2.2.1 i x y)) rfl (fun j x9 y9 => h1 _ (by omega))
end WO
/-- only the seed has changed -/
theorem fr_35 {S : xS} {D D' : xD} (hf : fr S D D' [1035]) {q : Nat} (h1 : (S q).1 ≠ 1) (h2 : (S q).1 ≠ 1035) (j : Int) : D' q j = D q j := hf q j (by
  simp only [List.mem_cons, List.not_mem_nil, or_false]
  rw [md]
  split
  · decide
  · split
    · omega
    · exact h2)
theorem wbS_hi (n : Int) (many : Int → Int) {N : Int} (hm : ∀ s, 0 ≤ s → s < N → many s ≤ 12) {a : (Int → Int) × Int} : ∀ k : Nat, (k : Int) ≤ N → (∀ j, 192 ≤ j → N ≤ 8 → (wbS n many k a).1 j = a.1 j)
  | 0, _ => fun j _ _ => rfl
  | k + 1, h => fun j x h8 => by
    have w := hm k (by omega) (by omega)
    rw [wbS, wbK_off _ _ _ (Or.inr (by omega))]
    exact wbS_hi n many hm k (by omega) j x h8
