set_option maxRecDepth 100000
/-! THE PURE WORDS, 8: partners, ranks -/
theorem prP_t {c : Int → Int → Int} {lo : Int} {om fm : Nat} {i : Int} {S : Nat} {j : Int} (h1 : ¬ S.testBit j.toNat = true) (h2 : c i j + bsF c lo om fm (fm - (i + 1)).toNat (S ||| 2 ^ j.toNat) = bsF c lo om fm (fm - i).toNat S) : prP c lo om fm i S j = true := decide_eq_true ⟨h1, h2⟩
theorem prP_f {c : Int → Int → Int} {lo : Int} {om fm : Nat} {i : Int} {S : Nat} {j : Int} (h : S.testBit j.toNat = true ∨ c i j + bsF c lo om fm (fm - (i + 1)).toNat (S ||| 2 ^ j.toNat) ≠ bsF c lo om fm (fm - i).toNat S) : ¬ prP c lo om fm i S j = true := by
  intro q
  obtain ⟨q1, q2⟩ := of_decide_eq_true q
  rcases h with h | h
  · exact q1 h
  · exact h q2
theorem pcL_same {τ σ : mS} (h0 : τ 0 = σ 0) (h7 : τ 7 = σ 7) (h8 : τ 8 = σ 8) : pcL τ = pcL σ := by
  funext x y
  rw [pcL, pcL, pcst_same h0 h7 h8, mnS_same h0, h0]
theorem pnr_same {τ σ : mS} (h0 : τ 0 = σ 0) (h7 : τ 7 = σ 7) (h8 : τ 8 = σ 8) : pnr τ = pnr σ := by
  funext x y i
  rw [pnr, pnr, pcL_same h0 h7 h8, mnS_same h0, h0]
theorem sp_partner_same {τ σ : mS} (h0 : τ 0 = σ 0) (h7 : τ 7 = σ 7) (h8 : τ 8 = σ 8) : sp_partner τ = sp_partner σ := by
  funext x y i w
  simp only [sp_partner, trn, isPn, isL, pnr_same h0 h7 h8, mnS_same h0, els_same h0 h7 h8, h0]
theorem pairL_same {u τ σ : mS} (h0 : τ 0 = σ 0) (h7 : τ 7 = σ 7) (h8 : τ 8 = σ 8) {x y : Int} (h : pairL u τ x y) : pairL u σ x y := by
  rw [pairL, pairT, els_same h0 h7 h8, cll_same h0 h7 h8, pcst_same h0 h7 h8, mnS_same h0, h0] at h
  exact h
/-- what the tables laid out say -/
theorem pairL_use {t σ : mS} (hr : rowOK (σ 0)) (t0 : t 0 = σ 0) {x y : Int} (hx : isL σ x) (hy : isL σ y) (h : pairL t σ x y) : tabOK t ∧ (t 24 0 = mnS σ x ∧ t 25 0 = mnS σ y) ∧ (∀ i j, 0 ≤ i → i < mnS σ x → 0 ≤ j → j < mnS σ y → cs3 t (σ 0 1045) i j = pcL σ x y i j ∧ t 26 (8 * i + j) = els σ (fsS x + i) (fsS y + j) 0 (σ 0 1043) ∧ t 27 (8 * i + j) = els σ (fsS x + i) (fsS y + j) 1 (σ 0 1043)) ∧ (∀ (i : Int) (T : Nat), 0 ≤ i → i ≤ mnS σ x → T < 2 ^ (mnS σ y).toNat → t 29 (256 * i + T) = bsF (pcL σ x y) (σ 0 1044) (mnS σ y).toNat (mnS σ x).toNat (((mnS σ x).toNat : Int) - i).toNat T) ∧ ∀ (r T : Nat), r ≤ (mnS σ x).toNat → T < 2 ^ (mnS σ y).toNat → 0 ≤ bsF (pcL σ x y) (σ 0 1044) (mnS σ y).toNat (mnS σ x).toNat r T ∧ bsF (pcL σ x y) (σ 0 1044) (mnS σ y).toNat (mnS σ x).toNat r T ≤ 1584 := by
  obtain ⟨h1, h2, h3, h4⟩ := h
  obtain ⟨-, -, h1042, h1043, h1044, h1045, h1046, h1047, -⟩ := id hr
  have lx := letS_of hr hx
  have ly := letS_of hr hy
  obtain ⟨g1, g2⟩ := pair_tab h1042 h1047 h1043.1 lx ly t0 h1 h2 h3
  have mx := mnS_r hr hx
  have my := mnS_r hr hy
  refine ⟨g1, ⟨h1, h2⟩, fun i j q0 q1 q2 q3 => ⟨g2 _ i j q0 q1 q2 q3, (h3 i j q0 q1 q2 q3).1, (h3 i j q0 q1 q2 q3).2.1⟩, fun i T q0 q1 q2 => ?_, fun r T q0 q1 => ?_⟩
  · rw [h4 i T q0 q1 q2, pcL, show (((mnS σ x).toNat : Int) - i).toNat = (mnS σ x - i).toNat by omega]
  · exact bsF_b h1044 (by omega) (by omega) (fun i j a1 a2 a3 a4 => (pcst_r h1042 h1047 h1043.1 h1045.1 lx ly a1 (by omega) a3 (by omega)).1) r q0 T q1
theorem pcL_r {σ : mS} (hr : rowOK (σ 0)) {x y : Int} (hx : isL σ x) (hy : isL σ y) {i j : Int} (h0 : 0 ≤ i) (h1 : i < mnS σ x) (h2 : 0 ≤ j) (h3 : j < mnS σ y) : 0 ≤ pcL σ x y i j ∧ pcL σ x y i j ≤ 144 := by
  obtain ⟨-, -, h1042, h1043, h1044, h1045, h1046, h1047, -⟩ := id hr
  exact pcst_r h1042 h1047 h1043.1 h1045.1 (letS_of hr hx) (letS_of hr hy) h0 h1 h2 h3
theorem pnr_r {σ : mS} (hr : rowOK (σ 0)) {x y : Int} (hy : isL σ y) (i : Int) : -1 ≤ pnr σ x y i ∧ pnr σ x y i < mnS σ y := by
  have := parO_r (pcL σ x y) (σ 0 1044) (mnS σ y).toNat (mnS σ x).toNat i
  have h := mnS_r hr hy
  rw [pnr]
  omega
theorem cof_r {σ : mS} (hr : rowOK (σ 0)) {x y : Int} (hx : isL σ x) (hy : isL σ y) {i : Int} (h0 : 0 ≤ i) (h1 : i < mnS σ x) : 0 ≤ cof σ x y i ∧ cof σ x y i ≤ 144 := by
  obtain ⟨-, -, h1042, h1043, h1044, h1045, h1046, h1047, -⟩ := id hr
  have := pnr_r hr (x := x) hy i
  rw [cof]
  split
  · omega
  · exact pcL_r hr hx hy h0 h1 (by omega) (by omega)
theorem wrF_r {σ : mS} (hr : rowOK (σ 0)) {x y : Int} (hx : isL σ x) (hy : isL σ y) : ∀ k : Nat, (k : Int) ≤ mnS σ x → -1 ≤ (wrF σ x y k).1.1 ∧ (wrF σ x y k).1.1 ≤ 8 ∧ 0 ≤ (wrF σ x y k).1.2 ∧ (wrF σ x y k).1.2 ≤ 144
  | 0, _ => by rw [wrF]; simp only; omega
  | k + 1, h => by
    have a := wrF_r hr hx hy k (by omega)
    have b := cof_r hr hx hy (i := k) (by omega) (by omega)
    have c := mnS_r hr hx
    rw [wrF]
    simp only
    split
    · simp only; omega
    · exact a
