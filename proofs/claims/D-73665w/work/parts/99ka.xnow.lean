set_option maxRecDepth 100000
/-! THE STATE OF NOW CHANGES: its ink, its models, its values -/
def rowS (σ : mS) (r : Int → Int) : mS := fun k j => if k = 0 then r j else σ k j
theorem rowS_0 (σ : mS) (r : Int → Int) : rowS σ r 0 = r := by funext j; rfl
theorem rowS_f {σ : mS} {r : Int → Int} {k : Nat} (h : k ≠ 0) : rowS σ r k = σ k := by
  funext j
  rw [rowS, if_neg h]
section NO
variable {E : gE} {Z : Nat → Nat} {S S' : xS} {D D' : xD} {R R' : xR} {P : xPk} {σ : mS}
theorem skOK_of (hG : GS S D R) {s : Nat} {n : Int} {f : Int → Int} (h : skR S D R s n f) : skOK n f := by
  have w := (hG s h.1).1
  have hn : strN S R s = n := by have := h.2.1; rw [strN]; omega
  have k := w.2.1
  rw [hn] at k
  exact ⟨k.1, k.2.1, fun j x y => by rw [← h.2.2 j x y]; exact k.2.2 j x y⟩
/-- what of a row doesn't speak of strokes -/
def rowN (r : Int → Int) : Prop := (0 ≤ r 1000 ∧ r 1000 ≤ 8) ∧ (0 ≤ r 1009 ∧ r 1009 ≤ 8) ∧ (4 ≤ r 1042 ∧ r 1042 ≤ 16) ∧ (0 ≤ r 1043 ∧ r 1043 ≤ 16) ∧ (0 ≤ r 1044 ∧ r 1044 ≤ 99) ∧ (0 ≤ r 1045 ∧ r 1045 ≤ 99) ∧ (0 ≤ r 1046 ∧ r 1046 ≤ 99) ∧ (0 ≤ r 1047 ∧ r 1047 ≤ 20) ∧ (∀ m, 0 ≤ m → m < r 1000 → 0 ≤ r (1001 + m) ∧ r (1001 + m) ≤ 4) ∧ (∀ m i, 0 ≤ m → m < r 1000 → 0 ≤ i → i < 4 → 0 ≤ r (1010 + 4 * m + i) ∧ r (1010 + 4 * m + i) ≤ 26)
theorem rowN_of {r : Int → Int} (h : rowOK r) : rowN r := ⟨h.1, h.2.1, h.2.2.1, h.2.2.2.1, h.2.2.2.2.1, h.2.2.2.2.2.1, h.2.2.2.2.2.2.1, h.2.2.2.2.2.2.2.1, h.2.2.2.2.2.2.2.2.1, h.2.2.2.2.2.2.2.2.2.2.2⟩
theorem rowOK_of (hg : GI E Z S D R) {s : Nat} {r : Int → Int} (hs : stR S D R s r) (hn : rowN r) : rowOK r := by
  obtain ⟨a, b, c, d, e, f, g, i, j, k⟩ := hn
  obtain ⟨h1, hv, h3, h4, h5, h6⟩ := hs
  exact ⟨a, b, c, d, e, f, g, i, j, fun s x y => skOK_of hg.1 (h4 s x y), fun m s x y z u => skOK_of hg.1 ((h6 m x y).2.2.1 s z u), k⟩
theorem st_ink (hg : GI E Z S D R) (hg' : GI E Z S' D' R') {N : Nat} {r r' : Int → Int} (hr : rowOK r) (hs : stR S D R N r) (hc : chg (lT S (rf R N 1)) S S' D D' R R') (h9 : D' (rf R N 1) 2 = r' 1009) (h98 : r' 1009 ≤ 8) (hel : ∀ i, 0 ≤ i → i < r' 1009 → skR S' D' R' (lE R' (rf R N 1) i) (r' (960 + i)) (fun j => r' (24 * i + j))) (hsm : ∀ j, ((192 ≤ j ∧ j < 960) ∨ (968 ≤ j ∧ j < 1048)) → j ≠ 1009 → r' j = r j) : stR S' D' R' N r' ∧ rowOK r' := by
  have hs0 := hs
  obtain ⟨h1, ⟨v0, v1, v2, v3, v4, v5⟩, h3, h4, h5, h6⟩ := hs
  obtain ⟨t1, t2, t3, t4, t5, t6, t7, t8⟩ := hg.2.2.1 N h1
  have kv : (S (rf R N 2)).1 = 45 := by rw [t8]
  have hT : ∀ q, lT S (rf R N 1) q → tkB (S q).1 := lT_k (by omega)
  have hT2 : ∀ q, lT S (rf R N 1) q → (S q).1 ≠ 12 ∧ (S q).1 ≠ 22 := by
    rintro q (h | ⟨h, -⟩)
    · rw [h]; omega
    · omega
  have r0 : rf R' N 0 = rf R N 0 := cg_rf hc hT h1 (by decide) (by decide) 0
  have r1 : rf R' N 1 = rf R N 1 := cg_rf hc hT h1 (by decide) (by decide) 1
  have r2 : rf R' N 2 = rf R N 2 := cg_rf hc hT h1 (by decide) (by decide) 2
  have nM := lT_o hg (a := rf R N 1) (b := rf R N 0) (by omega) (by omega) (ne_k t2 t5 (by decide))
  have lM := ls_chg hc (by omega) (hg.2.1 (rf R N 0) (by omega) (by omega)) nM.1 nM.2
  have nV : ¬ lT S (rf R N 1) (rf R N 2) := by
    rintro (h | ⟨h, -⟩)
    · exact ne_k kv t5 (by decide) h
    · omega
  have dV := hc.2.1 _ (by omega) nV
  have q0 := hsm 1000 (Or.inr (by decide)) (by decide)
  have b0 := hr.1
  have hst : stR S' D' R' N r' := by
    refine ⟨by rw [cg_S hc h1 (by decide)]; exact h1, ?_, by rw [r1]; exact h9, fun i x y => by rw [r1]; exact hel i x y, by rw [r0, lM.2.2.1, q0]; exact h5, fun m x y => ?_⟩
    · rw [r2, dV, hsm 1042 (Or.inr (by decide)) (by decide), hsm 1043 (Or.inr (by decide)) (by decide), hsm 1044 (Or.inr (by decide)) (by decide), hsm 1045 (Or.inr (by decide)) (by decide), hsm 1046 (Or.inr (by decide)) (by decide), hsm 1047 (Or.inr (by decide)) (by decide)]
      exact ⟨v0, v1, v2, v3, v4, v5⟩
    · rw [q0] at y
      obtain ⟨k7, m1, m2, m3⟩ := h6 m x y
      obtain ⟨x1, x2, x3, x4, x5, x6, x7⟩ := mod_chg hc hT hT2 hg k7
      have w3 := hr.2.2.2.2.2.2.2.2.1 m x y
      have e1 := hsm (1001 + m) (Or.inr (by omega)) (by omega)
      rw [r0, lM.2.2.2.1]
      refine ⟨x1, by rw [x3, x4, e1]; exact m1, fun i c d => ?_, by rw [x2]; exact (nmR_chg hc hT x6 x7 m3).1, fun i c d => ?_⟩
      · rw [e1] at d
        rw [x3, x5]
        have w := (hr.2.2.2.2.2.2.2.2.2.2.1 m i x y c d).2.1
        exact skR_to (skR_chg hc hT hg.1 (m2 i c d)) (hsm _ (Or.inr (by omega)) (by omega)) (fun j x9 y9 => hsm _ (Or.inl (by omega)) (by omega))
      · have w := (nmR_chg hc hT x6 x7 m3).2 i c d
        rw [x2]
        show r' (1010 + 4 * m + i) = _
        rw [hsm _ (Or.inr (by omega)) (by omega)]
        exact w
  refine ⟨hst, rowOK_of hg' hst ?_⟩
  obtain ⟨a, b, c, d, e, f, g, i, j, k⟩ := rowN_of hr
  have hl := (hg'.2.1 (rf R N 1) (by rw [cg_S hc t5 (by decide)]; omega) (by rw [cg_S hc t5 (by decide)]; omega)).2.1.1
  refine ⟨by rw [q0]; exact a, ⟨by omega, h98⟩, by rw [hsm 1042 (Or.inr (by decide)) (by decide)]; exact c, by rw [hsm 1043 (Or.inr (by decide)) (by decide)]; exact d, by rw [hsm 1044 (Or.inr (by decide)) (by decide)]; exact e, by rw [hsm 1045 (Or.inr (by decide)) (by decide)]; exact f, by rw [hsm 1046 (Or.inr (by decide)) (by decide)]; exact g, by rw [hsm 1047 (Or.inr (by decide)) (by decide)]; exact i, fun m x y => ?_, fun m z x y u v => ?_⟩
  · rw [q0] at y; rw [hsm _ (Or.inr (by omega)) (by omega)]; exact j m x y
  · rw [q0] at y; rw [hsm _ (Or.inr (by omega)) (by omega)]; exact k m z x y u v
/-- a letter stands for the model m of a row -/
def leR (S : xS) (D : xD) (R : xR) (t : Nat) (r : Int → Int) (m : Int) : Prop := (S t).1 = 7 ∧ D (rf R t 1) 2 = r (1001 + m) ∧ (∀ i, 0 ≤ i → i < r (1001 + m) → skR S D R (lE R (rf R t 1) i) (r (960 + (8 + 4 * m + i))) (fun j => r (24 * (8 + 4 * m + i) + j))) ∧ nmR S D R (rf R t 0) (fun i => r (1010 + 4 * m + i))
theorem leR_chg {T : Nat → Prop} (hc : chg T S S' D D' R R') (hT : ∀ q, T q → tkB (S q).1) (hT2 : ∀ q, T q → (S q).1 ≠ 12 ∧ (S q).1 ≠ 22) (hg : GI E Z S D R) {t : Nat} {r : Int → Int} {m : Int} (h : leR S D R t r m) : leR S' D' R' t r m := by
  obtain ⟨k7, m1, m2, m3⟩ := h
  obtain ⟨x1, x2, x3, x4, x5, x6, x7⟩ := mod_chg hc hT hT2 hg k7
  exact ⟨x1, by rw [x3, x4]; exact m1, fun i c d => by rw [x3, x5]; exact skR_chg hc hT hg.1 (m2 i c d), by rw [x2]; exact nmR_chg hc hT x6 x7 m3⟩
theorem leR_to {t : Nat} {r r' : Int → Int} {m m' : Int} (h : leR S D R t r m) (h1 : r' (1001 + m') = r (1001 + m)) (h2 : ∀ i, 0 ≤ i → i < r (1001 + m) → r' (960 + (8 + 4 * m' + i)) = r (960 + (8 + 4 * m + i)) ∧ ∀ j, 0 ≤ j → j < 24 → r' (24 * (8 + 4 * m' + i) + j) = r (24 * (8 + 4 * m + i) + j)) (h3 : ∀ i, 0 ≤ i → i < 4 → r' (1010 + 4 * m' + i) = r (1010 + 4 * m + i)) (hsk : ∀ i, 0 ≤ i → i < r (1001 + m) → r (960 + (8 + 4 * m + i)) ≤ 12) : leR S D R t r' m' := by
  obtain ⟨k7, m1, m2, m3⟩ := h
  refine ⟨k7, by rw [h1]; exact m1, fun i c d => ?_, m3.1, fun i c d => ?_⟩
  · rw [h1] at d
    have w := hsk i c d
    exact skR_to (m2 i c d) (h2 i c d).1 (fun j x y => (h2 i c d).2 j x (by omega))
  · show r' (1010 + 4 * m' + i) = _
    rw [h3 i c d]; exact m3.2 i c d
theorem st_mods (hg : GI E Z S D R) (hg' : GI E Z S' D' R') {N : Nat} {r r' : Int → Int} (hr : rowOK r) (hs : stR S D R N r) (hc : chg (lT S (rf R N 0)) S S' D D' R R') (h9 : D' (rf R N 0) 2 = r' 1000) (h98 : r' 1000 ≤ 8) (hel : ∀ m, 0 ≤ m → m < r' 1000 → leR S' D' R' (lE R' (rf R N 0) m) r' m) (hm4 : ∀ m, 0 ≤ m → m < r' 1000 → 0 ≤ r' (1001 + m) ∧ r' (1001 + m) ≤ 4) (hnm : ∀ m i, 0 ≤ m → m < r' 1000 → 0 ≤ i → i < 4 → 0 ≤ r' (1010 + 4 * m + i) ∧ r' (1010 + 4 * m + i) ≤ 26) (hsm : ∀ j, ((0 ≤ j ∧ j < 192) ∨ (960 ≤ j ∧ j < 968) ∨ j = 1009 ∨ (1042 ≤ j ∧ j < 1048)) → r' j = r j) : stR S' D' R' N r' ∧ rowOK r' := by
  obtain ⟨h1, ⟨v0, v1, v2, v3, v4, v5⟩, h3, h4, h5, h6⟩ := hs
  obtain ⟨t1, t2, t3, t4, t5, t6, t7, t8⟩ := hg.2.2.1 N h1
  have kv : (S (rf R N 2)).1 = 45 := by rw [t8]
  have hT : ∀ q, lT S (rf R N 0) q → tkB (S q).1 := lT_k (by omega)
  have r0 : rf R' N 0 = rf R N 0 := cg_rf hc hT h1 (by decide) (by decide) 0
  have r1 : rf R' N 1 = rf R N 1 := cg_rf hc hT h1 (by decide) (by decide) 1
  have r2 : rf R' N 2 = rf R N 2 := cg_rf hc hT h1 (by decide) (by decide) 2
  have nM := lT_o hg (a := rf R N 0) (b := rf R N 1) (by omega) (by omega) (ne_k t5 t2 (by decide))
  have lM := ls_chg hc (by omega) (hg.2.1 (rf R N 1) (by omega) (by omega)) nM.1 nM.2
  have nV : ¬ lT S (rf R N 0) (rf R N 2) := by
    rintro (h | ⟨h, -⟩)
    · exact ne_k kv t2 (by decide) h
    · omega
  have dV := hc.2.1 _ (by omega) nV
  have q9 := hsm 1009 (by decide)
  have b9 := hr.2.1
  have hv : ∀ j, 1042 ≤ j → j < 1048 → r' j = r j := fun j x y => hsm j (by omega)
  have hst : stR S' D' R' N r' := by
    refine ⟨by rw [cg_S hc h1 (by decide)]; exact h1, ?_, by rw [r1, lM.2.2.1, q9]; exact h3, fun i x y => ?_, by rw [r0]; exact h9, fun m x y => by rw [r0]; exact hel m x y⟩
    · rw [r2, dV, hv 1042 (by decide) (by decide), hv 1043 (by decide) (by decide), hv 1044 (by decide) (by decide), hv 1045 (by decide) (by decide), hv 1046 (by decide) (by decide), hv 1047 (by decide) (by decide)]
      exact ⟨v0, v1, v2, v3, v4, v5⟩
    · rw [q9] at y
      rw [r1, lM.2.2.2.1]
      have w := (hr.2.2.2.2.2.2.2.2.2.1 i x y).2.1
      exact skR_to (skR_chg hc hT hg.1 (h4 i x y)) (hsm _ (by omega)) (fun j x9 y9 => hsm _ (by omega))
  refine ⟨hst, rowOK_of hg' hst ?_⟩
  obtain ⟨a, b, c, d, e, f, g, i, j, k⟩ := rowN_of hr
  have hl := (hg'.2.1 (rf R N 0) (by rw [cg_S hc t2 (by decide)]; omega) (by rw [cg_S hc t2 (by decide)]; omega)).2.1.1
  exact ⟨⟨by omega, h98⟩, by rw [q9]; exact b, by rw [hv 1042 (by decide) (by decide)]; exact c, by rw [hv 1043 (by decide) (by decide)]; exact d, by rw [hv 1044 (by decide) (by decide)]; exact e, by rw [hv 1045 (by decide) (by decide)]; exact f, by rw [hv 1046 (by decide) (by decide)]; exact g, by rw [hv 1047 (by decide) (by decide)]; exact i, hm4, hnm⟩
theorem st_val (hg : GI E Z S D R) {N : Nat} {r r' : Int → Int} (hr : rowOK r) (hs : stR S D R N r) (hD : ∀ (q : Nat) (j : Int), q ≠ rf R N 2 → D' q j = D q j) (hv : ∀ j, 0 ≤ j → j < 6 → D' (rf R N 2) j = r' (1042 + j)) (hvr : (4 ≤ r' 1042 ∧ r' 1042 ≤ 16) ∧ (0 ≤ r' 1043 ∧ r' 1043 ≤ 16) ∧ (0 ≤ r' 1044 ∧ r' 1044 ≤ 99) ∧ (0 ≤ r' 1045 ∧ r' 1045 ≤ 99) ∧ (0 ≤ r' 1046 ∧ r' 1046 ≤ 99) ∧ (0 ≤ r' 1047 ∧ r' 1047 ≤ 20)) (hsm : ∀ j, (0 ≤ j ∧ j < 1042) → r' j = r j) : GI E Z S D' R ∧ chg (stT S N) S S D D' R R ∧ stR S D' R N r' ∧ rowOK r' := by
  obtain ⟨h1, hv0, h3, h4, h5, h6⟩ := id hs
  obtain ⟨t1, t2, t3, t4, t5, t6, t7, t8⟩ := hg.2.2.1 N h1
  have kv : (S (rf R N 2)).1 = 45 := by rw [t8]
  have hf : fr S D D' [45] := fun q i hq => hD q i (fun e => hq (by rw [e, kv, mdN _ (by decide)]; decide))
  have hc : chg (fun q => q = rf R N 2) S S D D' R R := ⟨fun _ _ => rfl, fun q _ h => funext fun j => hD q j h, fun _ _ _ => rfl⟩
  have hT : ∀ q, q = rf R N 2 → tkB (S q).1 := fun q h => by rw [h, kv]; decide
  have hT2 : ∀ q, q = rf R N 2 → (S q).1 ≠ 12 ∧ (S q).1 ≠ 22 := fun q h => by rw [h, kv]; decide
  have hls : ∀ a, 10 ≤ (S a).1 → (S a).1 ≤ 17 → a ≠ rf R N 2 ∧ rf R a 1 ≠ rf R N 2 := fun a x y => by
    refine ⟨fun e => by rw [e, kv] at y; omega, fun e => ?_⟩
    obtain ⟨b, kb, -, hb1, hb2, hb3, -⟩ := lsOK_b (hg.2.1 a x y) ⟨x, y⟩
    rw [← hb1] at e
    rw [e, kv] at hb2
    omega
  have hg' : GI E Z S D' R := GI_chg hg hc hT (fun a x y _ => lsOK_chg hc ⟨x, y⟩ (hg.2.1 a x y) (hls a x y).1 (hls a x y).2) (fun q hq => by
    have h8 : ∀ k : Nat, k ≠ 0 → (S q).1 ≠ k := fun k hk e9 => hk (by rw [← e9]; exact hq)
    exact ⟨fun e9 => absurd e9 (h8 8 (by decide)), fun e9 => absurd e9 (h8 2 (by decide)), fun e9 => absurd e9 (h8 7 (by decide)), fun e9 => absurd e9 (h8 9 (by decide)), fun e9 => absurd e9 (h8 30 (by decide)), fun e9 => by rw [hq] at e9; exact absurd e9 (by decide)⟩)
  have q9 := hsm 1009 (by decide)
  have q0 := hsm 1000 (by decide)
  have b9 := hr.2.1
  have b0 := hr.1
  have dI : D' (rf R N 1) = D (rf R N 1) := funext fun j => hD _ j (hls _ (by omega) (by omega)).1
  have dM : D' (rf R N 0) = D (rf R N 0) := funext fun j => hD _ j (hls _ (by omega) (by omega)).1
  have hst : stR S D' R N r' := by
    refine ⟨h1, ⟨by rw [hv 0 (by decide) (by decide)]; rfl, by rw [hv 1 (by decide) (by decide)]; rfl, by rw [hv 2 (by decide) (by decide)]; rfl, by rw [hv 3 (by decide) (by decide)]; rfl, by rw [hv 4 (by decide) (by decide)]; rfl, by rw [hv 5 (by decide) (by decide)]; rfl⟩, by rw [dI, q9]; exact h3, fun i x y => ?_, by rw [dM, q0]; exact h5, fun m x y => ?_⟩
    · rw [q9] at y
      have w := (hr.2.2.2.2.2.2.2.2.2.1 i x y).2.1
      exact skR_to (skR_chg hc hT hg.1 (h4 i x y)) (hsm _ (by omega)) (fun j x9 y9 => hsm _ (by omega))
    · rw [q0] at y
      have w3 := hr.2.2.2.2.2.2.2.2.1 m x y
      exact leR_to (leR_chg hc hT hT2 hg (h6 m x y)) (hsm _ (by omega)) (fun i c d => ⟨hsm _ (by omega), fun j x9 y9 => hsm _ (by omega)⟩) (fun i c d => hsm _ (by omega)) (fun i c d => (hr.2.2.2.2.2.2.2.2.2.2.1 m i x y c d).2.1)
  refine ⟨hg', ⟨fun _ _ => rfl, fun q _ h => funext fun j => hD q j (fun e => h (by rw [e]; exact Or.inl ⟨Or.inr (Or.inr kv), by rw [t8]⟩)), fun _ _ _ => rfl⟩, hst, rowOK_of hg' hst ?_⟩
  obtain ⟨a, b, c, d, e, f, g, i, j, k⟩ := rowN_of hr
  obtain ⟨w0, w1, w2, w3, w4, w5⟩ := hvr
  exact ⟨by rw [q0]; exact a, by rw [q9]; exact b, w0, w1, w2, w3, w4, w5, fun m x y => by rw [q0] at y; rw [hsm _ (by omega)]; exact j m x y, fun m z x y u v => by rw [q0] at y; rw [hsm _ (by omega)]; exact k m z x y u v⟩
/-- .. and what stands for the reference's state -/
theorem Rx_row (hx : Rx E Z S D R P σ) {r' : Int → Int} (hc : chg (stT S (rf R P.1 4)) S S' D D' R R') (hg' : GI E Z S' D' R') (hst : stR S' D' R' (rf R P.1 4) r') (hro : rowOK r') : Rx E Z S' D' R' P (rowS σ r') := Rx_st hx hc hg' (fun i x y => hx.2.2.2.2.2.1.2.2.2.1.2.2.1 i x (by rw [hx.2.2.2.2.2.1.1]; exact y)) (fun k hk => rowS_f (by simp at hk; omega)) (fun k hk => congrFun (rowS_f (by simp at hk; omega)) 0) (by rw [rowS_0]; exact hro) (by rw [rowS_0]; exact hst)
theorem Rx_ink (hx : Rx E Z S D R P σ) {r' : Int → Int} (hg' : GI E Z S' D' R') (hc : chg (lT S (rf R (rf R P.1 4) 1)) S S' D D' R R') (h9 : D' (rf R (rf R P.1 4) 1) 2 = r' 1009) (h98 : r' 1009 ≤ 8) (hel : ∀ i, 0 ≤ i → i < r' 1009 → skR S' D' R' (lE R' (rf R (rf R P.1 4) 1) i) (r' (960 + i)) (fun j => r' (24 * i + j))) (hsm : ∀ j, ((192 ≤ j ∧ j < 960) ∨ (968 ≤ j ∧ j < 1048)) → j ≠ 1009 → r' j = σ 0 j) : Rx E Z S' D' R' P (rowS σ r') := by
  have h := st_ink hx.1 hg' hx.2.2.2.1 hx.2.2.2.2.1.2 hc h9 h98 hel hsm
  have t := hx.1.2.2.1 _ hx.2.2.2.2.1.2.1
  exact Rx_row hx (chg_w hc (lT_st (fun _ _ => rfl) (Or.inl t.2.2.2.2.1) t.2.2.2.2.2.1)) hg' h.1 h.2
theorem Rx_mods (hx : Rx E Z S D R P σ) {r' : Int → Int} (hg' : GI E Z S' D' R') (hc : chg (lT S (rf R (rf R P.1 4) 0)) S S' D D' R R') (h9 : D' (rf R (rf R P.1 4) 0) 2 = r' 1000) (h98 : r' 1000 ≤ 8) (hel : ∀ m, 0 ≤ m → m < r' 1000 → leR S' D' R' (lE R' (rf R (rf R P.1 4) 0) m) r' m) (hm4 : ∀ m, 0 ≤ m → m < r' 1000 → 0 ≤ r' (1001 + m) ∧ r' (1001 + m) ≤ 4) (hnm : ∀ m i, 0 ≤ m → m < r' 1000 → 0 ≤ i → i < 4 → 0 ≤ r' (1010 + 4 * m + i) ∧ r' (1010 + 4 * m + i) ≤ 26) (hsm : ∀ j, ((0 ≤ j ∧ j < 192) ∨ (960 ≤ j ∧ j < 968) ∨ j = 1009 ∨ (1042 ≤ j ∧ j < 1048)) → r' j = σ 0 j) : Rx E Z S' D' R' P (rowS σ r') := by
  have h := st_mods hx.1 hg' hx.2.2.2.1 hx.2.2.2.2.1.2 hc h9 h98 hel hm4 hnm hsm
  have t := hx.1.2.2.1 _ hx.2.2.2.2.1.2.1
  exact Rx_row hx (chg_w hc (lT_st (fun _ _ => rfl) (Or.inr t.2.1) t.2.2.1)) hg' h.1 h.2
end NO
