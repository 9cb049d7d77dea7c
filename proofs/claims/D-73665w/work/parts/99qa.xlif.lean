set_option maxRecDepth 100000
/-! SCORES DEPEND ON STROKES ALONE -/
def skE (σ : mS) (s : Int) (τ : mS) (s' : Int) : Prop := skOK (np σ s) (nu σ s) ∧ np τ s' = np σ s ∧ ∀ j, 0 ≤ j → j < 2 * np σ s → nu σ s j = nu τ s' j
theorem cds_congr {σ τ : mS} {s s' k : Int} (h : skE σ s τ s') (he : τ 0 1042 = σ 0 1042) (h4 : 4 ≤ σ 0 1042 ∧ σ 0 1042 ≤ 16) (hk : 0 ≤ k ∧ k < σ 0 1042) : cds σ s k = cds τ s' k := by
  rw [cds, cds, h.2.1, he]; exact cdk_congr h.1 h.2.2 h4 hk
theorem csd_congr {σ τ : mS} {a a' b b' k i j : Int} (ha : skE σ a τ a') (hb : skE σ b τ b') (he : τ 0 1042 = σ 0 1042) (h4 : 4 ≤ σ 0 1042 ∧ σ 0 1042 ≤ 16) (hi : 0 ≤ i ∧ i < σ 0 1042) (hj : 0 ≤ j ∧ j < σ 0 1042) : csd σ a b k i j = csd τ a' b' k i j := by
  rw [csd, csd, cdb, cdb, cdb, cdb, if_pos rfl, if_pos rfl, cds_congr ha he h4 hi, cds_congr hb he h4 hj, he, cds_congr hb he h4 (k := σ 0 1042 - 1 - j) (by omega)]
theorem elV_congr {c c' : Int → Int → Int} {w i j on : Int} (h : c i j = c' i j) : elV c w i j on = elV c' w i j on := by rw [elV, elV, h]
theorem elR_congr {c c' : Int → Int → Int} {e w : Int} (h : ∀ i j, 0 ≤ i → i < e → 0 ≤ j → j < e → c i j = c' i j) : ∀ u v : Nat, (u : Int) < e → (v : Int) < e → elR c e w u v = elR c' e w u v
  | 0, 0, hu, hv => by rw [elR, elR]; exact elV_congr (h _ _ (by omega) (by omega) (by omega) (by omega))
  | 0, v + 1, hu, hv => by rw [elR, elR, elR_congr h 0 v (by omega) (by omega)]; exact elV_congr (h _ _ (by omega) (by omega) (by omega) (by omega))
  | u + 1, 0, hu, hv => by rw [elR, elR, elR_congr h u 0 (by omega) (by omega)]; exact elV_congr (h _ _ (by omega) (by omega) (by omega) (by omega))
  | u + 1, v + 1, hu, hv => by rw [elR, elR, elR_congr h u v (by omega) (by omega), elR_congr h u (v + 1) (by omega) (by omega), elR_congr h (u + 1) v (by omega) (by omega)]; exact elV_congr (h _ _ (by omega) (by omega) (by omega) (by omega))
  termination_by u v => u + v
theorem els_congr {σ τ : mS} {a a' b b' k w : Int} (ha : skE σ a τ a') (hb : skE σ b τ b') (he : τ 0 1042 = σ 0 1042) (h4 : 4 ≤ σ 0 1042 ∧ σ 0 1042 ≤ 16) : els σ a b k w = els τ a' b' k w := by
  rw [els, els, elT, elT, he]
  exact elR_congr (fun i j x y z u => csd_congr ha hb he h4 ⟨x, y⟩ ⟨z, u⟩) _ _ (by omega) (by omega)
theorem edS_congr {σ τ : mS} {b ax a a' : Int} (hax : ax = 0 ∨ ax = 1) : ∀ (s : Nat) {v : Int}, (∀ i, 0 ≤ i → i < (s : Int) → skE σ (a + i) τ (a' + i)) → edS b σ ax a s v = edS b τ ax a' s v
  | 0, v, _ => rfl
  | s + 1, v, h => by
    have w := h s (by omega) (by omega)
    rw [edS, edS, w.2.1]
    have k1 := w.1.1
    exact edP_congr _ (edS_congr hax s (fun i x y => h i x (by omega))) (fun j hj => w.2.2 _ (by omega) (by omega))
theorem edge_congr {σ τ : mS} {a a' n ax b : Int} (hax : ax = 0 ∨ ax = 1) (hn : 1 ≤ n) (h : ∀ i, 0 ≤ i → i < n → skE σ (a + i) τ (a' + i)) : edge σ a n ax b = edge τ a' n ax b := by
  have w := h 0 (by omega) (by omega)
  rw [Int.add_zero, Int.add_zero] at w
  have k1 := w.1.1
  rw [edge, edge, w.2.2 _ (by omega) (by omega)]
  exact edS_congr hax _ (fun i x y => h i x (by omega))
theorem celS_congr {σ τ : mS} {a a' n ax i : Int} (hax : ax = 0 ∨ ax = 1) (h : ∀ i, 0 ≤ i → i < n → skE σ (a + i) τ (a' + i)) (h0 : 0 ≤ i) (h1 : i < n) : celS σ (a + i) a n ax = celS τ (a' + i) a' n ax := by
  have o : ∀ z, 0 ≤ z → z < 1 → skE σ (a + i + z) τ (a' + i + z) := fun z x y => by have := h i h0 h1; rw [show z = 0 by omega, Int.add_zero, Int.add_zero]; exact this
  simp only [celS, edge_congr (b := 0) hax (by omega) h, edge_congr (b := 1) hax (by omega) h, edge_congr (b := 0) hax (by omega) o, edge_congr (b := 1) hax (by omega) o]
theorem scS_congr {σ τ : mS} {a a' n b b' m : Int} (hr : rowOK (σ 0)) (hv : ∀ j, 1042 ≤ j → j < 1048 → τ 0 j = σ 0 j) (ha : ∀ i, 0 ≤ i → i < n → skE σ (a + i) τ (a' + i)) (hb : ∀ i, 0 ≤ i → i < m → skE σ (b + i) τ (b' + i)) : scS σ a n b m = scS τ a' n b' m := by
  obtain ⟨-, -, h1042, -⟩ := id hr
  rw [scS, scS, scr, scr, hv 1043 (by omega) (by omega), hv 1044 (by omega) (by omega), hv 1045 (by omega) (by omega)]
  refine bsF_congr (fun i j x y z u => ?_) _ (Nat.le_refl _) _ (Nat.pow_pos (by decide))
  rw [pcst, pcst, els_congr (ha i x (by omega)) (hb j z (by omega)) (hv 1042 (by omega) (by omega)) h1042, els_congr (ha i x (by omega)) (hb j z (by omega)) (hv 1042 (by omega) (by omega)) h1042, hv 1047 (by omega) (by omega)]
  simp only [cll, celS_congr (ax := 0) (by decide) ha x (by omega), celS_congr (ax := 1) (by decide) ha x (by omega), celS_congr (ax := 0) (by decide) hb z (by omega), celS_congr (ax := 1) (by decide) hb z (by omega)]
/-! THE INK BUT ONE, told as a sample -/
def butI (k i : Int) : Int := if i < k then i else i + 1
def butS (σ : mS) (k : Int) : mS := fun f j => if f = 7 then σ 0 (24 * butI k (j / 24) + j % 24) else if f = 8 then σ 0 (960 + butI k j) else σ f j
def butP (P : xPk) : xPk := (P.1, (fun i => if i = 99 then 1 else P.2.1 i), P.2.2)
theorem but_np {σ : mS} {k i : Int} (h : 0 ≤ i) : np (butS σ k) (40 + i) = σ 0 (960 + butI k i) ∧ ∀ j, 0 ≤ j → j < 24 → nu (butS σ k) (40 + i) j = σ 0 (24 * butI k i + j) := by
  refine ⟨?_, fun j x y => ?_⟩
  · rw [np, if_neg (by omega), show 40 + i - 40 = i by omega]; rfl
  · rw [nu, if_neg (by omega), show 40 + i - 40 = i by omega]
    show σ 0 (24 * butI k ((24 * i + j) / 24) + (24 * i + j) % 24) = _
    rw [show (24 * i + j) / 24 = i by omega, show (24 * i + j) % 24 = j by omega]
theorem but_let {σ : mS} (hr : rowOK (σ 0)) {k : Int} (h0 : 0 ≤ k) (h1 : k < σ 0 1009) : letS (butS σ k) 40 (σ 0 1009 - 1) := by
  obtain ⟨-, h9, -, -, -, -, -, -, -, hsi, -⟩ := id hr
  refine ⟨by omega, by omega, by omega, by omega, fun s x y => ?_⟩
  have w := but_np (σ := σ) (k := k) (i := s - 40) (by omega)
  rw [show 40 + (s - 40) = s by omega] at w
  have z := hsi (butI k (s - 40)) (by rw [butI]; split <;> omega) (by rw [butI]; split <;> omega)
  rw [w.1]
  have z1 := z.2.1
  exact ⟨z.1, z.2.1, fun j a b => by rw [w.2 j a (by omega)]; exact z.2.2 j a b⟩
theorem but_scM {σ : mS} (hr : rowOK (σ 0)) {k m : Int} (h0 : 0 ≤ k) (h1 : k < σ 0 1009) (hm : 0 ≤ m ∧ m < σ 0 1000) : scM (butS σ k) 40 (σ 0 1009 - 1) m = lfM σ k m := by
  obtain ⟨h1000, h9, -, -, -, -, -, -, hms, hsi, hsm, -⟩ := id hr
  have hl := lifS_0 σ k
  have hm2 : mnS (lifS σ k) m = mnS σ m := by rw [mnS, mnS, if_neg (by omega), if_neg (by omega), hl, lifF_hi h0 (by omega) (Or.inr (by omega)) (by omega)]
  have hmq := hms m hm.1 hm.2
  have hmn : mnS σ m = σ 0 (1001 + m) := by rw [mnS, if_neg (by omega)]
  rw [lfM, scM, scM, hm2, show mnS (butS σ k) m = mnS σ m from rfl]
  have hb0 : rowOK (butS σ k 0) := hr
  refine scS_congr hb0 (fun j x y => by rw [hl, lifF_hi h0 (by omega) (Or.inr (by omega)) (by omega)]; rfl) (fun i x y => ?_) (fun i x y => ?_)
  · have w := but_np (σ := σ) (k := k) (i := i) x
    have z := hsi (butI k i) (by rw [butI]; split <;> omega) (by rw [butI]; split <;> omega)
    have z1 := z.2.1
    have q := lifF_pt (r := σ 0) h0 h9.2 (s := i) ⟨x, y⟩
    have sk := (but_let hr h0 h1).2.2.2.2 (40 + i) (by omega) (by omega)
    refine ⟨sk, ?_, fun j a b => ?_⟩
    · rw [w.1, np, if_pos (by omega), hl, Int.zero_add, q.1]; rfl
    · rw [w.1] at b
      rw [w.2 j a (by omega), nu, if_pos (by omega), hl, Int.zero_add, q.2 j a (by omega)]; rfl
  · have hf : fsS m = 8 + 4 * m := by rw [fsS, if_neg (by omega)]
    have z := hsm m i hm.1 hm.2 x (by omega)
    have z1 := z.2.1
    have e1 : np (butS σ k) (fsS m + i) = σ 0 (960 + (8 + 4 * m + i)) := by rw [np, if_pos (by omega), hf]; rfl
    have e2 : ∀ j, nu (butS σ k) (fsS m + i) j = σ 0 (24 * (8 + 4 * m + i) + j) := fun j => by rw [nu, if_pos (by omega), hf]; rfl
    refine ⟨?_, ?_, fun j a b => ?_⟩
    · rw [e1, show nu (butS σ k) (fsS m + i) = fun j => σ 0 (24 * (8 + 4 * m + i) + j) from funext e2]; exact z
    · rw [e1, np, if_pos (by omega), hl, hf, lifF_hi h0 (by omega) (Or.inr (by omega)) (by omega)]
    · rw [e1] at b
      rw [e2, nu, if_pos (by omega), hl, hf, lifF_hi h0 (by omega) (Or.inl (by omega)) (by omega)]
section BUT
variable {E : gE} {Z : Nat → Nat} {S : xS} {D D' : xD} {R R' : xR} {P : xPk} {σ : mS}
theorem butP_n {k : Nat} (h : k ≠ 99) : (butP P).2.1 k = P.2.1 k := by show (if k = 99 then 1 else P.2.1 k) = _; rw [if_neg h]
theorem pen_but (hp : penOK Z S R P) : penOK Z S R (butP P) := by
  obtain ⟨a, b, c, d⟩ := hp
  refine ⟨a, fun k hk => ?_, fun k hk => ?_, fun k hk => ?_, d.2⟩
  · rw [butP_n (fun e => by rw [e] at hk; exact absurd hk (by decide))]; exact b k hk
  · rw [butP_n (fun e => by rw [e] at hk; exact absurd hk (by decide))]; exact c k hk
  · rw [butP_n (fun e => by rw [e] at hk; exact absurd hk (by decide))]; exact d.1 k hk
theorem Rx_but (hx : Rx E Z S D R P σ) (k : Int) : Rx E Z S D R (butP P) (butS σ k) := by
  obtain ⟨hg, hp, hki, hro, hnw, hbh, hsa, hpd⟩ := hx
  exact ⟨hg, pen_but hp, hki, hro, hnw, hbh, fun h => absurd (show (1 : Nat) = 0 from h) (by decide), hpd⟩
theorem ls_but {a : Nat} {k : Int} (hr : rowOK (σ 0)) (h0 : 0 ≤ k) (h1 : k < σ 0 1009) (h : rwL S D R a (σ 0 1009 - 1) (fun i => σ 0 (960 + butI k i)) (fun i j => σ 0 (24 * butI k i + j))) : lsR S D R a (butS σ k) 40 (σ 0 1009 - 1) := by
  obtain ⟨-, -, -, -, -, -, -, -, -, hsi, -⟩ := id hr
  refine ⟨h.1, fun i x y => ?_⟩
  have w := but_np (σ := σ) (k := k) (i := i) x
  have z := (hsi (butI k i) (by rw [butI]; split <;> omega) (by rw [butI]; split <;> omega)).2.1
  exact skR_to (h.2 i x y) w.1 (fun j a b => w.2 j a (by have b9 : j < 2 * σ 0 (960 + butI k i) := b; omega))
/-- what is ranked of the ink but one -/
def rkB (D : xD) (P : xPk) (σ : mS) (k : Int) : Prop := (∀ m, 0 ≤ m → m < σ 0 1000 → D (P.2.1 23) m = lfM σ k m) ∧ ∀ j, 0 ≤ j → j < σ 0 1000 → (0 ≤ D (P.2.1 24) j ∧ D (P.2.1 24) j < σ 0 1000) ∧ D (P.2.1 24) j = moA (lfM σ k) (nMod σ) j
theorem rk_but (hr : rowOK (σ 0)) {k : Int} (h0 : 0 ≤ k) (h1 : k < σ 0 1009) (h : (∀ m, 0 ≤ m → m < (butS σ k) 0 1000 → D ((butP P).2.1 23) m = scM (butS σ k) 40 (σ 0 1009 - 1) m) ∧ ∀ j, 0 ≤ j → j < (butS σ k) 0 1000 → (0 ≤ D ((butP P).2.1 24) j ∧ D ((butP P).2.1 24) j < (butS σ k) 0 1000) ∧ D ((butP P).2.1 24) j = moA (scM (butS σ k) 40 (σ 0 1009 - 1)) (nMod (butS σ k)) j) : rkB D P σ k := by
  obtain ⟨a, b⟩ := h
  refine ⟨fun m x y => (a m x y).trans (but_scM hr h0 h1 ⟨x, y⟩), fun j x y => ⟨(b j x y).1, ((b j x y).2).trans ?_⟩⟩
  exact moA_congr (fun o x9 y9 => but_scM hr h0 h1 ⟨x9, by rw [nMod] at y9; have : (butS σ k) 0 1000 = σ 0 1000 := rfl; omega⟩) j
end BUT
