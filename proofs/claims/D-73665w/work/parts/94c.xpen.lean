set_option maxRecDepth 100000
/-! THE PEN's OWN NUMBERS change: what stands for the rest stays -/
def NEED : List Nat := [8002, 8003, 9000, 10, 11, 12, 13, 14, 15, 16, 17, 30, 31, 33, 34, 35, 40, 41, 42, 43, 44, 45]
section PN
variable {E : gE} {Z : Nat → Nat} {S : xS} {D D' : xD} {R : xR} {P : xPk} {m : List Nat}
theorem nd_row (hD : fr S D D' m) (hm : ∀ k ∈ NEED, k ∉ m) {q k : Nat} (hk : (S q).1 = k) (h10 : 10 ≤ k) (hn : k ∈ NEED) : D' q = D q := fr_row hD hk h10 (hm k hn)
theorem nd_ls (hD : fr S D D' m) (hm : ∀ k ∈ NEED, k ∉ m) {a : Nat} (hk : 10 ≤ (S a).1 ∧ (S a).1 ≤ 17) : D' a = D a := nd_row hD hm rfl hk.1 (by
  rcases (show (S a).1 = 10 ∨ (S a).1 = 11 ∨ (S a).1 = 12 ∨ (S a).1 = 13 ∨ (S a).1 = 14 ∨ (S a).1 = 15 ∨ (S a).1 = 16 ∨ (S a).1 = 17 by omega) with e | e | e | e | e | e | e | e <;> rw [e] <;> decide)
theorem skR_nd (hD : fr S D D' m) (hm : ∀ k ∈ NEED, k ∉ m) (hG : GS S D R) {s : Nat} {n : Int} {f : Int → Int} (h : skR S D R s n f) : skR S D' R s n f := ⟨h.1, h.2.1, by rw [nd_row hD hm (hG s h.1).1.1.2.1 (by decide) (by decide)]; exact h.2.2⟩
theorem lsR_nd (hD : fr S D D' m) (hm : ∀ k ∈ NEED, k ∉ m) (hG : GS S D R) {a : Nat} (hk : 10 ≤ (S a).1 ∧ (S a).1 ≤ 17) {σ : mS} {first many : Int} (h : lsR S D R a σ first many) : lsR S D' R a σ first many := ⟨by rw [nd_ls hD hm hk]; exact h.1, fun i x y => skR_nd hD hm hG (h.2 i x y)⟩
theorem nmR_nd (hD : fr S D D' m) (hm : ∀ k ∈ NEED, k ∉ m) {q : Nat} {g : Int → Int} (ht : txF S D R q) (h : nmR S D R q g) : nmR S D' R q g := ⟨h.1, by rw [nd_row hD hm ht.2.1 (by decide) (by decide)]; exact h.2⟩
theorem stR_nd (hD : fr S D D' m) (hm : ∀ k ∈ NEED, k ∉ m) (hg : GI E Z S D R) {s : Nat} {r : Int → Int} (h : stR S D R s r) : stR S D' R s r := by
  obtain ⟨h1, hv, h3, h4, h5, h6⟩ := h
  obtain ⟨t1, t2, t3, t4, t5, t6, t7, t8⟩ := hg.2.2.1 s h1
  have kv : (S (rf R s 2)).1 = 45 := by rw [t8]
  refine ⟨h1, by rw [nd_row hD hm kv (by decide) (by decide)]; exact hv, by rw [nd_ls hD hm (by omega)]; exact h3, fun i a b => skR_nd hD hm hg.1 (h4 i a b), by rw [nd_ls hD hm (by omega)]; exact h5, fun k a b => ?_⟩
  obtain ⟨k7, m1, m2, m3⟩ := h6 k a b
  obtain ⟨l1, l2, l3, l4, l5⟩ := hg.2.2.2.1 _ k7
  exact ⟨k7, by rw [nd_ls hD hm (by omega)]; exact m1, fun i c d => skR_nd hD hm hg.1 (m2 i c d), nmR_nd hD hm (hg.2.2.2.2.2.1 _ l2) m3⟩
theorem GI_nd (hD : fr S D D' m) (hm : ∀ k ∈ NEED, k ∉ m) (hg : GI E Z S D R) : GI E Z S D' R := by
  refine ⟨fun s hs => ?_, fun a h1 h2 => ?_, hg.2.2.1, hg.2.2.2.1, hg.2.2.2.2.1, fun q hq => ?_, hg.2.2.2.2.2.2⟩
  · obtain ⟨⟨hf, hk, hp, hl⟩, hc⟩ := hg.1 s hs
    have k4 : (S (rf R s 4)).1 = 42 := by rw [hf.2.2.2.2.2.2.2.1]
    have k5 : (S (rf R s 5)).1 = 43 := by rw [hf.2.2.2.2.2.2.2.2.2.1]
    have k6 : (S (rf R s 6)).1 = 44 := by rw [hf.2.2.2.2.2.2.2.2.2.2.2]
    have e0 := nd_row hD hm hf.2.1 (by decide) (by decide)
    have e1 := nd_row hD hm hf.2.2.2.2.1 (by decide) (by decide)
    have e4 := nd_row hD hm k4 (by decide) (by decide)
    have e5 := nd_row hD hm k5 (by decide) (by decide)
    have e6 := nd_row hD hm k6 (by decide) (by decide)
    have e2 : D' s 2 = D s 2 := fr_at hD hs (hm _ (by decide))
    have e3 : D' s 3 = D s 3 := fr_at hD hs (hm _ (by decide))
    refine ⟨⟨hf, by rw [e0]; exact hk, by rw [e0, e1]; exact hp, by rw [e0, e2]; exact hl⟩, ?_⟩
    simp only [caOK, e0, e4, e5, e6, e3]
    exact hc
  · have e := nd_ls hD hm (a := a) ⟨h1, h2⟩
    obtain ⟨g1, g2, g3, g4⟩ := hg.2.1 a h1 h2
    exact ⟨g1, by rw [e]; exact g2, g3, by rw [e]; exact g4⟩
  · obtain ⟨f1, f2, f3, f4, f5⟩ := hg.2.2.2.2.2.1 q hq
    exact ⟨f1, f2, f3, by rw [nd_row hD hm hq (by decide) (by decide)]; exact f4, by rw [nd_row hD hm f2 (by decide) (by decide)]; exact f5⟩
theorem KS_nd (hD : fr S D D' m) (hm : ∀ k ∈ NEED, k ∉ m) (hk : KS E Z S D R) : KS E Z S D' R := by
  obtain ⟨h1, h2, h5⟩ := hk
  exact ⟨fun z hz => ⟨(h1 z hz).1, (h1 z hz).2.1, (h1 z hz).2.2.1, by rw [nd_row hD hm (h1 z hz).2.1 (by decide) (by decide)]; exact (h1 z hz).2.2.2⟩, h2, h5⟩
theorem KI_nd (hD : fr S D D' m) (hm : ∀ k ∈ NEED, k ∉ m) (hk : KI E Z S D R) : KI E Z S D' R := by
  refine ⟨?_, KS_nd hD hm hk.2⟩
  obtain ⟨a1, a2, ⟨b1, b2, b3, b4⟩, ⟨c1, c2, c3⟩, ⟨d1, d2, d3⟩⟩ := hk.1
  exact ⟨a1, a2, ⟨b1, b2, by rw [nd_row hD hm b1 (by decide) (by decide)]; exact b3, b4⟩, ⟨c1, c2, by rw [nd_row hD hm c1 (by decide) (by decide)]; exact c3⟩, ⟨d1, d2, by rw [nd_row hD hm d1 (by decide) (by decide)]; exact d3⟩⟩
theorem tolOK_sam2 {τ σ : mS} (h0 : τ 0 = σ 0) (h6 : τ 6 0 = σ 6 0) (h7 : τ 7 = σ 7) (h8 : τ 8 = σ 8) (h9 : τ 9 = σ 9) (h10 : τ 10 = σ 10) (h : tolOK σ) : tolOK τ := by
  rw [tolOK, h6, h9, h10, letS_same h0 h7 h8]
  exact h
theorem Rx_pen {σ σ' : mS} (hx : Rx E Z S D R P σ) (hD : fr S D D' m) (hm : ∀ k ∈ NEED, k ∉ m) (h0 : σ' 0 = σ 0) (h3 : σ' 3 = σ 3) (h4 : σ' 4 0 = σ 4 0) (h6 : σ' 6 0 = σ 6 0) (h7 : σ' 7 = σ 7) (h8 : σ' 8 = σ 8) (h9 : σ' 9 = σ 9) (h10 : σ' 10 = σ 10) (hpd : penD D' P σ') : Rx E Z S D' R P σ' := by
  obtain ⟨hg, hp, hki, hro, hnw, hbh, hsa, -⟩ := hx
  have k5 := pL_k hp 5 rfl (n := 14) rfl
  have k6 := pL_k hp 6 rfl (n := 15) rfl
  have k31 := pL_k hp 31 rfl (n := 16) rfl
  have d5 := nd_ls hD hm (a := P.2.1 5) (by omega)
  have d6 := nd_ls hD hm (a := P.2.1 6) (by omega)
  have d31 := nd_ls hD hm (a := P.2.1 31) (by omega)
  refine ⟨GI_nd hD hm hg, hp, KI_nd hD hm hki, by rw [h0]; exact hro, ⟨hnw.1, by rw [h0]; exact stR_nd hD hm hg hnw.2⟩, ?_, ?_, hpd⟩
  · obtain ⟨b1, b2, b3, b4, b5⟩ := hbh
    rw [behR, h3, h4, d5, d6]
    refine ⟨b1, b2, fun i x y => ⟨stR_nd hD hm hg (b3 i x y).1, (b3 i x y).2⟩, ?_, b5⟩
    rw [dstR, d5, d6]
    exact b4
  · intro hP0
    obtain ⟨s1, s2, s3⟩ := hsa hP0
    refine ⟨by rw [d31, h6]; exact s1, tolOK_sam2 h0 h6 h7 h8 h9 h10 s2, fun k x y => ?_⟩
    rw [h6] at y
    have ke := ((hg.2.1 (P.2.1 31) (by omega) (by omega)).2.2.2 k x (by rw [s1]; exact y)).2
    rw [k31] at ke
    have ke9 : (S (lE R (P.2.1 31) k)).1 = 9 := ke
    have hsf := hg.2.2.2.2.1 _ ke9
    have hle := hg.2.2.2.1 _ hsf.2
    have e0 : D' (lE R (P.2.1 31) k) 0 = D (lE R (P.2.1 31) k) 0 := fr_at hD ke9 (hm _ (by decide))
    have s4 := lsR_nd hD hm hg.1 (a := rf R (rf R (lE R (P.2.1 31) k) 1) 1) (by rw [hle.2.2.2.1]; decide) (s3 k x y).2
    refine ⟨by rw [e0, h10]; exact (s3 k x y).1, ?_⟩
    rw [h9]
    rw [lsR, np_same h0 h8, nu_same h0 h7]
    exact s4
/-- the reference's states that stand for the same -/
theorem Rx_same {σ σ' : mS} (hx : Rx E Z S D R P σ) (h : ∀ k ∈ [0, 3, 7, 8, 9, 10, 11, 13, 39], σ' k = σ k) (h0 : ∀ k ∈ [4, 5, 6, 12, 14, 15, 40], σ' k 0 = σ k 0) : Rx E Z S D R P σ' := Rx_pen hx (fr_rfl (m := [])) (fun k _ => List.not_mem_nil) (h 0 (by decide)) (h 3 (by decide)) (h0 4 (by decide)) (h0 6 (by decide)) (h 7 (by decide)) (h 8 (by decide)) (h 9 (by decide)) (h 10 (by decide)) (by
  rw [penD, h0 12 (by decide), h 11 (by decide), h 13 (by decide), h0 14 (by decide), h0 15 (by decide), h0 5 (by decide), h0 40 (by decide), h 39 (by decide)]
  exact hx.2.2.2.2.2.2.2)
end PN
