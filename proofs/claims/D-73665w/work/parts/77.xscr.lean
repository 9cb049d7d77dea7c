set_option maxRecDepth 100000
/-! SCRATCH: what stands for the reference's state stays, whatever is written into the component's tables -/
def SCR : List Nat := [8003, 42, 43, 44, 46, 47, 48, 49, 1022, 53, 63, 64, 68, 69, 73, 74, 75, 76, 77, 78, 79, 83, 84, 112, 115, 116, 117, 132]
def SCQ : List Nat := [1009, 1010]
theorem scr_k {k : Nat} (h : 10 ≤ k ∧ k ≤ 41) (i : Int) : md k i ∉ SCR ∧ md k i ∉ SCQ := by
  rw [mdN _ h.1]
  constructor <;> (intro h9; simp [SCR, SCQ] at h9; omega)
section SC
variable {E : gE} {Z : Nat → Nat} {S : xS} {D D' : xD} {R R' : xR} {P : xPk}
theorem ls_scr (hR : fr S R R' SCQ) {a : Nat} (hk : 10 ≤ (S a).1 ∧ (S a).1 ≤ 17) (h : lsOK Z S D R a) : R' a 1 = R a 1 ∧ rf R' a 1 = rf R a 1 ∧ (∀ i, R' (rf R a 1) i = R (rf R a 1) i) ∧ ∀ i, lE R' a i = lE R a i := by
  have e1 : R' a 1 = R a 1 := hR a 1 (scr_k ⟨hk.1, by omega⟩ 1).2
  have e2 : rf R' a 1 = rf R a 1 := by rw [rf, rf, e1]
  obtain ⟨b, kb, -, hb, hb2, hb3, -⟩ := lsOK_b h hk
  have e3 : ∀ i, R' (rf R a 1) i = R (rf R a 1) i := fun i => by
    rw [← hb]
    exact fr_at hR hb2 (scr_k ⟨by omega, by omega⟩ i).2
  exact ⟨e1, e2, e3, fun i => by show (R' (rf R' a 1) i).getD 0 = (R (rf R a 1) i).getD 0; rw [e2, e3]⟩
theorem lsOK_scr (hD : fr S D D' SCR) (hR : fr S R R' SCQ) {a : Nat} (hk : 10 ≤ (S a).1 ∧ (S a).1 ≤ 17) (h : lsOK Z S D R a) : lsOK Z S D' R' a := by
  obtain ⟨e1, e2, e3, e4⟩ := ls_scr hR hk h
  have e5 : D' a 2 = D a 2 := hD a 2 (scr_k ⟨hk.1, by omega⟩ 2).1
  obtain ⟨h1, h2, h3, h4⟩ := h
  refine ⟨by rw [e1, e2]; exact h1, by rw [e2, e5]; exact h2, by rw [e2]; exact h3, fun i a1 a2 => ?_⟩
  rw [e5] at a2
  rw [e2, e3, e4]
  exact h4 i a1 a2
theorem skR_scr (hG : GS S D R) (hD : fr S D D' SCR) (hR : fr S R R' SCQ) {s : Nat} {n : Int} {f : Int → Int} (h : skR S D R s n f) : skR S D' R' s n f := by
  obtain ⟨h1, h2, h3⟩ := h
  have r0 : rf R' s 0 = rf R s 0 := rf_at hR h1 (by decide)
  have e0 : D' (rf R s 0) = D (rf R s 0) := fr_row hD (hG s h1).1.1.2.1 (by decide) (by decide)
  exact ⟨h1, by rw [r0]; exact h2, by rw [r0, e0]; exact h3⟩
theorem nmR_scr (hD : fr S D D' SCR) (hR : fr S R R' SCQ) {q : Nat} {g : Int → Int} (hq : (S q).1 = 30) (ht : txF S D R q) (h : nmR S D R q g) : nmR S D' R' q g := by
  have r0 : rf R' q 0 = rf R q 0 := rf_at hR hq (by decide)
  have e0 : D' (rf R q 0) = D (rf R q 0) := fr_row hD ht.2.1 (by decide) (by decide)
  exact ⟨by rw [r0]; exact h.1, by rw [r0, e0]; exact h.2⟩
theorem stR_scr (hg : GI E Z S D R) (hD : fr S D D' SCR) (hR : fr S R R' SCQ) {s : Nat} {r : Int → Int} (h : stR S D R s r) : stR S D' R' s r := by
  obtain ⟨h1, hv, h3, h4, h5, h6⟩ := h
  obtain ⟨t1, t2, t3, t4, t5, t6, t7, t8⟩ := hg.2.2.1 s h1
  have r0 : rf R' s 0 = rf R s 0 := rf_at hR h1 (by decide)
  have r1 : rf R' s 1 = rf R s 1 := rf_at hR h1 (by decide)
  have r2 : rf R' s 2 = rf R s 2 := rf_at hR h1 (by decide)
  have kv : (S (rf R s 2)).1 = 45 := by rw [t8]
  have ev : D' (rf R s 2) = D (rf R s 2) := fr_row hD kv (by decide) (by decide)
  have eI : D' (rf R s 1) 2 = D (rf R s 1) 2 := fr_at hD t5 (by decide)
  have eM : D' (rf R s 0) 2 = D (rf R s 0) 2 := fr_at hD t2 (by decide)
  have lI := ls_scr hR (by omega) (hg.2.1 (rf R s 1) (by omega) (by omega))
  have lM := ls_scr hR (by omega) (hg.2.1 (rf R s 0) (by omega) (by omega))
  refine ⟨h1, by rw [r2, ev]; exact hv, by rw [r1, eI]; exact h3, fun i a b => ?_, by rw [r0, eM]; exact h5, fun m a b => ?_⟩
  · rw [r1, lI.2.2.2]
    exact skR_scr hg.1 hD hR (h4 i a b)
  · obtain ⟨k7, m1, m2, m3⟩ := h6 m a b
    obtain ⟨l1, l2, l3, l4, l5⟩ := hg.2.2.2.1 _ k7
    rw [r0, lM.2.2.2]
    have q0 : rf R' (lE R (rf R s 0) m) 0 = rf R (lE R (rf R s 0) m) 0 := rf_at hR k7 (by decide)
    have q1 : rf R' (lE R (rf R s 0) m) 1 = rf R (lE R (rf R s 0) m) 1 := rf_at hR k7 (by decide)
    have eL : D' (rf R (lE R (rf R s 0) m) 1) 2 = D (rf R (lE R (rf R s 0) m) 1) 2 := fr_at hD l4 (by decide)
    have lL := ls_scr hR (by omega) (hg.2.1 (rf R (lE R (rf R s 0) m) 1) (by omega) (by omega))
    refine ⟨k7, by rw [q1, eL]; exact m1, fun i c d => ?_, by rw [q0]; exact nmR_scr hD hR l2 (hg.2.2.2.2.2.1 _ l2) m3⟩
    rw [q1, lL.2.2.2]
    exact skR_scr hg.1 hD hR (m2 i c d)
theorem lsR_scr (hg : GI E Z S D R) (hD : fr S D D' SCR) (hR : fr S R R' SCQ) {a : Nat} (hk : 10 ≤ (S a).1 ∧ (S a).1 ≤ 17) {σ : mS} {first many : Int} (h : lsR S D R a σ first many) : lsR S D' R' a σ first many := by
  have l := ls_scr hR hk (hg.2.1 a hk.1 hk.2)
  have e5 : D' a 2 = D a 2 := hD a 2 (scr_k ⟨hk.1, by omega⟩ 2).1
  exact ⟨by rw [e5]; exact h.1, fun i x y => by rw [l.2.2.2]; exact skR_scr hg.1 hD hR (h.2 i x y)⟩
theorem GI_scr (hg : GI E Z S D R) (hD : fr S D D' SCR) (hR : fr S R R' SCQ) (hG : GS S D' R') : GI E Z S D' R' := by
  refine ⟨hG, fun a h1 h2 => lsOK_scr hD hR ⟨h1, h2⟩ (hg.2.1 a h1 h2), fun s hs => ?_, fun t ht => ?_, fun p hp => ?_, fun q hq => ?_, hg.2.2.2.2.2.2⟩
  · have r0 : R' s 0 = R s 0 := fr_at hR hs (by decide)
    have r1 : R' s 1 = R s 1 := fr_at hR hs (by decide)
    have r2 : R' s 2 = R s 2 := fr_at hR hs (by decide)
    have := hg.2.2.1 s hs
    simp only [stF, rf, r0, r1, r2] at this ⊢
    exact this
  · have r0 : R' t 0 = R t 0 := fr_at hR ht (by decide)
    have r1 : R' t 1 = R t 1 := fr_at hR ht (by decide)
    have := hg.2.2.2.1 t ht
    simp only [leF0, rf, r0, r1] at this ⊢
    exact this
  · have r1 : R' p 1 = R p 1 := fr_at hR hp (by decide)
    have := hg.2.2.2.2.1 p hp
    simp only [saF, rf, r1] at this ⊢
    exact this
  · have r0 : R' q 0 = R q 0 := fr_at hR hq (by decide)
    have q0 : rf R' q 0 = rf R q 0 := by rw [rf, rf, r0]
    obtain ⟨a1, a2, a3, a4, a5⟩ := hg.2.2.2.2.2.1 q hq
    have e0 : D' (rf R q 0) = D (rf R q 0) := fr_row hD a2 (by decide) (by decide)
    have e1 : D' q 1 = D q 1 := fr_at hD hq (by decide)
    exact ⟨by rw [r0, q0]; exact a1, by rw [q0]; exact a2, by rw [q0]; exact a3, by rw [e1]; exact a4, by rw [q0, e0]; exact a5⟩
theorem penOK_R (hp : penOK Z S R P) (hR : fr S R R' SCQ) : penOK Z S R' P := by
  obtain ⟨h1, h2, h3, h4, h5, h6, h7⟩ := hp
  have key : ∀ k : Nat, k < 38 → k ≠ 9 → k ≠ 10 → R' P.1 (k : Int) = R P.1 (k : Int) := fun k a b c => fr_at hR h1 (by
    show md 1 (k : Int) ∉ SCQ
    rw [md, if_neg (by decide), if_pos (by decide)]
    intro h9
    simp [SCQ] at h9
    omega)
  have hA : ∀ k : Nat, isPA k = true → k < 38 ∧ k ≠ 9 ∧ k ≠ 10 := by
    intro k hk
    by_cases c : k < 38
    · have : ∀ i : Fin 38, isPA i.1 = true → i.1 ≠ 9 ∧ i.1 ≠ 10 := by decide
      exact ⟨c, this ⟨k, c⟩ hk⟩
    · exfalso
      unfold isPA at hk
      split at hk <;> first | omega | cases hk
  have hLs : ∀ k : Nat, isPL k = true → k < 38 ∧ k ≠ 9 ∧ k ≠ 10 := by
    intro k hk
    by_cases c : k < 38
    · have : ∀ i : Fin 38, isPL i.1 = true → i.1 ≠ 9 ∧ i.1 ≠ 10 := by decide
      exact ⟨c, this ⟨k, c⟩ hk⟩
    · exfalso
      unfold isPL at hk
      split at hk <;> first | omega | cases hk
  have hgk : ∀ k : Nat, isPG k = true → isPA k = true ∧ k < 38 := by
    intro k hk
    by_cases c : k < 38
    · have : ∀ i : Fin 38, isPG i.1 = true → isPA i.1 = true := by decide
      exact ⟨this ⟨k, c⟩ hk, c⟩
    · exfalso
      unfold isPG at hk
      split at hk <;> first | omega | cases hk
  refine ⟨h1, fun k hk => ?_, fun k hk => ?_, fun k hk i a b => ?_, fun i hi => ?_, ?_, h7⟩
  · obtain ⟨a, b, c⟩ := hA k hk
    rw [key k a b c]; exact h2 k hk
  · obtain ⟨a, b, c⟩ := hLs k hk
    rw [key k a b c]; exact h3 k hk
  · have h8 : (S (P.2.1 k)).1 = 50 + k := by rw [(h2 k (hgk k hk).1).2]
    have h9 : R' (P.2.1 k) i = R (P.2.1 k) i := fr_at hR h8 (by
      have := (hgk k hk).2
      rw [mdN _ (by omega)]
      intro h9
      simp [SCQ] at h9
      omega)
    rw [h9]; exact h4 k hk i a b
  · have k20 : (S (P.2.1 20)).1 = 3 := (h3 20 rfl).2
    have k21 : (S (P.2.1 21)).1 = 19 := (h3 21 rfl).2
    have e20 : R' (P.2.1 20) i = R (P.2.1 20) i := fr_at hR k20 (by rcases hi with rfl | rfl <;> decide)
    have e21 : R' (P.2.1 21) i = R (P.2.1 21) i := fr_at hR k21 (by rw [mdN _ (by decide)]; decide)
    rw [e20, e21]; exact h5 i hi
  · rw [show R' P.1 11 = R P.1 11 from key 11 (by decide) (by decide) (by decide)]; exact h6
theorem nmK_scr (hD : fr S D D' SCR) (hR : fr S R R' SCQ) {q : Nat} {n : Int} {f : Int → Int} (h : nmK S D R q n f) : nmK S D' R' q n f := by
  obtain ⟨h1, h2, h3, h4⟩ := h
  have r0 : rf R' q 0 = rf R q 0 := rf_at hR h1 (by decide)
  have e0 : D' (rf R q 0) = D (rf R q 0) := fr_row hD h2 (by decide) (by decide)
  exact ⟨h1, by rw [r0]; exact h2, by rw [r0]; exact h3, by rw [r0, e0]; exact h4⟩
theorem KS_scr (hD : fr S D D' SCR) (hR : fr S R R' SCQ) (h : KS E Z S D R) : KS E Z S D' R' := by
  obtain ⟨h1, ⟨h2, h3, h4⟩, h5⟩ := h
  exact ⟨fun z hz => nmK_scr hD hR (h1 z hz), ⟨h2, h3, fun j hj => by rw [show R' (Z 2) (j : Int) = R (Z 2) (j : Int) from fr_at hR h2 (by rw [mdN _ (by decide)]; decide)]; exact h4 j hj⟩, h5⟩
theorem Rx_scr {σ : mS} (hx : Rx E Z S D R P σ) (hD : fr S D D' SCR) (hR : fr S R R' SCQ) (hG : GS S D' R') : Rx E Z S D' R' P σ := by
  obtain ⟨hg, hp, hki, hro, hnw, hbh, hsa, hpd⟩ := hx
  have hr4 : R' P.1 4 = R P.1 4 := fr_at hR hp.1 (by decide)
  have hq4 : rf R' P.1 4 = rf R P.1 4 := by rw [rf, rf, hr4]
  have k5 : (S (P.2.1 5)).1 = 14 := pL_k hp 5 rfl rfl
  have k6 : (S (P.2.1 6)).1 = 15 := pL_k hp 6 rfl rfl
  have k31 : (S (P.2.1 31)).1 = 16 := pL_k hp 31 rfl rfl
  have l5 := ls_scr hR (by omega) (hg.2.1 (P.2.1 5) (by omega) (by omega))
  have l6 := ls_scr hR (by omega) (hg.2.1 (P.2.1 6) (by omega) (by omega))
  have l31 := ls_scr hR (by omega) (hg.2.1 (P.2.1 31) (by omega) (by omega))
  have d5 : D' (P.2.1 5) 2 = D (P.2.1 5) 2 := fr_at hD k5 (by decide)
  have d6 : D' (P.2.1 6) 2 = D (P.2.1 6) 2 := fr_at hD k6 (by decide)
  have d31 : D' (P.2.1 31) 2 = D (P.2.1 31) 2 := fr_at hD k31 (by decide)
  refine ⟨GI_scr hg hD hR hG, penOK_R hp hR, ?_, hro, ⟨by rw [hr4, hq4]; exact hnw.1, by rw [hq4]; exact stR_scr hg hD hR hnw.2⟩, ?_, ?_, ?_⟩
  · refine ⟨?_, KS_scr hD hR hki.2⟩
    obtain ⟨a1, a2, ⟨b1, b2, b3, b4⟩, ⟨c1, c2, c3⟩, e1, e2, e3⟩ := hki.1
    have x1 : D' (Z 1) = D (Z 1) := fr_row hD b1 (by decide) (by decide)
    have x3 : D' (Z 3) = D (Z 3) := fr_row hD c1 (by decide) (by decide)
    have x4 : D' (Z 4) = D (Z 4) := fr_row hD e1 (by decide) (by decide)
    exact ⟨a1, a2, ⟨b1, b2, by rw [x1]; exact b3, b4⟩, ⟨c1, c2, by rw [x3]; exact c3⟩, e1, e2, by rw [x4]; exact e3⟩
  · obtain ⟨a1, a2, a3, a4, a5⟩ := hbh
    refine ⟨by rw [d5]; exact a1, a2, fun i x y => ⟨by rw [l5.2.2.2]; exact stR_scr hg hD hR (a3 i x y).1, (a3 i x y).2⟩, ?_, by rw [d6]; exact a5⟩
    simp only [dstR, l5.2.2.2, l6.2.2.2, d5, d6, hq4]
    exact a4
  · intro hP0
    obtain ⟨a1, a2, a3⟩ := hsa hP0
    refine ⟨by rw [d31]; exact a1, a2, fun k x y => ?_⟩
    obtain ⟨c1, c2⟩ := a3 k x y
    have hk9 : (S (lE R (P.2.1 31) k)).1 = 9 := by
      have := (hg.2.1 (P.2.1 31) (by omega) (by omega)).2.2.2 k x (by omega)
      rw [this.2, k31]
      rfl
    obtain ⟨s1, s2⟩ := hg.2.2.2.2.1 _ hk9
    obtain ⟨t1, t2, t3, t4, t5⟩ := hg.2.2.2.1 _ s2
    have r1 : rf R' (lE R (P.2.1 31) k) 1 = rf R (lE R (P.2.1 31) k) 1 := rf_at hR hk9 (by decide)
    have r2 : rf R' (rf R (lE R (P.2.1 31) k) 1) 1 = rf R (rf R (lE R (P.2.1 31) k) 1) 1 := rf_at hR s2 (by decide)
    rw [l31.2.2.2, r1, r2]
    exact ⟨by rw [show D' (lE R (P.2.1 31) k) 0 = D (lE R (P.2.1 31) k) 0 from fr_at hD hk9 (by decide)]; exact c1, lsR_scr hg hD hR (by omega) c2⟩
  · obtain ⟨a1, a2, a3, a4, a5, a6, a7⟩ := hpd
    have x0 : D' (P.2.1 0) = D (P.2.1 0) := fr_row hD (pA_k hp 0 rfl rfl : _ = 50) (by decide) (by decide)
    have x2 : D' (P.2.1 2) = D (P.2.1 2) := fr_row hD (pA_k hp 2 rfl rfl : _ = 52) (by decide) (by decide)
    have x36 : D' (P.2.1 36) = D (P.2.1 36) := fr_row hD (pA_k hp 36 rfl rfl : _ = 86) (by decide) (by decide)
    have f1 : D' P.1 1 = D P.1 1 := fr_at hD hp.1 (by decide)
    have f7 : D' P.1 7 = D P.1 7 := fr_at hD hp.1 (by decide)
    have f8 : D' P.1 8 = D P.1 8 := fr_at hD hp.1 (by decide)
    have f35 : D' P.1 35 = D P.1 35 := fr_at hD hp.1 (by decide)
    have f37 : D' P.1 37 = D P.1 37 := fr_at hD hp.1 (by decide)
    refine ⟨by rw [f1]; exact a1, by rw [x0]; exact a2, by rw [x2]; exact a3, by rw [f7, f8]; exact a4, by rw [f35]; exact a5, by rw [f37]; exact a6, by rw [x36]; exact a7⟩
end SC
