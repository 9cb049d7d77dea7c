set_option maxRecDepth 100000
/-! NEW CELLS: what stands for the reference's state stays when cells are added -/
def ext (S S' : xS) (D D' : xD) (R R' : xR) : Prop := (∀ q, (S q).1 ≠ 0 → S' q = S q) ∧ (∀ q, (S q).1 ≠ 0 → D' q = D q) ∧ ∀ q, (S q).1 ≠ 0 → R' q = R q
theorem ext_rfl {S : xS} {D : xD} {R : xR} : ext S S D D R R := ⟨fun _ _ => rfl, fun _ _ => rfl, fun _ _ => rfl⟩
theorem ext_t {S S1 S2 : xS} {D D1 D2 : xD} {R R1 R2 : xR} (h : ext S S1 D D1 R R1) (h2 : ext S1 S2 D1 D2 R1 R2) : ext S S2 D D2 R R2 := by
  have k : ∀ q, (S q).1 ≠ 0 → (S1 q).1 ≠ 0 := fun q hq => by rw [h.1 q hq]; exact hq
  exact ⟨fun q hq => (h2.1 q (k q hq)).trans (h.1 q hq), fun q hq => (h2.2.1 q (k q hq)).trans (h.2.1 q hq), fun q hq => (h2.2.2 q (k q hq)).trans (h.2.2 q hq)⟩
section EX
variable {E : gE} {Z : Nat → Nat} {S S' : xS} {D D' : xD} {R R' : xR} {P : xPk}
theorem rf_ext (h : ext S S' D D' R R') {q k : Nat} (hk : (S q).1 = k) (h0 : k ≠ 0) (j : Int) : rf R' q j = rf R q j := by rw [rf, rf, h.2.2 q (by rw [hk]; exact h0)]
theorem ls_ext (h : ext S S' D D' R R') {a : Nat} (hk : 10 ≤ (S a).1 ∧ (S a).1 ≤ 17) (hl : lsOK Z S D R a) : rf R' a 1 = rf R a 1 ∧ (S (rf R a 1)).1 ≠ 0 ∧ D' a = D a ∧ ∀ i, lE R' a i = lE R a i := by
  have e1 : rf R' a 1 = rf R a 1 := rf_ext h rfl (by omega) 1
  obtain ⟨b, kb, -, hb, hb2, hb3, -⟩ := lsOK_b hl hk
  have kb0 : (S (rf R a 1)).1 ≠ 0 := by rw [← hb]; omega
  exact ⟨e1, kb0, h.2.1 a (by omega), fun i => by rw [lE, lE, e1]; exact rf_ext h rfl kb0 i⟩
theorem skR_ext (h : ext S S' D D' R R') (hG : GS S D R) {s : Nat} {n : Int} {f : Int → Int} (hs : skR S D R s n f) : skR S' D' R' s n f := by
  obtain ⟨h1, h2, h3⟩ := hs
  have k0 := (hG s h1).1.1.2.1
  have r0 : rf R' s 0 = rf R s 0 := rf_ext h h1 (by decide) 0
  exact ⟨by rw [h.1 s (by rw [h1]; decide)]; exact h1, by rw [r0, h.1 _ (by rw [k0]; decide)]; exact h2, by rw [r0, h.2.1 _ (by rw [k0]; decide)]; exact h3⟩
theorem lsR_ext (h : ext S S' D D' R R') (hg : GI E Z S D R) {a : Nat} (hk : 10 ≤ (S a).1 ∧ (S a).1 ≤ 17) {σ : mS} {first many : Int} (hl : lsR S D R a σ first many) : lsR S' D' R' a σ first many := by
  have l := ls_ext h hk (hg.2.1 a hk.1 hk.2)
  exact ⟨by rw [l.2.2.1]; exact hl.1, fun i x y => by rw [l.2.2.2]; exact skR_ext h hg.1 (hl.2 i x y)⟩
theorem nmR_ext (h : ext S S' D D' R R') {q : Nat} {g : Int → Int} (hq : (S q).1 = 30) (ht : txF S D R q) (hn : nmR S D R q g) : nmR S' D' R' q g := by
  have r0 : rf R' q 0 = rf R q 0 := rf_ext h hq (by decide) 0
  have k0 : (S (rf R q 0)).1 ≠ 0 := by rw [ht.2.1]; decide
  exact ⟨by rw [r0, h.1 _ k0]; exact hn.1, by rw [r0, h.1 _ k0, h.2.1 _ k0]; exact hn.2⟩
theorem stR_ext (h : ext S S' D D' R R') (hg : GI E Z S D R) {s : Nat} {r : Int → Int} (hs : stR S D R s r) : stR S' D' R' s r := by
  obtain ⟨h1, hv, h3, h4, h5, h6⟩ := hs
  obtain ⟨t1, t2, t3, t4, t5, t6, t7, t8⟩ := hg.2.2.1 s h1
  have r0 : rf R' s 0 = rf R s 0 := rf_ext h h1 (by decide) 0
  have r1 : rf R' s 1 = rf R s 1 := rf_ext h h1 (by decide) 1
  have r2 : rf R' s 2 = rf R s 2 := rf_ext h h1 (by decide) 2
  have lI := ls_ext h (by omega) (hg.2.1 (rf R s 1) (by omega) (by omega))
  have lM := ls_ext h (by omega) (hg.2.1 (rf R s 0) (by omega) (by omega))
  refine ⟨by rw [h.1 s (by rw [h1]; decide)]; exact h1, by rw [r2, h.2.1 _ (by rw [t8]; exact (by decide : (45 : Nat) ≠ 0))]; exact hv, by rw [r1, lI.2.2.1]; exact h3, fun i a b => ?_, by rw [r0, lM.2.2.1]; exact h5, fun m a b => ?_⟩
  · rw [r1, lI.2.2.2]
    exact skR_ext h hg.1 (h4 i a b)
  · obtain ⟨k7, m1, m2, m3⟩ := h6 m a b
    obtain ⟨l1, l2, l3, l4, l5⟩ := hg.2.2.2.1 _ k7
    rw [r0, lM.2.2.2]
    have q0 : rf R' (lE R (rf R s 0) m) 0 = rf R (lE R (rf R s 0) m) 0 := rf_ext h k7 (by decide) 0
    have q1 : rf R' (lE R (rf R s 0) m) 1 = rf R (lE R (rf R s 0) m) 1 := rf_ext h k7 (by decide) 1
    have lL := ls_ext h (by omega) (hg.2.1 (rf R (lE R (rf R s 0) m) 1) (by omega) (by omega))
    refine ⟨by rw [h.1 _ (by rw [k7]; decide)]; exact k7, by rw [q1, lL.2.2.1]; exact m1, fun i c d => ?_, by rw [q0]; exact nmR_ext h l2 (hg.2.2.2.2.2.1 _ l2) m3⟩
    rw [q1, lL.2.2.2]
    exact skR_ext h hg.1 (m2 i c d)
theorem penOK_ext (h : ext S S' D D' R R') (hp : penOK Z S R P) : penOK Z S' R' P := by
  obtain ⟨h1, h2, h3, h4, h5, h6, h7⟩ := hp
  have e1 := h.2.2 P.1 (by rw [h1]; decide)
  have hgk : ∀ k : Nat, isPG k = true → isPA k = true := by
    intro k hk
    by_cases c : k < 38
    · have : ∀ i : Fin 38, isPG i.1 = true → isPA i.1 = true := by decide
      exact this ⟨k, c⟩ hk
    · exfalso
      unfold isPG at hk
      split at hk <;> first | omega | cases hk
  have hpl : ∀ k : Nat, isPL k = true → pkd k ≠ 0 := by
    intro k hk
    by_cases c : k < 38
    · have : ∀ i : Fin 38, isPL i.1 = true → pkd i.1 ≠ 0 := by decide
      exact this ⟨k, c⟩ hk
    · exfalso
      unfold isPL at hk
      split at hk <;> first | omega | cases hk
  have k20 : (S (P.2.1 20)).1 ≠ 0 := by rw [(h3 20 rfl).2]; decide
  have k21 : (S (P.2.1 21)).1 ≠ 0 := by rw [(h3 21 rfl).2]; decide
  refine ⟨by rw [h.1 _ (by rw [h1]; decide)]; exact h1, fun k hk => ?_, fun k hk => ?_, fun k hk i a b => ?_, fun i hi => ?_, by rw [e1]; exact h6, h7⟩
  · have e := (h2 k hk).2
    exact ⟨by rw [e1]; exact (h2 k hk).1, by rw [h.1 _ (by rw [e]; show 50 + k ≠ 0; omega)]; exact e⟩
  · have e := (h3 k hk).2
    exact ⟨by rw [e1]; exact (h3 k hk).1, by rw [h.1 _ (by rw [e]; exact hpl k hk)]; exact e⟩
  · have e := (h4 k hk i a b).2
    have e0 := (h2 k (hgk k hk)).2
    exact ⟨by rw [h.2.2 _ (by rw [e0]; show 50 + k ≠ 0; omega)]; exact (h4 k hk i a b).1, by rw [h.1 _ (by rw [e]; show 100 + k ≠ 0; omega)]; exact e⟩
  · obtain ⟨a1, a2, a3, a4⟩ := h5 i hi
    exact ⟨by rw [h.2.2 _ k20]; exact a1, by rw [h.1 _ (by rw [a2]; show 46 + i.toNat ≠ 0; omega)]; exact a2, by rw [h.2.2 _ k21]; exact a3, by rw [h.1 _ (by rw [a4]; show 48 + i.toNat ≠ 0; omega)]; exact a4⟩
theorem nmK_ext (h : ext S S' D D' R R') {q : Nat} {n : Int} {f : Int → Int} (hn : nmK S D R q n f) : nmK S' D' R' q n f := by
  obtain ⟨h1, h2, h3, h4⟩ := hn
  have r0 : rf R' q 0 = rf R q 0 := rf_ext h h1 (by decide) 0
  have k0 : (S (rf R q 0)).1 ≠ 0 := by rw [h2]; decide
  exact ⟨by rw [h.1 _ (by rw [h1]; decide)]; exact h1, by rw [r0, h.1 _ k0]; exact h2, by rw [r0, h.1 _ k0]; exact h3, by rw [r0, h.2.1 _ k0]; exact h4⟩
theorem KS_ext (h : ext S S' D D' R R') (hk : KS E Z S D R) : KS E Z S' D' R' := by
  obtain ⟨h1, ⟨h2, h3, h4⟩, h5⟩ := hk
  have z2 : (S (Z 2)).1 ≠ 0 := by rw [h2]; decide
  exact ⟨fun z hz => nmK_ext h (h1 z hz), ⟨by rw [h.1 _ z2]; exact h2, by rw [h.1 _ z2]; exact h3, fun j hj => by rw [h.2.2 _ z2]; exact h4 j hj⟩, h5⟩
theorem KI_ext (h : ext S S' D D' R R') (hk : KI E Z S D R) : KI E Z S' D' R' := by
  refine ⟨?_, KS_ext h hk.2⟩
  obtain ⟨a1, a2, ⟨b1, b2, b3, b4⟩, ⟨c1, c2, c3⟩, ⟨d1, d2, d3⟩⟩ := hk.1
  have z0 := h.1 (Z 0) (by rw [a1]; decide)
  have z1 := h.1 (Z 1) (by rw [b1]; decide)
  have z3 := h.1 (Z 3) (by rw [c1]; decide)
  have z4 := h.1 (Z 4) (by rw [d1]; decide)
  have y1 := h.2.1 (Z 1) (by rw [b1]; decide)
  have y3 := h.2.1 (Z 3) (by rw [c1]; decide)
  have y4 := h.2.1 (Z 4) (by rw [d1]; decide)
  exact ⟨by rw [z0]; exact a1, by rw [z0]; exact a2, ⟨by rw [z1]; exact b1, by rw [z1]; exact b2, by rw [y1]; exact b3, b4⟩, ⟨by rw [z3]; exact c1, by rw [z3]; exact c2, by rw [y3]; exact c3⟩, ⟨by rw [z4]; exact d1, by rw [z4]; exact d2, by rw [y4]; exact d3⟩⟩
theorem Rx_ext0 {σ : mS} (h : ext S S' D D' R R') (hx : Rx E Z S D R P σ) (hG : GI E Z S' D' R') : Rx E Z S' D' R' P σ := by
  obtain ⟨hg, hp, hki, hro, hnw, hbh, hsa, hpd⟩ := hx
  have e1 := h.2.2 P.1 (by rw [hp.1]; decide)
  have r4 : rf R' P.1 4 = rf R P.1 4 := rf_ext h hp.1 (by decide) 4
  have k5 := pL_k hp 5 rfl (n := 14) rfl
  have k6 := pL_k hp 6 rfl (n := 15) rfl
  have k31 := pL_k hp 31 rfl (n := 16) rfl
  have l5 := ls_ext h (by omega) (hg.2.1 (P.2.1 5) (by omega) (by omega))
  have l6 := ls_ext h (by omega) (hg.2.1 (P.2.1 6) (by omega) (by omega))
  have l31 := ls_ext h (by omega) (hg.2.1 (P.2.1 31) (by omega) (by omega))
  refine ⟨hG, penOK_ext h hp, KI_ext h hki, hro, ⟨by rw [e1, r4]; exact hnw.1, by rw [r4]; exact stR_ext h hg hnw.2⟩, ?_, ?_, ?_⟩
  · obtain ⟨b1, b2, b3, b4, b5⟩ := hbh
    refine ⟨by rw [l5.2.2.1]; exact b1, b2, fun i x y => ?_, ?_, by rw [l6.2.2.1]; exact b5⟩
    · rw [l5.2.2.2]
      exact ⟨stR_ext h hg (b3 i x y).1, (b3 i x y).2⟩
    · obtain ⟨d1, d2, d3, d4, d5⟩ := b4
      refine ⟨?_, ?_, ?_, ?_, ?_⟩
      · rw [l5.2.2.1]; intro i j x y z; rw [l5.2.2.2, l5.2.2.2]; exact d1 i j x y z
      · rw [l6.2.2.1]; intro i j x y z; rw [l6.2.2.2, l6.2.2.2]; exact d2 i j x y z
      · rw [l5.2.2.1]; intro i x y; rw [l5.2.2.2, r4]; exact d3 i x y
      · rw [l6.2.2.1]; intro i x y; rw [l6.2.2.2, r4]; exact d4 i x y
      · rw [l5.2.2.1, l6.2.2.1]; intro i j x y z u; rw [l5.2.2.2, l6.2.2.2]; exact d5 i j x y z u
  · intro hP0
    obtain ⟨s1, s2, s3⟩ := hsa hP0
    refine ⟨by rw [l31.2.2.1]; exact s1, s2, fun k x y => ?_⟩
    have hls := hg.2.1 (P.2.1 31) (by omega) (by omega)
    have ke := (hls.2.2.2 k x (by rw [s1]; exact y)).2
    rw [k31] at ke
    have ke9 : (S (lE R (P.2.1 31) k)).1 = 9 := ke
    have hsf := hg.2.2.2.2.1 _ ke9
    have hle := hg.2.2.2.1 _ hsf.2
    have q1 : rf R' (lE R (P.2.1 31) k) 1 = rf R (lE R (P.2.1 31) k) 1 := rf_ext h ke9 (by decide) 1
    have q2 : rf R' (rf R (lE R (P.2.1 31) k) 1) 1 = rf R (rf R (lE R (P.2.1 31) k) 1) 1 := rf_ext h hsf.2 (by decide) 1
    rw [l31.2.2.2, q1, q2, h.2.1 _ (by rw [ke9]; decide)]
    exact ⟨(s3 k x y).1, lsR_ext h hg (by rw [hle.2.2.2.1]; decide) (s3 k x y).2⟩
  · have p0 := h.2.1 P.1 (by rw [hp.1]; decide)
    have pa : ∀ k : Nat, isPA k = true → D' (P.2.1 k) = D (P.2.1 k) := fun k hk => h.2.1 _ (by rw [(hp.2.1 k hk).2]; show 50 + k ≠ 0; omega)
    rw [penD, p0, pa 0 rfl, pa 2 rfl, pa 36 rfl]
    exact hpd
/-- only cells of no account are new -/
theorem GI_ext (h : ext S S' D D' R R') (hg : GI E Z S D R) (hn : ∀ q, (S q).1 = 0 → (S' q).1 ≠ 2 ∧ (S' q).1 ≠ 7 ∧ (S' q).1 ≠ 8 ∧ (S' q).1 ≠ 9 ∧ ¬ (10 ≤ (S' q).1 ∧ (S' q).1 ≤ 17) ∧ (S' q).1 ≠ 30 ∧ (wk (S' q).1 = true → E.2.2 q)) : GI E Z S' D' R' := by
  have old : ∀ q k, (S' q).1 = k → (k = 2 ∨ k = 7 ∨ k = 8 ∨ k = 9 ∨ (10 ≤ k ∧ k ≤ 17) ∨ k = 30) → (S q).1 = k := fun q k hk hc => by
    by_cases c : (S q).1 = 0
    · have := hn q c
      omega
    · rw [← h.1 q c]; exact hk
  refine ⟨fun s hs => ?_, fun a h1 h2 => ?_, fun s hs => ?_, fun t ht => ?_, fun p hp => ?_, fun q hq => ?_, fun q hq => ?_⟩
  · have hs0 := old s 8 hs (by omega)
    obtain ⟨⟨hf, hk, hpc, hl⟩, hc⟩ := hg.1 s hs0
    have es := h.2.2 s (by rw [hs0]; decide)
    have ed := h.2.1 s (by rw [hs0]; decide)
    have q : ∀ j, rf R' s j = rf R s j := fun j => by rw [rf, rf, es]
    have k0 : (S (rf R s 0)).1 ≠ 0 := by rw [hf.2.1]; decide
    have k1 : (S (rf R s 1)).1 ≠ 0 := by rw [hf.2.2.2.2.1]; decide
    have k4 : (S (rf R s 4)).1 ≠ 0 := by rw [hf.2.2.2.2.2.2.2.1]; exact (by decide : (42 : Nat) ≠ 0)
    have k5 : (S (rf R s 5)).1 ≠ 0 := by rw [hf.2.2.2.2.2.2.2.2.2.1]; exact (by decide : (43 : Nat) ≠ 0)
    have k6 : (S (rf R s 6)).1 ≠ 0 := by rw [hf.2.2.2.2.2.2.2.2.2.2.2]; exact (by decide : (44 : Nat) ≠ 0)
    have hN : strN S' R' s = strN S R s := by rw [strN, strN, q, h.1 _ k0]
    refine ⟨⟨?_, ?_, ?_, ?_⟩, ?_⟩
    · simp only [skF0, hN, q, es, h.1 _ k0, h.1 _ k1, h.1 _ k4, h.1 _ k5, h.1 _ k6]
      exact hf
    · rw [hN, q, h.2.1 _ k0]; exact hk
    · rw [hN, q, q, h.2.1 _ k0, h.2.1 _ k1]; exact hpc
    · rw [hN, q, h.2.1 _ k0, ed]; exact hl
    · simp only [caOK, hN, q, h.2.1 _ k0, h.2.1 _ k4, h.2.1 _ k5, h.2.1 _ k6, ed]
      exact hc
  · have h0 := old a _ rfl (by omega)
    have hl := hg.2.1 a (by omega) (by omega)
    have l := ls_ext h (by omega) hl
    have ea := h.2.2 a (by omega)
    have sa := h.1 a (by omega)
    obtain ⟨g1, g2, g3, g4⟩ := hl
    refine ⟨by rw [ea, l.1]; exact g1, by rw [l.1, l.2.2.1, h.1 _ l.2.1]; exact g2, by rw [l.1, sa, h.1 _ l.2.1]; exact g3, fun i x y => ?_⟩
    rw [l.2.2.1] at y
    have g := g4 i x y
    have k0 : (S (lE R a i)).1 ≠ 0 := by
      rw [g.2]
      rcases (show (S a).1 = 10 ∨ (S a).1 = 11 ∨ (S a).1 = 12 ∨ (S a).1 = 13 ∨ (S a).1 = 14 ∨ (S a).1 = 15 ∨ (S a).1 = 16 ∨ (S a).1 = 17 by omega) with e | e | e | e | e | e | e | e <;> rw [e] <;> decide
    rw [l.1, l.2.2.2, h.2.2 _ l.2.1, h.1 _ k0, sa]
    exact g
  · have h0 := old s 2 hs (by omega)
    have f := hg.2.2.1 s h0
    have es := h.2.2 s (by rw [h0]; decide)
    have q : ∀ j, rf R' s j = rf R s j := fun j => by rw [rf, rf, es]
    simp only [stF, q, es, h.1 _ (show (S (rf R s 0)).1 ≠ 0 by rw [f.2.1]; decide), h.1 _ (show (S (rf R s 1)).1 ≠ 0 by rw [f.2.2.2.2.1]; decide), h.1 _ (show (S (rf R s 2)).1 ≠ 0 by rw [f.2.2.2.2.2.2.2]; exact (by decide : (45 : Nat) ≠ 0))]
    exact f
  · have h0 := old t 7 ht (by omega)
    have f := hg.2.2.2.1 t h0
    have es := h.2.2 t (by rw [h0]; decide)
    have q : ∀ j, rf R' t j = rf R t j := fun j => by rw [rf, rf, es]
    simp only [leF0, q, es, h.1 _ (show (S (rf R t 0)).1 ≠ 0 by rw [f.2.1]; decide), h.1 _ (show (S (rf R t 1)).1 ≠ 0 by rw [f.2.2.2.1]; decide)]
    exact f
  · have h0 := old p 9 hp (by omega)
    have f := hg.2.2.2.2.1 p h0
    have es := h.2.2 p (by rw [h0]; decide)
    have q : ∀ j, rf R' p j = rf R p j := fun j => by rw [rf, rf, es]
    simp only [saF, q, es, h.1 _ (show (S (rf R p 1)).1 ≠ 0 by rw [f.2]; decide)]
    exact f
  · have h0 := old q 30 hq (by omega)
    have f := hg.2.2.2.2.2.1 q h0
    have es := h.2.2 q (by rw [h0]; decide)
    have ed := h.2.1 q (by rw [h0]; decide)
    have q' : ∀ j, rf R' q j = rf R q j := fun j => by rw [rf, rf, es]
    have k0 : (S (rf R q 0)).1 ≠ 0 := by rw [f.2.1]; decide
    simp only [txF, q', es, ed, h.1 _ k0, h.2.1 _ k0]
    exact f
  · by_cases c : (S q).1 = 0
    · exact (hn q c).2.2.2.2.2.2 hq
    · rw [h.1 q c] at hq
      exact hg.2.2.2.2.2.2 q hq
theorem Rx_ext {σ : mS} (h : ext S S' D D' R R') (hx : Rx E Z S D R P σ) (hn : ∀ q, (S q).1 = 0 → (S' q).1 ≠ 2 ∧ (S' q).1 ≠ 7 ∧ (S' q).1 ≠ 8 ∧ (S' q).1 ≠ 9 ∧ ¬ (10 ≤ (S' q).1 ∧ (S' q).1 ≤ 17) ∧ (S' q).1 ≠ 30 ∧ (wk (S' q).1 = true → E.2.2 q)) : Rx E Z S' D' R' P σ := Rx_ext0 h hx (GI_ext h hx.1 hn)
end EX
