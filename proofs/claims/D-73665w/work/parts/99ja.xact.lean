set_option maxRecDepth 100000
/-! ACTS: what changes, and what stands for the reference's state behind it -/
abbrev gkB (k : Nat) : Prop := k ≠ 2 ∧ k ≠ 7 ∧ k ≠ 8 ∧ k ≠ 9 ∧ k ≠ 30 ∧ k ≠ 31 ∧ ¬ (40 ≤ k ∧ k ≤ 44)
abbrev tkZ (k : Nat) : Prop := k = 4 ∨ k = 5 ∨ k = 6 ∨ 120 ≤ k
section CGG
variable {E : gE} {Z : Nat → Nat} {S S' : xS} {D D' : xD} {R R' : xR} {P : xPk} {T : Nat → Prop}
theorem cg_nG (hT : ∀ q, T q → gkB (S q).1) {q k : Nat} (hk : (S q).1 = k) (hb : ¬ gkB k) : ¬ T q := fun h => hb (by have h9 := hT q h; rw [hk] at h9; exact h9)
theorem cg_DG (hc : chg T S S' D D' R R') (hT : ∀ q, T q → gkB (S q).1) {q k : Nat} (hk : (S q).1 = k) (h0 : k ≠ 0) (hb : ¬ gkB k) : D' q = D q := hc.2.1 q (by rw [hk]; exact h0) (cg_nG hT hk hb)
theorem cg_RG (hc : chg T S S' D D' R R') (hT : ∀ q, T q → gkB (S q).1) {q k : Nat} (hk : (S q).1 = k) (h0 : k ≠ 0) (hb : ¬ gkB k) : R' q = R q := hc.2.2 q (by rw [hk]; exact h0) (cg_nG hT hk hb)
theorem cg_rfG (hc : chg T S S' D D' R R') (hT : ∀ q, T q → gkB (S q).1) {q k : Nat} (hk : (S q).1 = k) (h0 : k ≠ 0) (hb : ¬ gkB k) (j : Int) : rf R' q j = rf R q j := by rw [rf, rf, cg_RG hc hT hk h0 hb]
theorem GI_chgG (hg : GI E Z S D R) (hc : chg T S S' D D' R R') (hT : ∀ q, T q → gkB (S q).1) (hl : ∀ a, 10 ≤ (S' a).1 → (S' a).1 ≤ 17 → ((S a).1 = 0 ∨ T a ∨ T (rf R a 1)) → lsOK Z S' D' R' a) (hn : ∀ q, (S q).1 = 0 → ((S' q).1 = 8 → strOK S' D' R' q) ∧ ((S' q).1 = 2 → stF S' R' q) ∧ ((S' q).1 = 7 → leF0 S' R' q) ∧ ((S' q).1 = 9 → saF S' R' q) ∧ ((S' q).1 = 30 → txF S' D' R' q) ∧ (wk (S' q).1 = true → E.2.2 q)) : GI E Z S' D' R' := by
  have old : ∀ q k, (S' q).1 = k → (S q).1 ≠ 0 → (S q).1 = k := fun q k hk c => by rw [← hc.1 q c]; exact hk
  refine ⟨fun s hs => ?_, fun a h1 h2 => ?_, fun s hs => ?_, fun t ht => ?_, fun p hp => ?_, fun q hq => ?_, fun q hq => ?_⟩
  · by_cases c : (S s).1 = 0
    · exact (hn s c).1 hs
    have hs0 := old s 8 hs c
    obtain ⟨⟨hf, hk, hpc, hl⟩, hca⟩ := hg.1 s hs0
    have es := cg_RG hc hT hs0 (by decide) (by decide)
    have ed := cg_DG hc hT hs0 (by decide) (by decide)
    have q : ∀ j, rf R' s j = rf R s j := fun j => by rw [rf, rf, es]
    have k4 : (S (rf R s 4)).1 = 42 := by rw [hf.2.2.2.2.2.2.2.1]
    have k5 : (S (rf R s 5)).1 = 43 := by rw [hf.2.2.2.2.2.2.2.2.2.1]
    have k6 : (S (rf R s 6)).1 = 44 := by rw [hf.2.2.2.2.2.2.2.2.2.2.2]
    have k0 := hf.2.1
    have k1 := hf.2.2.2.2.1
    have s0 := cg_S hc k0 (by decide)
    have hN : strN S' R' s = strN S R s := by rw [strN, strN, q, s0]
    have d0 := cg_DG hc hT k0 (by decide) (by decide)
    refine ⟨⟨?_, ?_, ?_, ?_⟩, ?_⟩
    · simp only [skF0, hN, q, es, s0, cg_S hc k1 (by decide), cg_S hc k4 (by decide), cg_S hc k5 (by decide), cg_S hc k6 (by decide)]
      exact hf
    · rw [hN, q, d0]; exact hk
    · rw [hN, q, q, d0, cg_DG hc hT k1 (by decide) (by decide)]; exact hpc
    · rw [hN, q, d0, ed]; exact hl
    · simp only [caOK, hN, q, d0, cg_DG hc hT k4 (by decide) (by decide), cg_DG hc hT k5 (by decide) (by decide), cg_DG hc hT k6 (by decide) (by decide), ed]
      exact hca
  · by_cases c : (S a).1 = 0 ∨ T a ∨ T (rf R a 1)
    · exact hl a h1 h2 c
    · have c0 : (S a).1 ≠ 0 := fun z => c (Or.inl z)
      have e := hc.1 a c0
      rw [e] at h1 h2
      exact lsOK_chg hc ⟨h1, h2⟩ (hg.2.1 a h1 h2) (fun z => c (Or.inr (Or.inl z))) (fun z => c (Or.inr (Or.inr z)))
  · by_cases c : (S s).1 = 0
    · exact (hn s c).2.1 hs
    have h0 := old s 2 hs c
    have f := hg.2.2.1 s h0
    have es := cg_RG hc hT h0 (by decide) (by decide)
    have q : ∀ j, rf R' s j = rf R s j := fun j => by rw [rf, rf, es]
    simp only [stF, q, es, hc.1 _ (show (S (rf R s 0)).1 ≠ 0 by rw [f.2.1]; decide), hc.1 _ (show (S (rf R s 1)).1 ≠ 0 by rw [f.2.2.2.2.1]; decide), hc.1 _ (show (S (rf R s 2)).1 ≠ 0 by rw [f.2.2.2.2.2.2.2]; exact (by decide : (45 : Nat) ≠ 0))]
    exact f
  · by_cases c : (S t).1 = 0
    · exact (hn t c).2.2.1 ht
    have h0 := old t 7 ht c
    have f := hg.2.2.2.1 t h0
    have es := cg_RG hc hT h0 (by decide) (by decide)
    have q : ∀ j, rf R' t j = rf R t j := fun j => by rw [rf, rf, es]
    simp only [leF0, q, es, hc.1 _ (show (S (rf R t 0)).1 ≠ 0 by rw [f.2.1]; decide), hc.1 _ (show (S (rf R t 1)).1 ≠ 0 by rw [f.2.2.2.1]; decide)]
    exact f
  · by_cases c : (S p).1 = 0
    · exact (hn p c).2.2.2.1 hp
    have h0 := old p 9 hp c
    have f := hg.2.2.2.2.1 p h0
    have es := cg_RG hc hT h0 (by decide) (by decide)
    have q : ∀ j, rf R' p j = rf R p j := fun j => by rw [rf, rf, es]
    simp only [saF, q, es, hc.1 _ (show (S (rf R p 1)).1 ≠ 0 by rw [f.2]; decide)]
    exact f
  · by_cases c : (S q).1 = 0
    · exact (hn q c).2.2.2.2.1 hq
    have h0 := old q 30 hq c
    have f := hg.2.2.2.2.2.1 q h0
    have es := cg_RG hc hT h0 (by decide) (by decide)
    have ed := cg_DG hc hT h0 (by decide) (by decide)
    have q' : ∀ j, rf R' q j = rf R q j := fun j => by rw [rf, rf, es]
    simp only [txF, q', es, ed, cg_S hc f.2.1 (by decide), cg_DG hc hT f.2.1 (by decide) (by decide)]
    exact f
  · by_cases c : (S q).1 = 0
    · exact (hn q c).2.2.2.2.2 hq
    · rw [hc.1 q c] at hq
      exact hg.2.2.2.2.2.2 q hq
end CGG
section CGC
variable {E : gE} {Z : Nat → Nat} {S S' : xS} {D D' : xD} {R R' : xR} {P : xPk} {T : Nat → Prop}
theorem cg_nC (hT : ∀ q, T q → tkZ (S q).1) {q k : Nat} (hk : (S q).1 = k) (hb : ¬ tkZ k) : ¬ T q := fun h => hb (by have h9 := hT q h; rw [hk] at h9; exact h9)
theorem cg_DC (hc : chg T S S' D D' R R') (hT : ∀ q, T q → tkZ (S q).1) {q k : Nat} (hk : (S q).1 = k) (h0 : k ≠ 0) (hb : ¬ tkZ k) : D' q = D q := hc.2.1 q (by rw [hk]; exact h0) (cg_nC hT hk hb)
theorem cg_RC (hc : chg T S S' D D' R R') (hT : ∀ q, T q → tkZ (S q).1) {q k : Nat} (hk : (S q).1 = k) (h0 : k ≠ 0) (hb : ¬ tkZ k) : R' q = R q := hc.2.2 q (by rw [hk]; exact h0) (cg_nC hT hk hb)
theorem cg_rfC (hc : chg T S S' D D' R R') (hT : ∀ q, T q → tkZ (S q).1) {q k : Nat} (hk : (S q).1 = k) (h0 : k ≠ 0) (hb : ¬ tkZ k) (j : Int) : rf R' q j = rf R q j := by rw [rf, rf, cg_RC hc hT hk h0 hb]
theorem skR_chgC (hc : chg T S S' D D' R R') (hT : ∀ q, T q → tkZ (S q).1) (hG : GS S D R) {s : Nat} {n : Int} {f : Int → Int} (hs : skR S D R s n f) : skR S' D' R' s n f := by
  obtain ⟨h1, h2, h3⟩ := hs
  have k0 := (hG s h1).1.1.2.1
  have r0 : rf R' s 0 = rf R s 0 := cg_rfC hc hT h1 (by decide) (by decide) 0
  exact ⟨by rw [cg_S hc h1 (by decide)]; exact h1, by rw [r0, cg_S hc k0 (by decide)]; exact h2, by rw [r0, cg_DC hc hT k0 (by decide) (by decide)]; exact h3⟩
theorem nmR_chgC (hc : chg T S S' D D' R R') (hT : ∀ q, T q → tkZ (S q).1) {q : Nat} {g : Int → Int} (hq : (S q).1 = 30) (ht : txF S D R q) (hn : nmR S D R q g) : nmR S' D' R' q g := by
  have r0 : rf R' q 0 = rf R q 0 := cg_rfC hc hT hq (by decide) (by decide) 0
  have k0 := ht.2.1
  exact ⟨by rw [r0, cg_S hc k0 (by decide)]; exact hn.1, by rw [r0, cg_S hc k0 (by decide), cg_DC hc hT k0 (by decide) (by decide)]; exact hn.2⟩
theorem lsR_chgC (hc : chg T S S' D D' R R') (hT : ∀ q, T q → tkZ (S q).1) (hg : GI E Z S D R) {a : Nat} (hk : 10 ≤ (S a).1 ∧ (S a).1 ≤ 17) (ha : ¬ T a) (hb : ¬ T (rf R a 1)) {σ : mS} {first many : Int} (hl : lsR S D R a σ first many) : lsR S' D' R' a σ first many := by
  have l := ls_chg hc hk (hg.2.1 a hk.1 hk.2) ha hb
  exact ⟨by rw [l.2.2.1]; exact hl.1, fun i x y => by rw [l.2.2.2.1]; exact skR_chgC hc hT hg.1 (hl.2 i x y)⟩
theorem ls12C (hT : ∀ q, T q → tkZ (S q).1) (hT2 : ∀ q, T q → (S q).1 ≠ 12 ∧ (S q).1 ≠ 22) {a : Nat} (hk : (S a).1 = 12) (hl : lsOK Z S D R a) : ¬ T a ∧ ¬ T (rf R a 1) := by
  refine ⟨fun h => (hT2 a h).1 hk, fun h => ?_⟩
  have h1 := hT _ h
  have h2 := hT2 _ h
  rcases hl.2.2.1 with q | q
  · exact h2.2 (by rw [q.1, hk])
  · rw [q.2.1] at h1; exact absurd h1 (by decide)
theorem mod_chgC (hc : chg T S S' D D' R R') (hT : ∀ q, T q → tkZ (S q).1) (hT2 : ∀ q, T q → (S q).1 ≠ 12 ∧ (S q).1 ≠ 22) (hg : GI E Z S D R) {t : Nat} (k7 : (S t).1 = 7) : (S' t).1 = 7 ∧ rf R' t 0 = rf R t 0 ∧ rf R' t 1 = rf R t 1 ∧ D' (rf R t 1) = D (rf R t 1) ∧ (∀ i, lE R' (rf R t 1) i = lE R (rf R t 1) i) ∧ (S (rf R t 0)).1 = 30 ∧ txF S D R (rf R t 0) := by
  obtain ⟨l1, l2, l3, l4, l5⟩ := hg.2.2.2.1 _ k7
  have hl := hg.2.1 (rf R t 1) (by omega) (by omega)
  have n5 := ls12C hT hT2 l4 hl
  have lL := ls_chg hc (by omega) hl n5.1 n5.2
  exact ⟨by rw [cg_S hc k7 (by decide)]; exact k7, cg_rfC hc hT k7 (by decide) (by decide) 0, cg_rfC hc hT k7 (by decide) (by decide) 1, lL.2.2.1, lL.2.2.2.1, l2, hg.2.2.2.2.2.1 _ l2⟩
theorem stR_chgC (hc : chg T S S' D D' R R') (hT : ∀ q, T q → tkZ (S q).1) (hT2 : ∀ q, T q → (S q).1 ≠ 12 ∧ (S q).1 ≠ 22) (hg : GI E Z S D R) {s : Nat} (hn : stN T R s) {r : Int → Int} (h : stR S D R s r) : stR S' D' R' s r := by
  obtain ⟨h1, hv, h3, h4, h5, h6⟩ := h
  obtain ⟨t1, t2, t3, t4, t5, t6, t7, t8⟩ := hg.2.2.1 s h1
  obtain ⟨n0, n1, n2, n3, n4⟩ := hn
  have r0 : rf R' s 0 = rf R s 0 := cg_rfC hc hT h1 (by decide) (by decide) 0
  have r1 : rf R' s 1 = rf R s 1 := cg_rfC hc hT h1 (by decide) (by decide) 1
  have r2 : rf R' s 2 = rf R s 2 := cg_rfC hc hT h1 (by decide) (by decide) 2
  have lI := ls_chg hc (by omega) (hg.2.1 (rf R s 1) (by omega) (by omega)) n2 n3
  have lM := ls_chg hc (by omega) (hg.2.1 (rf R s 0) (by omega) (by omega)) n0 n1
  have kv : (S (rf R s 2)).1 ≠ 0 := by rw [t8]; exact (by decide : (45 : Nat) ≠ 0)
  refine ⟨by rw [cg_S hc h1 (by decide)]; exact h1, by rw [r2, hc.2.1 _ kv n4]; exact hv, by rw [r1, lI.2.2.1]; exact h3, fun i a b => ?_, by rw [r0, lM.2.2.1]; exact h5, fun m a b => ?_⟩
  · rw [r1, lI.2.2.2.1]
    exact skR_chgC hc hT hg.1 (h4 i a b)
  · obtain ⟨k7, m1, m2, m3⟩ := h6 m a b
    obtain ⟨x1, x2, x3, x4, x5, x6, x7⟩ := mod_chgC hc hT hT2 hg k7
    rw [r0, lM.2.2.2.1]
    refine ⟨x1, by rw [x3, x4]; exact m1, fun i c d => ?_, by rw [x2]; exact nmR_chgC hc hT x6 x7 m3⟩
    rw [x3, x5]
    exact skR_chgC hc hT hg.1 (m2 i c d)
theorem penOK_chgC (hc : chg T S S' D D' R R') (hT : ∀ q, T q → tkZ (S q).1) (hp : penOK Z S R P) : penOK Z S' R' P := by
  obtain ⟨h1, h2, h3, h4, h5, h6, h7⟩ := hp
  have e1 := cg_RC hc hT h1 (by decide) (by decide)
  have hgk : ∀ k : Nat, isPG k = true → isPA k = true := by
    intro k hk
    by_cases c : k < 38
    · have : ∀ i : Fin 38, isPG i.1 = true → isPA i.1 = true := by decide
      exact this ⟨k, c⟩ hk
    · exfalso
      unfold isPG at hk
      split at hk <;> first | omega | cases hk
  have hk40 : ∀ k : Nat, isPG k = true → k < 40 := by
    intro k hk
    by_cases c : k < 40
    · exact c
    · exfalso
      unfold isPG at hk
      split at hk <;> first | omega | cases hk
  have hpl : ∀ k : Nat, isPL k = true → pkd k ≠ 0 := by
    intro k hk
    by_cases c : k < 38
    · have : ∀ i : Fin 38, isPL i.1 = true → pkd i.1 ≠ 0 := by decide
      exact this ⟨k, c⟩ hk
    · exfalso
      unfold isPL at hk
      split at hk <;> first | omega | cases hk
  refine ⟨by rw [cg_S hc h1 (by decide)]; exact h1, fun k hk => ?_, fun k hk => ?_, fun k hk i a b => ?_, fun i hi => ?_, by rw [e1]; exact h6, h7⟩
  · have e := (h2 k hk).2
    exact ⟨by rw [e1]; exact (h2 k hk).1, by rw [hc.1 _ (by rw [e]; show 50 + k ≠ 0; omega)]; exact e⟩
  · have e := (h3 k hk).2
    exact ⟨by rw [e1]; exact (h3 k hk).1, by rw [hc.1 _ (by rw [e]; exact hpl k hk)]; exact e⟩
  · have e := (h4 k hk i a b).2
    have e0 : (S (P.2.1 k)).1 = 50 + k := by rw [(h2 k (hgk k hk)).2]
    exact ⟨by rw [cg_RC hc hT e0 (by omega) (by have hk38 := hk40 k hk; show ¬ (50 + k = 4 ∨ 50 + k = 5 ∨ 50 + k = 6 ∨ 120 ≤ 50 + k); omega)]; exact (h4 k hk i a b).1, by rw [hc.1 _ (by rw [e]; show 100 + k ≠ 0; omega)]; exact e⟩
  · obtain ⟨a1, a2, a3, a4⟩ := h5 i hi
    have k20 : (S (P.2.1 20)).1 = 3 := (h3 20 rfl).2
    have k21 : (S (P.2.1 21)).1 = 19 := (h3 21 rfl).2
    exact ⟨by rw [cg_RC hc hT k20 (by decide) (by decide)]; exact a1, by rw [hc.1 _ (by rw [a2]; show 46 + i.toNat ≠ 0; omega)]; exact a2, by rw [cg_RC hc hT k21 (by decide) (by decide)]; exact a3, by rw [hc.1 _ (by rw [a4]; show 48 + i.toNat ≠ 0; omega)]; exact a4⟩
theorem nmK_chgC (hc : chg T S S' D D' R R') (hT : ∀ q, T q → tkZ (S q).1) {q : Nat} {n : Int} {f : Int → Int} (hn : nmK S D R q n f) : nmK S' D' R' q n f := by
  obtain ⟨h1, h2, h3, h4⟩ := hn
  have r0 : rf R' q 0 = rf R q 0 := cg_rfC hc hT h1 (by decide) (by decide) 0
  exact ⟨by rw [cg_S hc h1 (by decide)]; exact h1, by rw [r0, cg_S hc h2 (by decide)]; exact h2, by rw [r0, cg_S hc h2 (by decide)]; exact h3, by rw [r0, cg_DC hc hT h2 (by decide) (by decide)]; exact h4⟩
theorem KI_chgC (hc : chg T S S' D D' R R') (hT : ∀ q, T q → tkZ (S q).1) (hk : KI E Z S D R) : KI E Z S' D' R' := by
  obtain ⟨⟨a1, a2, ⟨b1, b2, b3, b4⟩, ⟨c1, c2, c3⟩, ⟨d1, d2, d3⟩⟩, h1, ⟨h2, h3, h4⟩, h5⟩ := hk
  have z0 := cg_S hc a1 (by decide)
  have z1 := cg_S hc b1 (by decide)
  have z3 := cg_S hc c1 (by decide)
  have z4 := cg_S hc d1 (by decide)
  have y1 := cg_DC hc hT b1 (by decide) (by decide)
  have y3 := cg_DC hc hT c1 (by decide) (by decide)
  have y4 := cg_DC hc hT d1 (by decide) (by decide)
  refine ⟨⟨by rw [z0]; exact a1, by rw [z0]; exact a2, ⟨by rw [z1]; exact b1, by rw [z1]; exact b2, by rw [y1]; exact b3, b4⟩, ⟨by rw [z3]; exact c1, by rw [z3]; exact c2, by rw [y3]; exact c3⟩, ⟨by rw [z4]; exact d1, by rw [z4]; exact d2, by rw [y4]; exact d3⟩⟩, fun z hz => nmK_chgC hc hT (h1 z hz), ⟨by rw [cg_S hc h2 (by decide)]; exact h2, by rw [cg_S hc h2 (by decide)]; exact h3, fun j hj => ?_⟩, h5⟩
  rw [cg_RC hc hT h2 (by decide) (by decide)]
  exact h4 j hj
theorem penD_chgC (hc : chg T S S' D D' R R') (hT : ∀ q, T q → tkZ (S q).1) (hp : penOK Z S R P) {σ : mS} (hd : penD D P σ) : penD D' P σ := by
  rw [penD, cg_DC hc hT hp.1 (by decide) (by decide), cg_DC hc hT (pA_k hp 0 rfl (n := 50) rfl) (by decide) (by decide), cg_DC hc hT (pA_k hp 2 rfl (n := 52) rfl) (by decide) (by decide), cg_DC hc hT (pA_k hp 36 rfl (n := 86) rfl) (by decide) (by decide)]
  exact hd
theorem samR_chgC (hc : chg T S S' D D' R R') (hT : ∀ q, T q → tkZ (S q).1) (hT2 : ∀ q, T q → (S q).1 ≠ 12 ∧ (S q).1 ≠ 22) (hg : GI E Z S D R) (hp : penOK Z S R P) (h31 : ¬ T (P.2.1 31) ∧ ¬ T (rf R (P.2.1 31) 1)) {σ : mS} (h : samR S D R P σ) : samR S' D' R' P σ := by
  obtain ⟨s1, s2, s3⟩ := h
  have k31 := pL_k hp 31 rfl (n := 16) rfl
  have hls := hg.2.1 (P.2.1 31) (by omega) (by omega)
  have l31 := ls_chg hc (by omega) hls h31.1 h31.2
  refine ⟨by rw [l31.2.2.1]; exact s1, s2, fun k x y => ?_⟩
  have ke := (hls.2.2.2 k x (by rw [s1]; exact y)).2
  rw [k31] at ke
  have ke9 : (S (lE R (P.2.1 31) k)).1 = 9 := ke
  have hsf := hg.2.2.2.2.1 _ ke9
  have hle := hg.2.2.2.1 _ hsf.2
  have q1 : rf R' (lE R (P.2.1 31) k) 1 = rf R (lE R (P.2.1 31) k) 1 := cg_rfC hc hT ke9 (by decide) (by decide) 1
  have q2 : rf R' (rf R (lE R (P.2.1 31) k) 1) 1 = rf R (rf R (lE R (P.2.1 31) k) 1) 1 := cg_rfC hc hT hsf.2 (by decide) (by decide) 1
  have n12 := ls12C hT hT2 hle.2.2.2.1 (hg.2.1 _ (by rw [hle.2.2.2.1]; decide) (by rw [hle.2.2.2.1]; decide))
  rw [l31.2.2.2.1, q1, q2, cg_DC hc hT ke9 (by decide) (by decide)]
  exact ⟨(s3 k x y).1, lsR_chgC hc hT hg (by rw [hle.2.2.2.1]; decide) n12.1 n12.2 (s3 k x y).2⟩
theorem ls_nC (hT : ∀ q, T q → tkZ (S q).1) {a : Nat} (hk : 10 ≤ (S a).1 ∧ (S a).1 ≤ 17) (hl : lsOK Z S D R a) : ¬ T a ∧ ¬ T (rf R a 1) := by
  refine ⟨fun h => by have := hT a h; omega, fun h => ?_⟩
  have h1 := hT _ h
  obtain ⟨b, kb, -, hb1, hb2, hb3, -⟩ := lsOK_b hl hk
  rw [← hb1, hb2] at h1
  omega
/-- cells of the scanner, of plans, of no account: Rx stays -/
theorem Rx_anyC {σ : mS} (hx : Rx E Z S D R P σ) (hc : chg T S S' D D' R R') (hT : ∀ q, T q → tkZ (S q).1) (hg' : GI E Z S' D' R') : Rx E Z S' D' R' P σ := by
  obtain ⟨hg, hp, hki, hro, hnw, hbh, hsa, hpd⟩ := hx
  have hT2 : ∀ q, T q → (S q).1 ≠ 12 ∧ (S q).1 ≠ 22 := fun q h => by have := hT q h; omega
  have k5 := pL_k hp 5 rfl (n := 14) rfl
  have k6 := pL_k hp 6 rfl (n := 15) rfl
  have k31 := pL_k hp 31 rfl (n := 16) rfl
  have o5 := hg.2.1 (P.2.1 5) (by omega) (by omega)
  have o6 := hg.2.1 (P.2.1 6) (by omega) (by omega)
  have o31 := hg.2.1 (P.2.1 31) (by omega) (by omega)
  have n5 := ls_nC hT (by omega) o5
  have n6 := ls_nC hT (by omega) o6
  have l5 := ls_chg hc (by omega) o5 n5.1 n5.2
  have l6 := ls_chg hc (by omega) o6 n6.1 n6.2
  have hst : ∀ s, (S s).1 = 2 → stN T R s := fun s hs => by
    obtain ⟨t1, t2, t3, t4, t5, t6, t7, t8⟩ := hg.2.2.1 s hs
    have a := ls_nC hT (by omega) (hg.2.1 (rf R s 0) (by omega) (by omega))
    have b := ls_nC hT (by omega) (hg.2.1 (rf R s 1) (by omega) (by omega))
    refine ⟨a.1, a.2, b.1, b.2, fun h => ?_⟩
    have h9 := hT _ h
    rw [t8] at h9
    exact absurd h9 (by decide : ¬ ((45 : Nat) = 4 ∨ (45 : Nat) = 5 ∨ (45 : Nat) = 6 ∨ 120 ≤ (45 : Nat)))
  have e1 := cg_RC hc hT hp.1 (by decide) (by decide)
  have r4 : rf R' P.1 4 = rf R P.1 4 := by rw [rf, rf, e1]
  refine ⟨hg', penOK_chgC hc hT hp, KI_chgC hc hT hki, hro, ⟨by rw [e1, r4]; exact hnw.1, by rw [r4]; exact stR_chgC hc hT hT2 hg (hst _ hnw.2.1) hnw.2⟩, ?_, fun hP0 => samR_chgC hc hT hT2 hg hp (ls_nC hT (by omega) o31) (hsa hP0), penD_chgC hc hT hp hpd⟩
  obtain ⟨b1, b2, b3, b4, b5⟩ := hbh
  refine ⟨by rw [l5.2.2.1]; exact b1, b2, fun i x y => ?_, ?_, by rw [l6.2.2.1]; exact b5⟩
  · rw [l5.2.2.2.1]
    exact ⟨stR_chgC hc hT hT2 hg (hst _ (b3 i x y).1.1) (b3 i x y).1, (b3 i x y).2⟩
  · simp only [dstR, l5.2.2.1, l6.2.2.1, l5.2.2.2.1, l6.2.2.2.1, r4]
    exact b4
end CGC
abbrev tk1 (k : Nat) : Prop := k = 1
section CGP
variable {E : gE} {Z : Nat → Nat} {S S' : xS} {D D' : xD} {R R' : xR} {P : xPk} {T : Nat → Prop}
theorem cg_nP (hT : ∀ q, T q → tk1 (S q).1) {q k : Nat} (hk : (S q).1 = k) (hb : ¬ tk1 k) : ¬ T q := fun h => hb (by have h9 := hT q h; rw [hk] at h9; exact h9)
theorem cg_DP (hc : chg T S S' D D' R R') (hT : ∀ q, T q → tk1 (S q).1) {q k : Nat} (hk : (S q).1 = k) (h0 : k ≠ 0) (hb : ¬ tk1 k) : D' q = D q := hc.2.1 q (by rw [hk]; exact h0) (cg_nP hT hk hb)
theorem cg_RP (hc : chg T S S' D D' R R') (hT : ∀ q, T q → tk1 (S q).1) {q k : Nat} (hk : (S q).1 = k) (h0 : k ≠ 0) (hb : ¬ tk1 k) : R' q = R q := hc.2.2 q (by rw [hk]; exact h0) (cg_nP hT hk hb)
theorem cg_rfP (hc : chg T S S' D D' R R') (hT : ∀ q, T q → tk1 (S q).1) {q k : Nat} (hk : (S q).1 = k) (h0 : k ≠ 0) (hb : ¬ tk1 k) (j : Int) : rf R' q j = rf R q j := by rw [rf, rf, cg_RP hc hT hk h0 hb]
theorem skR_chgP (hc : chg T S S' D D' R R') (hT : ∀ q, T q → tk1 (S q).1) (hG : GS S D R) {s : Nat} {n : Int} {f : Int → Int} (hs : skR S D R s n f) : skR S' D' R' s n f := by
  obtain ⟨h1, h2, h3⟩ := hs
  have k0 := (hG s h1).1.1.2.1
  have r0 : rf R' s 0 = rf R s 0 := cg_rfP hc hT h1 (by decide) (by decide) 0
  exact ⟨by rw [cg_S hc h1 (by decide)]; exact h1, by rw [r0, cg_S hc k0 (by decide)]; exact h2, by rw [r0, cg_DP hc hT k0 (by decide) (by decide)]; exact h3⟩
theorem nmR_chgP (hc : chg T S S' D D' R R') (hT : ∀ q, T q → tk1 (S q).1) {q : Nat} {g : Int → Int} (hq : (S q).1 = 30) (ht : txF S D R q) (hn : nmR S D R q g) : nmR S' D' R' q g := by
  have r0 : rf R' q 0 = rf R q 0 := cg_rfP hc hT hq (by decide) (by decide) 0
  have k0 := ht.2.1
  exact ⟨by rw [r0, cg_S hc k0 (by decide)]; exact hn.1, by rw [r0, cg_S hc k0 (by decide), cg_DP hc hT k0 (by decide) (by decide)]; exact hn.2⟩
theorem lsR_chgP (hc : chg T S S' D D' R R') (hT : ∀ q, T q → tk1 (S q).1) (hg : GI E Z S D R) {a : Nat} (hk : 10 ≤ (S a).1 ∧ (S a).1 ≤ 17) (ha : ¬ T a) (hb : ¬ T (rf R a 1)) {σ : mS} {first many : Int} (hl : lsR S D R a σ first many) : lsR S' D' R' a σ first many := by
  have l := ls_chg hc hk (hg.2.1 a hk.1 hk.2) ha hb
  exact ⟨by rw [l.2.2.1]; exact hl.1, fun i x y => by rw [l.2.2.2.1]; exact skR_chgP hc hT hg.1 (hl.2 i x y)⟩
theorem ls12P (hT : ∀ q, T q → tk1 (S q).1) (hT2 : ∀ q, T q → (S q).1 ≠ 12 ∧ (S q).1 ≠ 22) {a : Nat} (hk : (S a).1 = 12) (hl : lsOK Z S D R a) : ¬ T a ∧ ¬ T (rf R a 1) := by
  refine ⟨fun h => (hT2 a h).1 hk, fun h => ?_⟩
  have h1 := hT _ h
  have h2 := hT2 _ h
  rcases hl.2.2.1 with q | q
  · exact h2.2 (by rw [q.1, hk])
  · rw [q.2.1] at h1; exact absurd h1 (by decide)
theorem mod_chgP (hc : chg T S S' D D' R R') (hT : ∀ q, T q → tk1 (S q).1) (hT2 : ∀ q, T q → (S q).1 ≠ 12 ∧ (S q).1 ≠ 22) (hg : GI E Z S D R) {t : Nat} (k7 : (S t).1 = 7) : (S' t).1 = 7 ∧ rf R' t 0 = rf R t 0 ∧ rf R' t 1 = rf R t 1 ∧ D' (rf R t 1) = D (rf R t 1) ∧ (∀ i, lE R' (rf R t 1) i = lE R (rf R t 1) i) ∧ (S (rf R t 0)).1 = 30 ∧ txF S D R (rf R t 0) := by
  obtain ⟨l1, l2, l3, l4, l5⟩ := hg.2.2.2.1 _ k7
  have hl := hg.2.1 (rf R t 1) (by omega) (by omega)
  have n5 := ls12P hT hT2 l4 hl
  have lL := ls_chg hc (by omega) hl n5.1 n5.2
  exact ⟨by rw [cg_S hc k7 (by decide)]; exact k7, cg_rfP hc hT k7 (by decide) (by decide) 0, cg_rfP hc hT k7 (by decide) (by decide) 1, lL.2.2.1, lL.2.2.2.1, l2, hg.2.2.2.2.2.1 _ l2⟩
theorem stR_chgP (hc : chg T S S' D D' R R') (hT : ∀ q, T q → tk1 (S q).1) (hT2 : ∀ q, T q → (S q).1 ≠ 12 ∧ (S q).1 ≠ 22) (hg : GI E Z S D R) {s : Nat} (hn : stN T R s) {r : Int → Int} (h : stR S D R s r) : stR S' D' R' s r := by
  obtain ⟨h1, hv, h3, h4, h5, h6⟩ := h
  obtain ⟨t1, t2, t3, t4, t5, t6, t7, t8⟩ := hg.2.2.1 s h1
  obtain ⟨n0, n1, n2, n3, n4⟩ := hn
  have r0 : rf R' s 0 = rf R s 0 := cg_rfP hc hT h1 (by decide) (by decide) 0
  have r1 : rf R' s 1 = rf R s 1 := cg_rfP hc hT h1 (by decide) (by decide) 1
  have r2 : rf R' s 2 = rf R s 2 := cg_rfP hc hT h1 (by decide) (by decide) 2
  have lI := ls_chg hc (by omega) (hg.2.1 (rf R s 1) (by omega) (by omega)) n2 n3
  have lM := ls_chg hc (by omega) (hg.2.1 (rf R s 0) (by omega) (by omega)) n0 n1
  have kv : (S (rf R s 2)).1 ≠ 0 := by rw [t8]; exact (by decide : (45 : Nat) ≠ 0)
  refine ⟨by rw [cg_S hc h1 (by decide)]; exact h1, by rw [r2, hc.2.1 _ kv n4]; exact hv, by rw [r1, lI.2.2.1]; exact h3, fun i a b => ?_, by rw [r0, lM.2.2.1]; exact h5, fun m a b => ?_⟩
  · rw [r1, lI.2.2.2.1]
    exact skR_chgP hc hT hg.1 (h4 i a b)
  · obtain ⟨k7, m1, m2, m3⟩ := h6 m a b
    obtain ⟨x1, x2, x3, x4, x5, x6, x7⟩ := mod_chgP hc hT hT2 hg k7
    rw [r0, lM.2.2.2.1]
    refine ⟨x1, by rw [x3, x4]; exact m1, fun i c d => ?_, by rw [x2]; exact nmR_chgP hc hT x6 x7 m3⟩
    rw [x3, x5]
    exact skR_chgP hc hT hg.1 (m2 i c d)
theorem nmK_chgP (hc : chg T S S' D D' R R') (hT : ∀ q, T q → tk1 (S q).1) {q : Nat} {n : Int} {f : Int → Int} (hn : nmK S D R q n f) : nmK S' D' R' q n f := by
  obtain ⟨h1, h2, h3, h4⟩ := hn
  have r0 : rf R' q 0 = rf R q 0 := cg_rfP hc hT h1 (by decide) (by decide) 0
  exact ⟨by rw [cg_S hc h1 (by decide)]; exact h1, by rw [r0, cg_S hc h2 (by decide)]; exact h2, by rw [r0, cg_S hc h2 (by decide)]; exact h3, by rw [r0, cg_DP hc hT h2 (by decide) (by decide)]; exact h4⟩
theorem KI_chgP (hc : chg T S S' D D' R R') (hT : ∀ q, T q → tk1 (S q).1) (hk : KI E Z S D R) : KI E Z S' D' R' := by
  obtain ⟨⟨a1, a2, ⟨b1, b2, b3, b4⟩, ⟨c1, c2, c3⟩, ⟨d1, d2, d3⟩⟩, h1, ⟨h2, h3, h4⟩, h5⟩ := hk
  have z0 := cg_S hc a1 (by decide)
  have z1 := cg_S hc b1 (by decide)
  have z3 := cg_S hc c1 (by decide)
  have z4 := cg_S hc d1 (by decide)
  have y1 := cg_DP hc hT b1 (by decide) (by decide)
  have y3 := cg_DP hc hT c1 (by decide) (by decide)
  have y4 := cg_DP hc hT d1 (by decide) (by decide)
  refine ⟨⟨by rw [z0]; exact a1, by rw [z0]; exact a2, ⟨by rw [z1]; exact b1, by rw [z1]; exact b2, by rw [y1]; exact b3, b4⟩, ⟨by rw [z3]; exact c1, by rw [z3]; exact c2, by rw [y3]; exact c3⟩, ⟨by rw [z4]; exact d1, by rw [z4]; exact d2, by rw [y4]; exact d3⟩⟩, fun z hz => nmK_chgP hc hT (h1 z hz), ⟨by rw [cg_S hc h2 (by decide)]; exact h2, by rw [cg_S hc h2 (by decide)]; exact h3, fun j hj => ?_⟩, h5⟩
  rw [cg_RP hc hT h2 (by decide) (by decide)]
  exact h4 j hj
theorem samR_chgP (hc : chg T S S' D D' R R') (hT : ∀ q, T q → tk1 (S q).1) (hT2 : ∀ q, T q → (S q).1 ≠ 12 ∧ (S q).1 ≠ 22) (hg : GI E Z S D R) (hp : penOK Z S R P) (h31 : ¬ T (P.2.1 31) ∧ ¬ T (rf R (P.2.1 31) 1)) {σ : mS} (h : samR S D R P σ) : samR S' D' R' P σ := by
  obtain ⟨s1, s2, s3⟩ := h
  have k31 := pL_k hp 31 rfl (n := 16) rfl
  have hls := hg.2.1 (P.2.1 31) (by omega) (by omega)
  have l31 := ls_chg hc (by omega) hls h31.1 h31.2
  refine ⟨by rw [l31.2.2.1]; exact s1, s2, fun k x y => ?_⟩
  have ke := (hls.2.2.2 k x (by rw [s1]; exact y)).2
  rw [k31] at ke
  have ke9 : (S (lE R (P.2.1 31) k)).1 = 9 := ke
  have hsf := hg.2.2.2.2.1 _ ke9
  have hle := hg.2.2.2.1 _ hsf.2
  have q1 : rf R' (lE R (P.2.1 31) k) 1 = rf R (lE R (P.2.1 31) k) 1 := cg_rfP hc hT ke9 (by decide) (by decide) 1
  have q2 : rf R' (rf R (lE R (P.2.1 31) k) 1) 1 = rf R (rf R (lE R (P.2.1 31) k) 1) 1 := cg_rfP hc hT hsf.2 (by decide) (by decide) 1
  have n12 := ls12P hT hT2 hle.2.2.2.1 (hg.2.1 _ (by rw [hle.2.2.2.1]; decide) (by rw [hle.2.2.2.1]; decide))
  rw [l31.2.2.2.1, q1, q2, cg_DP hc hT ke9 (by decide) (by decide)]
  exact ⟨(s3 k x y).1, lsR_chgP hc hT hg (by rw [hle.2.2.2.1]; decide) n12.1 n12.2 (s3 k x y).2⟩
theorem ls_nP (hT : ∀ q, T q → tk1 (S q).1) {a : Nat} (hk : 10 ≤ (S a).1 ∧ (S a).1 ≤ 17) (hl : lsOK Z S D R a) : ¬ T a ∧ ¬ T (rf R a 1) := by
  refine ⟨fun h => by have := hT a h; omega, fun h => ?_⟩
  have h1 := hT _ h
  obtain ⟨b, kb, -, hb1, hb2, hb3, -⟩ := lsOK_b hl hk
  rw [← hb1, hb2] at h1
  omega
end CGP
/-! a state's own cells -/
def stT (S : xS) (s : Nat) : Nat → Prop := fun q => (((S q).1 = 10 ∨ (S q).1 = 11 ∨ (S q).1 = 45) ∧ (S q).2.2 = s) ∨ (((S q).1 = 20 ∨ (S q).1 = 21) ∧ (S (S q).2.2).2.2 = s)
/-- states that stand for the same row -/
theorem rowOK_congr {r r' : Int → Int} (hr : rowOK r) (h : ∀ j, 0 ≤ j → j < 1048 → r' j = r j) : rowOK r' := by
  obtain ⟨a, b, c, d, e, f, g, i, j, k, l, m⟩ := hr
  have h0 := h 1000 (by decide) (by decide)
  have h9 := h 1009 (by decide) (by decide)
  refine ⟨by rw [h0]; exact a, by rw [h9]; exact b, by rw [h 1042 (by decide) (by decide)]; exact c, by rw [h 1043 (by decide) (by decide)]; exact d, by rw [h 1044 (by decide) (by decide)]; exact e, by rw [h 1045 (by decide) (by decide)]; exact f, by rw [h 1046 (by decide) (by decide)]; exact g, by rw [h 1047 (by decide) (by decide)]; exact i, fun q x y => ?_, fun s x y => ?_, fun q s x y z u => ?_, fun q t x y z u => ?_⟩
  · rw [h0] at y; rw [h _ (by omega) (by omega)]; exact j q x y
  · rw [h9] at y
    have w := k s x y
    rw [h _ (by omega) (by omega)]
    refine ⟨w.1, w.2.1, fun j9 x9 y9 => ?_⟩
    have w1 := w.2.1
    show 0 ≤ r' (24 * s + j9) ∧ r' (24 * s + j9) ≤ 99
    rw [h _ (by omega) (by omega)]
    exact w.2.2 j9 x9 y9
  · rw [h0] at y
    rw [h _ (by omega) (by omega)] at u
    have w := l q s x y z u
    have w3 := j q x y
    rw [h _ (by omega) (by omega)]
    refine ⟨w.1, w.2.1, fun j9 x9 y9 => ?_⟩
    have w1 := w.2.1
    show 0 ≤ r' (24 * (8 + 4 * q + s) + j9) ∧ r' (24 * (8 + 4 * q + s) + j9) ≤ 99
    rw [h _ (by omega) (by omega)]
    exact w.2.2 j9 x9 y9
  · rw [h0] at y; rw [h _ (by omega) (by omega)]; exact m q t x y z u
section AC
variable {E : gE} {Z : Nat → Nat} {S S' : xS} {D D' : xD} {R R' : xR} {P : xPk} {T : Nat → Prop}
theorem skR_to {s : Nat} {n n' : Int} {f g : Int → Int} (h : skR S D R s n f) (hn : n' = n) (hf : ∀ j, 0 ≤ j → j < 2 * n → g j = f j) : skR S D R s n' g := ⟨h.1, by rw [hn]; exact h.2.1, fun j x y => by rw [hn] at y; rw [hf j x y]; exact h.2.2 j x y⟩
theorem stR_congr {s : Nat} {r r' : Int → Int} (hr : rowOK r) (h : ∀ j, 0 ≤ j → j < 1048 → r' j = r j) (hs : stR S D R s r) : stR S D R s r' := by
  obtain ⟨h1, ⟨v0, v1, v2, v3, v4, v5⟩, h3, h4, h5, h6⟩ := hs
  have q0 := h 1000 (by decide) (by decide)
  have q9 := h 1009 (by decide) (by decide)
  have b0 := hr.1
  have b9 := hr.2.1
  refine ⟨h1, ⟨by rw [h 1042 (by decide) (by decide)]; exact v0, by rw [h 1043 (by decide) (by decide)]; exact v1, by rw [h 1044 (by decide) (by decide)]; exact v2, by rw [h 1045 (by decide) (by decide)]; exact v3, by rw [h 1046 (by decide) (by decide)]; exact v4, by rw [h 1047 (by decide) (by decide)]; exact v5⟩, by rw [q9]; exact h3, fun i x y => ?_, by rw [q0]; exact h5, fun m x y => ?_⟩
  · rw [q9] at y
    have w := (hr.2.2.2.2.2.2.2.2.2.1 i x y).2.1
    exact skR_to (h4 i x y) (h _ (by omega) (by omega)) (fun j x9 y9 => h _ (by omega) (by omega))
  · rw [q0] at y
    obtain ⟨k7, m1, m2, m3⟩ := h6 m x y
    have w3 := hr.2.2.2.2.2.2.2.2.1 m x y
    have e1 := h (1001 + m) (by omega) (by omega)
    refine ⟨k7, by rw [e1]; exact m1, fun i x9 y9 => ?_, m3.1, fun i x9 y9 => ?_⟩
    · rw [e1] at y9
      have w := (hr.2.2.2.2.2.2.2.2.2.2.1 m i x y x9 y9).2.1
      exact skR_to (m2 i x9 y9) (h _ (by omega) (by omega)) (fun j x8 y8 => h _ (by omega) (by omega))
    · show r' (1010 + 4 * m + i) = _
      rw [h _ (by omega) (by omega)]
      exact m3.2 i x9 y9
theorem stT_k {s : Nat} : ∀ q, stT S s q → tkB (S q).1 := by
  rintro q (⟨h, -⟩ | ⟨h, -⟩)
  · show (10 ≤ (S q).1 ∧ (S q).1 ≤ 17) ∨ (20 ≤ (S q).1 ∧ (S q).1 ≤ 27) ∨ (S q).1 = 45
    omega
  · show (10 ≤ (S q).1 ∧ (S q).1 ≤ 17) ∨ (20 ≤ (S q).1 ∧ (S q).1 ≤ 27) ∨ (S q).1 = 45
    omega
theorem stT_2 {s : Nat} : ∀ q, stT S s q → (S q).1 ≠ 12 ∧ (S q).1 ≠ 22 := by
  rintro q (⟨h, -⟩ | ⟨h, -⟩) <;> omega
theorem stT_l (hg : GI E Z S D R) {s a : Nat} (hk : (S a).1 = 10 ∨ (S a).1 = 11) (ho : (S a).2.2 ≠ s) : ¬ stT S s a ∧ ¬ stT S s (rf R a 1) := by
  refine ⟨?_, ?_⟩
  · rintro (⟨-, h⟩ | ⟨h, -⟩)
    · exact ho h
    · omega
  · have hl := hg.2.1 a (by omega) (by omega)
    rintro (⟨h, -⟩ | ⟨h, h2⟩)
    · rcases hl.2.2.1 with q | q <;> omega
    · rcases hl.2.2.1 with q | q
      · rw [q.2.1] at h2; exact ho h2
      · omega
theorem stT_o (hg : GI E Z S D R) {s u : Nat} (hu : (S u).1 = 2) (hne : u ≠ s) : stN (stT S s) R u := by
  obtain ⟨t1, t2, t3, t4, t5, t6, t7, t8⟩ := hg.2.2.1 u hu
  have a := stT_l hg (s := s) (a := rf R u 0) (Or.inr t2) (by rw [t3]; exact hne)
  have b := stT_l hg (s := s) (a := rf R u 1) (Or.inl t5) (by rw [t6]; exact hne)
  refine ⟨a.1, a.2, b.1, b.2, ?_⟩
  rintro (⟨-, h⟩ | ⟨h, -⟩)
  · rw [t8] at h; exact hne h
  · rw [t8] at h; exact absurd h (by decide : ¬ ((45 : Nat) = 20 ∨ (45 : Nat) = 21))
/-- lists of other kinds have none of a state's cells -/
theorem stT_p (hg : GI E Z S D R) {s a : Nat} (hk : 12 ≤ (S a).1 ∧ (S a).1 ≤ 17) : ¬ stT S s a ∧ ¬ stT S s (rf R a 1) := by
  refine ⟨?_, ?_⟩
  · rintro (⟨h, -⟩ | ⟨h, -⟩) <;> omega
  · have hl := hg.2.1 a (by omega) (by omega)
    rintro (⟨h, -⟩ | ⟨h, h2⟩)
    · rcases hl.2.2.1 with q | q <;> omega
    · rcases hl.2.2.1 with q | q <;> omega
theorem lT_st {Sc : xS} (hsl : sle S Sc) {A s : Nat} (kA : (S A).1 = 10 ∨ (S A).1 = 11) (oA : (S A).2.2 = s) : ∀ q, (S q).1 ≠ 0 → lT Sc A q → stT S s q := by
  rintro q hq (h | ⟨h1, h2⟩)
  · rw [h]; exact Or.inl ⟨by omega, oA⟩
  · rw [hsl q hq, hsl A (by omega)] at h1
    rw [hsl q hq] at h2
    exact Or.inr ⟨by omega, by rw [h2]; exact oA⟩
/-- a state has got another one's strokes, letters, values -/
theorem like_st (hg : GI E Z S D R) {s t : Nat} {r : Int → Int} (hc : chg (stT S s) S S' D D' R R') (ht : stR S D R t r) (hs : (S s).1 = 2) (hD0 : D' (rf R s 0) 2 = D (rf R t 0) 2) (hD1 : D' (rf R s 1) 2 = D (rf R t 1) 2) (hE0 : ∀ i, 0 ≤ i → i < D (rf R t 0) 2 → lE R' (rf R s 0) i = lE R (rf R t 0) i) (hE1 : ∀ i, 0 ≤ i → i < D (rf R t 1) 2 → lE R' (rf R s 1) i = lE R (rf R t 1) i) (hv : ∀ j, 0 ≤ j → j < 6 → D' (rf R s 2) j = D (rf R t 2) j) : stR S' D' R' s r := by
  obtain ⟨h1, ⟨v0, v1, v2, v3, v4, v5⟩, h3, h4, h5, h6⟩ := ht
  have r0 : rf R' s 0 = rf R s 0 := cg_rf hc stT_k hs (by decide) (by decide) 0
  have r1 : rf R' s 1 = rf R s 1 := cg_rf hc stT_k hs (by decide) (by decide) 1
  have r2 : rf R' s 2 = rf R s 2 := cg_rf hc stT_k hs (by decide) (by decide) 2
  refine ⟨by rw [cg_S hc hs (by decide)]; exact hs, ?_, by rw [r1, hD1]; exact h3, fun i a b => ?_, by rw [r0, hD0]; exact h5, fun m a b => ?_⟩
  · rw [r2, hv 0 (by decide) (by decide), hv 1 (by decide) (by decide), hv 2 (by decide) (by decide), hv 3 (by decide) (by decide), hv 4 (by decide) (by decide), hv 5 (by decide) (by decide)]
    exact ⟨v0, v1, v2, v3, v4, v5⟩
  · rw [r1, hE1 i a (by rw [h3]; exact b)]
    exact skR_chg hc stT_k hg.1 (h4 i a b)
  · obtain ⟨k7, m1, m2, m3⟩ := h6 m a b
    obtain ⟨x1, x2, x3, x4, x5, x6, x7⟩ := mod_chg hc stT_k stT_2 hg k7
    rw [r0, hE0 m a (by rw [h5]; exact b)]
    refine ⟨x1, by rw [x3, x4]; exact m1, fun i c d => ?_, by rw [x2]; exact nmR_chg hc stT_k x6 x7 m3⟩
    rw [x3, x5]
    exact skR_chg hc stT_k hg.1 (m2 i c d)
theorem penD_to {σ σ' : mS} (hσ : ∀ k ∈ [11, 13, 39], σ' k = σ k) (hσ0 : ∀ k ∈ [5, 12, 14, 15, 40], σ' k 0 = σ k 0) (h : penD D P σ) : penD D P σ' := by
  rw [penD, hσ0 12 (by decide), hσ 11 (by decide), hσ 13 (by decide), hσ0 14 (by decide), hσ0 15 (by decide), hσ0 5 (by decide), hσ0 40 (by decide), hσ 39 (by decide)]
  exact h
/-- cells of one state change; the row of now may be another one -/
theorem Rx_st {σ σ' : mS} (hx : Rx E Z S D R P σ) {s : Nat} (hc : chg (stT S s) S S' D D' R R') (hg' : GI E Z S' D' R') (hnb : ∀ i, 0 ≤ i → i < σ 4 0 → lE R (P.2.1 5) i ≠ s) (hσ : ∀ k ∈ [3, 7, 8, 9, 10, 11, 13, 39], σ' k = σ k) (hσ0 : ∀ k ∈ [4, 5, 6, 12, 14, 15, 40], σ' k 0 = σ k 0) (hro : rowOK (σ' 0)) (hnow : stR S' D' R' (rf R P.1 4) (σ' 0)) : Rx E Z S' D' R' P σ' := by
  obtain ⟨hg, hp, hki, -, hnw, hbh, hsa, hpd⟩ := hx
  have k5 := pL_k hp 5 rfl (n := 14) rfl
  have k6 := pL_k hp 6 rfl (n := 15) rfl
  have k31 := pL_k hp 31 rfl (n := 16) rfl
  have n5 := stT_p hg (s := s) (a := P.2.1 5) (by omega)
  have n6 := stT_p hg (s := s) (a := P.2.1 6) (by omega)
  have l5 := ls_chg hc (by omega) (hg.2.1 (P.2.1 5) (by omega) (by omega)) n5.1 n5.2
  have l6 := ls_chg hc (by omega) (hg.2.1 (P.2.1 6) (by omega) (by omega)) n6.1 n6.2
  have e1 := cg_R hc stT_k hp.1 (by decide) (by decide)
  have r4 : rf R' P.1 4 = rf R P.1 4 := by rw [rf, rf, e1]
  refine ⟨hg', penOK_chg hc stT_k hp, KI_chg hc stT_k hki, hro, ⟨by rw [e1, r4]; exact hnw.1, by rw [r4]; exact hnow⟩, ?_, fun hP0 => samR_to (hσ0 6 (by decide)) (hσ 7 (by decide)) (hσ 8 (by decide)) (hσ 9 (by decide)) (hσ 10 (by decide)) (samR_chg hc stT_k stT_2 hg hp (stT_p hg (by omega)) (hsa hP0)), penD_to (fun k hk => hσ k (by simp at hk ⊢; omega)) (fun k hk => hσ0 k (by simp at hk ⊢; omega)) (penD_chg hc stT_k hp hpd)⟩
  obtain ⟨b1, b2, b3, b4, b5⟩ := hbh
  rw [behR, hσ 3 (by decide), hσ0 4 (by decide)]
  refine ⟨by rw [l5.2.2.1]; exact b1, b2, fun i x y => ?_, ?_, by rw [l6.2.2.1]; exact b5⟩
  · rw [l5.2.2.2.1]
    exact ⟨stR_chg hc stT_k stT_2 hg (stT_o hg (b3 i x y).1.1 (hnb i x y)) (b3 i x y).1, (b3 i x y).2⟩
  · simp only [dstR, l5.2.2.1, l6.2.2.1, l5.2.2.2.1, l6.2.2.2.1, r4]
    exact b4
/-- the pen's lists: behind, unused, samples, row -/
abbrev plK (k : Nat) : Prop := (13 ≤ k ∧ k ≤ 16) ∨ (23 ≤ k ∧ k ≤ 26)
theorem plK_b {k : Nat} (h : plK k) : tkB k := by
  show (10 ≤ k ∧ k ≤ 17) ∨ (20 ≤ k ∧ k ≤ 27) ∨ k = 45
  omega
theorem plK_s (hT : ∀ q, T q → plK (S q).1) (hg : GI E Z S D R) {s : Nat} (hs : (S s).1 = 2) : stN T R s := by
  obtain ⟨t1, t2, t3, t4, t5, t6, t7, t8⟩ := hg.2.2.1 s hs
  have key : ∀ a, ((S a).1 = 10 ∨ (S a).1 = 11) → ¬ T a ∧ ¬ T (rf R a 1) := fun a ha => by
    have hl := hg.2.1 a (by omega) (by omega)
    refine ⟨fun h => by have := hT a h; omega, fun h => ?_⟩
    have := hT _ h
    rcases hl.2.2.1 with q | q <;> omega
  have a := key _ (Or.inr t2)
  have b := key _ (Or.inl t5)
  refine ⟨a.1, a.2, b.1, b.2, fun h => ?_⟩
  have h9 := hT _ h
  rw [t8] at h9
  exact absurd h9 (by decide : ¬ ((13 ≤ (45 : Nat) ∧ (45 : Nat) ≤ 16) ∨ (23 ≤ (45 : Nat) ∧ (45 : Nat) ≤ 26)))
theorem Rx_pl {σ σ' : mS} (hx : Rx E Z S D R P σ) (hc : chg T S S' D D' R R') (hT : ∀ q, T q → plK (S q).1) (hg' : GI E Z S' D' R') (h0 : σ' 0 = σ 0) (hσ : ∀ k ∈ [11, 13, 39], σ' k = σ k) (hσ0 : ∀ k ∈ [5, 12, 14, 15, 40], σ' k 0 = σ k 0) (hb : behR S' D' R' P σ') (hs : P.2.1 99 = 0 → samR S' D' R' P σ') : Rx E Z S' D' R' P σ' := by
  obtain ⟨hg, hp, hki, hro, hnw, -, -, hpd⟩ := hx
  have hTb : ∀ q, T q → tkB (S q).1 := fun q h => plK_b (hT q h)
  have hT2 : ∀ q, T q → (S q).1 ≠ 12 ∧ (S q).1 ≠ 22 := fun q h => by have := hT q h; omega
  have e1 := cg_R hc hTb hp.1 (by decide) (by decide)
  have r4 : rf R' P.1 4 = rf R P.1 4 := by rw [rf, rf, e1]
  exact ⟨hg', penOK_chg hc hTb hp, KI_chg hc hTb hki, by rw [h0]; exact hro, ⟨by rw [e1, r4]; exact hnw.1, by rw [r4, h0]; exact stR_chg hc hTb hT2 hg (plK_s hT hg hnw.2.1) hnw.2⟩, hb, hs, penD_to hσ hσ0 (penD_chg hc hTb hp hpd)⟩
theorem lT_pl {a : Nat} (hk : 13 ≤ (S a).1 ∧ (S a).1 ≤ 16) : ∀ q, lT S a q → plK (S q).1 := by
  rintro q (h | ⟨h, -⟩)
  · rw [h]; exact Or.inl hk
  · rw [h]; exact Or.inr (by omega)
end AC
