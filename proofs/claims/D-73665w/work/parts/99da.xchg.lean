set_option maxRecDepth 100000
/-! CELLS THAT CHANGE: but for the cells T nothing old has changed -/
def chg (T : Nat → Prop) (S S' : xS) (D D' : xD) (R R' : xR) : Prop := (∀ q, (S q).1 ≠ 0 → S' q = S q) ∧ (∀ q, (S q).1 ≠ 0 → ¬ T q → D' q = D q) ∧ ∀ q, (S q).1 ≠ 0 → ¬ T q → R' q = R q
theorem chg_ext {T : Nat → Prop} {S S' : xS} {D D' : xD} {R R' : xR} (h : ext S S' D D' R R') : chg T S S' D D' R R' := ⟨h.1, fun q a _ => h.2.1 q a, fun q a _ => h.2.2 q a⟩
theorem chg_rfl {T : Nat → Prop} {S : xS} {D : xD} {R : xR} : chg T S S D D R R := chg_ext ext_rfl
theorem chg_w {T T' : Nat → Prop} {S S' : xS} {D D' : xD} {R R' : xR} (h : chg T S S' D D' R R') (hT : ∀ q, (S q).1 ≠ 0 → T q → T' q) : chg T' S S' D D' R R' := ⟨h.1, fun q a b => h.2.1 q a (fun c => b (hT q a c)), fun q a b => h.2.2 q a (fun c => b (hT q a c))⟩
theorem chg_t {T T' : Nat → Prop} {S S1 S2 : xS} {D D1 D2 : xD} {R R1 R2 : xR} (h : chg T S S1 D D1 R R1) (h2 : chg T' S1 S2 D1 D2 R1 R2) (hT : ∀ q, (S q).1 ≠ 0 → T' q → T q) : chg T S S2 D D2 R R2 := by
  have k : ∀ q, (S q).1 ≠ 0 → (S1 q).1 ≠ 0 := fun q hq => by rw [h.1 q hq]; exact hq
  exact ⟨fun q hq => (h2.1 q (k q hq)).trans (h.1 q hq), fun q hq hn => (h2.2.1 q (k q hq) (fun c => hn (hT q hq c))).trans (h.2.1 q hq hn), fun q hq hn => (h2.2.2 q (k q hq) (fun c => hn (hT q hq c))).trans (h.2.2 q hq hn)⟩
/-- lists, their rows, values -/
abbrev tkB (k : Nat) : Prop := (10 ≤ k ∧ k ≤ 17) ∨ (20 ≤ k ∧ k ≤ 27) ∨ k = 45
theorem lek_ne {k : Nat} (h : 10 ≤ k ∧ k ≤ 17) : lek k ≠ 0 := by
  rcases (show k = 10 ∨ k = 11 ∨ k = 12 ∨ k = 13 ∨ k = 14 ∨ k = 15 ∨ k = 16 ∨ k = 17 by omega) with e | e | e | e | e | e | e | e <;> rw [e] <;> decide
section CG
variable {E : gE} {Z : Nat → Nat} {S S' : xS} {D D' : xD} {R R' : xR} {P : xPk} {T : Nat → Prop}
theorem cg_S (hc : chg T S S' D D' R R') {q k : Nat} (hk : (S q).1 = k) (h0 : k ≠ 0) : S' q = S q := hc.1 q (by rw [hk]; exact h0)
theorem cg_n (hT : ∀ q, T q → tkB (S q).1) {q k : Nat} (hk : (S q).1 = k) (hb : ¬ tkB k) : ¬ T q := fun h => hb (by have h9 := hT q h; rw [hk] at h9; exact h9)
theorem cg_D (hc : chg T S S' D D' R R') (hT : ∀ q, T q → tkB (S q).1) {q k : Nat} (hk : (S q).1 = k) (h0 : k ≠ 0) (hb : ¬ tkB k) : D' q = D q := hc.2.1 q (by rw [hk]; exact h0) (cg_n hT hk hb)
theorem cg_R (hc : chg T S S' D D' R R') (hT : ∀ q, T q → tkB (S q).1) {q k : Nat} (hk : (S q).1 = k) (h0 : k ≠ 0) (hb : ¬ tkB k) : R' q = R q := hc.2.2 q (by rw [hk]; exact h0) (cg_n hT hk hb)
theorem cg_rf (hc : chg T S S' D D' R R') (hT : ∀ q, T q → tkB (S q).1) {q k : Nat} (hk : (S q).1 = k) (h0 : k ≠ 0) (hb : ¬ tkB k) (j : Int) : rf R' q j = rf R q j := by rw [rf, rf, cg_R hc hT hk h0 hb]
theorem skR_chg (hc : chg T S S' D D' R R') (hT : ∀ q, T q → tkB (S q).1) (hG : GS S D R) {s : Nat} {n : Int} {f : Int → Int} (hs : skR S D R s n f) : skR S' D' R' s n f := by
  obtain ⟨h1, h2, h3⟩ := hs
  have k0 := (hG s h1).1.1.2.1
  have r0 : rf R' s 0 = rf R s 0 := cg_rf hc hT h1 (by decide) (by decide) 0
  exact ⟨by rw [cg_S hc h1 (by decide)]; exact h1, by rw [r0, cg_S hc k0 (by decide)]; exact h2, by rw [r0, cg_D hc hT k0 (by decide) (by decide)]; exact h3⟩
theorem nmR_chg (hc : chg T S S' D D' R R') (hT : ∀ q, T q → tkB (S q).1) {q : Nat} {g : Int → Int} (hq : (S q).1 = 30) (ht : txF S D R q) (hn : nmR S D R q g) : nmR S' D' R' q g := by
  have r0 : rf R' q 0 = rf R q 0 := cg_rf hc hT hq (by decide) (by decide) 0
  have k0 := ht.2.1
  exact ⟨by rw [r0, cg_S hc k0 (by decide)]; exact hn.1, by rw [r0, cg_S hc k0 (by decide), cg_D hc hT k0 (by decide) (by decide)]; exact hn.2⟩
theorem ls_chg (hc : chg T S S' D D' R R') {a : Nat} (hk : 10 ≤ (S a).1 ∧ (S a).1 ≤ 17) (hl : lsOK Z S D R a) (ha : ¬ T a) (hb : ¬ T (rf R a 1)) : rf R' a 1 = rf R a 1 ∧ (S (rf R a 1)).1 ≠ 0 ∧ D' a = D a ∧ (∀ i, lE R' a i = lE R a i) ∧ R' a = R a ∧ R' (rf R a 1) = R (rf R a 1) := by
  have e0 : R' a = R a := hc.2.2 a (by omega) ha
  have e1 : rf R' a 1 = rf R a 1 := by rw [rf, rf, e0]
  obtain ⟨b, kb, -, hb1, hb2, hb3, -⟩ := lsOK_b hl hk
  have kb0 : (S (rf R a 1)).1 ≠ 0 := by rw [← hb1]; omega
  have e2 := hc.2.2 _ kb0 hb
  exact ⟨e1, kb0, hc.2.1 a (by omega) ha, fun i => by rw [lE, lE, e1]; show (R' (rf R a 1) i).getD 0 = (R (rf R a 1) i).getD 0; rw [e2], e0, e2⟩
theorem lsOK_chg (hc : chg T S S' D D' R R') {a : Nat} (hk : 10 ≤ (S a).1 ∧ (S a).1 ≤ 17) (hl : lsOK Z S D R a) (ha : ¬ T a) (hb : ¬ T (rf R a 1)) : lsOK Z S' D' R' a := by
  obtain ⟨e1, e2, e3, e4, e5, e6⟩ := ls_chg hc hk hl ha hb
  have sa := hc.1 a (by omega)
  obtain ⟨g1, g2, g3, g4⟩ := hl
  refine ⟨by rw [e5, e1]; exact g1, by rw [e1, e3, hc.1 _ e2]; exact g2, by rw [e1, sa, hc.1 _ e2]; exact g3, fun i x y => ?_⟩
  rw [e3] at y
  have g := g4 i x y
  have k0 : (S (lE R a i)).1 ≠ 0 := by rw [g.2]; exact lek_ne hk
  rw [e1, e4, e6, hc.1 _ k0, sa]
  exact g
theorem lsR_chg (hc : chg T S S' D D' R R') (hT : ∀ q, T q → tkB (S q).1) (hg : GI E Z S D R) {a : Nat} (hk : 10 ≤ (S a).1 ∧ (S a).1 ≤ 17) (ha : ¬ T a) (hb : ¬ T (rf R a 1)) {σ : mS} {first many : Int} (hl : lsR S D R a σ first many) : lsR S' D' R' a σ first many := by
  have l := ls_chg hc hk (hg.2.1 a hk.1 hk.2) ha hb
  exact ⟨by rw [l.2.2.1]; exact hl.1, fun i x y => by rw [l.2.2.2.1]; exact skR_chg hc hT hg.1 (hl.2 i x y)⟩
/-- a letter's list is not among the cells that change -/
theorem ls12 (hT : ∀ q, T q → tkB (S q).1) (hT2 : ∀ q, T q → (S q).1 ≠ 12 ∧ (S q).1 ≠ 22) {a : Nat} (hk : (S a).1 = 12) (hl : lsOK Z S D R a) : ¬ T a ∧ ¬ T (rf R a 1) := by
  refine ⟨fun h => (hT2 a h).1 hk, fun h => ?_⟩
  have h1 := hT _ h
  have h2 := hT2 _ h
  rcases hl.2.2.1 with q | q
  · exact h2.2 (by rw [q.1, hk])
  · rw [q.2.1] at h1; exact absurd h1 (by decide)
/-- a state's own cells are not among those that change -/
def stN (T : Nat → Prop) (R : xR) (s : Nat) : Prop := ¬ T (rf R s 0) ∧ ¬ T (rf R (rf R s 0) 1) ∧ ¬ T (rf R s 1) ∧ ¬ T (rf R (rf R s 1) 1) ∧ ¬ T (rf R s 2)
theorem mod_chg (hc : chg T S S' D D' R R') (hT : ∀ q, T q → tkB (S q).1) (hT2 : ∀ q, T q → (S q).1 ≠ 12 ∧ (S q).1 ≠ 22) (hg : GI E Z S D R) {t : Nat} (k7 : (S t).1 = 7) : (S' t).1 = 7 ∧ rf R' t 0 = rf R t 0 ∧ rf R' t 1 = rf R t 1 ∧ D' (rf R t 1) = D (rf R t 1) ∧ (∀ i, lE R' (rf R t 1) i = lE R (rf R t 1) i) ∧ (S (rf R t 0)).1 = 30 ∧ txF S D R (rf R t 0) := by
  obtain ⟨l1, l2, l3, l4, l5⟩ := hg.2.2.2.1 _ k7
  have hl := hg.2.1 (rf R t 1) (by omega) (by omega)
  have n5 := ls12 hT hT2 l4 hl
  have lL := ls_chg hc (by omega) hl n5.1 n5.2
  exact ⟨by rw [cg_S hc k7 (by decide)]; exact k7, cg_rf hc hT k7 (by decide) (by decide) 0, cg_rf hc hT k7 (by decide) (by decide) 1, lL.2.2.1, lL.2.2.2.1, l2, hg.2.2.2.2.2.1 _ l2⟩
theorem stR_chg (hc : chg T S S' D D' R R') (hT : ∀ q, T q → tkB (S q).1) (hT2 : ∀ q, T q → (S q).1 ≠ 12 ∧ (S q).1 ≠ 22) (hg : GI E Z S D R) {s : Nat} (hn : stN T R s) {r : Int → Int} (h : stR S D R s r) : stR S' D' R' s r := by
  obtain ⟨h1, hv, h3, h4, h5, h6⟩ := h
  obtain ⟨t1, t2, t3, t4, t5, t6, t7, t8⟩ := hg.2.2.1 s h1
  obtain ⟨n0, n1, n2, n3, n4⟩ := hn
  have r0 : rf R' s 0 = rf R s 0 := cg_rf hc hT h1 (by decide) (by decide) 0
  have r1 : rf R' s 1 = rf R s 1 := cg_rf hc hT h1 (by decide) (by decide) 1
  have r2 : rf R' s 2 = rf R s 2 := cg_rf hc hT h1 (by decide) (by decide) 2
  have lI := ls_chg hc (by omega) (hg.2.1 (rf R s 1) (by omega) (by omega)) n2 n3
  have lM := ls_chg hc (by omega) (hg.2.1 (rf R s 0) (by omega) (by omega)) n0 n1
  have kv : (S (rf R s 2)).1 ≠ 0 := by rw [t8]; exact (by decide : (45 : Nat) ≠ 0)
  refine ⟨by rw [cg_S hc h1 (by decide)]; exact h1, by rw [r2, hc.2.1 _ kv n4]; exact hv, by rw [r1, lI.2.2.1]; exact h3, fun i a b => ?_, by rw [r0, lM.2.2.1]; exact h5, fun m a b => ?_⟩
  · rw [r1, lI.2.2.2.1]
    exact skR_chg hc hT hg.1 (h4 i a b)
  · obtain ⟨k7, m1, m2, m3⟩ := h6 m a b
    obtain ⟨x1, x2, x3, x4, x5, x6, x7⟩ := mod_chg hc hT hT2 hg k7
    rw [r0, lM.2.2.2.1]
    refine ⟨x1, by rw [x3, x4]; exact m1, fun i c d => ?_, by rw [x2]; exact nmR_chg hc hT x6 x7 m3⟩
    rw [x3, x5]
    exact skR_chg hc hT hg.1 (m2 i c d)
theorem penOK_chg (hc : chg T S S' D D' R R') (hT : ∀ q, T q → tkB (S q).1) (hp : penOK Z S R P) : penOK Z S' R' P := by
  obtain ⟨h1, h2, h3, h4, h5, h6, h7⟩ := hp
  have e1 := cg_R hc hT h1 (by decide) (by decide)
  have hgk : ∀ k : Nat, isPG k = true → isPA k = true := by
    intro k hk
    by_cases c : k < 38
    · have : ∀ i : Fin 38, isPG i.1 = true → isPA i.1 = true := by decide
      exact this ⟨k, c⟩ hk
    · exfalso
      unfold isPG at hk
      split at hk <;> first | omega | cases hk
  have hpl : ∀ k : Nat, isPL k = true → pkd k ≠ 0 := by
    intro k hk
    by_cases c : k < 38
    · have : ∀ i : Fin 38, isPL i.1 = true → pkd i.1 ≠ 0 := by decide
      exact this ⟨k, c⟩ hk
    · exfalso
      unfold isPL at hk
      split at hk <;> first | omega | cases hk
  refine ⟨by rw [cg_S hc h1 (by decide)]; exact h1, fun k hk => ?_, fun k hk => ?_, fun k hk i a b => ?_, fun i hi => ?_, by rw [e1]; exact h6, h7⟩
  · have e := (h2 k hk).2
    exact ⟨by rw [e1]; exact (h2 k hk).1, by rw [hc.1 _ (by rw [e]; show 50 + k ≠ 0; omega)]; exact e⟩
  · have e := (h3 k hk).2
    exact ⟨by rw [e1]; exact (h3 k hk).1, by rw [hc.1 _ (by rw [e]; exact hpl k hk)]; exact e⟩
  · have e := (h4 k hk i a b).2
    have e0 : (S (P.2.1 k)).1 = 50 + k := by rw [(h2 k (hgk k hk)).2]
    exact ⟨by rw [cg_R hc hT e0 (by omega) (by show ¬ ((10 ≤ 50 + k ∧ 50 + k ≤ 17) ∨ (20 ≤ 50 + k ∧ 50 + k ≤ 27) ∨ 50 + k = 45); omega)]; exact (h4 k hk i a b).1, by rw [hc.1 _ (by rw [e]; show 100 + k ≠ 0; omega)]; exact e⟩
  · obtain ⟨a1, a2, a3, a4⟩ := h5 i hi
    have k20 : (S (P.2.1 20)).1 = 3 := (h3 20 rfl).2
    have k21 : (S (P.2.1 21)).1 = 19 := (h3 21 rfl).2
    exact ⟨by rw [cg_R hc hT k20 (by decide) (by decide)]; exact a1, by rw [hc.1 _ (by rw [a2]; show 46 + i.toNat ≠ 0; omega)]; exact a2, by rw [cg_R hc hT k21 (by decide) (by decide)]; exact a3, by rw [hc.1 _ (by rw [a4]; show 48 + i.toNat ≠ 0; omega)]; exact a4⟩
theorem nmK_chg (hc : chg T S S' D D' R R') (hT : ∀ q, T q → tkB (S q).1) {q : Nat} {n : Int} {f : Int → Int} (hn : nmK S D R q n f) : nmK S' D' R' q n f := by
  obtain ⟨h1, h2, h3, h4⟩ := hn
  have r0 : rf R' q 0 = rf R q 0 := cg_rf hc hT h1 (by decide) (by decide) 0
  exact ⟨by rw [cg_S hc h1 (by decide)]; exact h1, by rw [r0, cg_S hc h2 (by decide)]; exact h2, by rw [r0, cg_S hc h2 (by decide)]; exact h3, by rw [r0, cg_D hc hT h2 (by decide) (by decide)]; exact h4⟩
theorem KI_chg (hc : chg T S S' D D' R R') (hT : ∀ q, T q → tkB (S q).1) (hk : KI E Z S D R) : KI E Z S' D' R' := by
  obtain ⟨⟨a1, a2, ⟨b1, b2, b3, b4⟩, ⟨c1, c2, c3⟩, ⟨d1, d2, d3⟩⟩, h1, ⟨h2, h3, h4⟩, h5⟩ := hk
  have z0 := cg_S hc a1 (by decide)
  have z1 := cg_S hc b1 (by decide)
  have z3 := cg_S hc c1 (by decide)
  have z4 := cg_S hc d1 (by decide)
  have y1 := cg_D hc hT b1 (by decide) (by decide)
  have y3 := cg_D hc hT c1 (by decide) (by decide)
  have y4 := cg_D hc hT d1 (by decide) (by decide)
  refine ⟨⟨by rw [z0]; exact a1, by rw [z0]; exact a2, ⟨by rw [z1]; exact b1, by rw [z1]; exact b2, by rw [y1]; exact b3, b4⟩, ⟨by rw [z3]; exact c1, by rw [z3]; exact c2, by rw [y3]; exact c3⟩, ⟨by rw [z4]; exact d1, by rw [z4]; exact d2, by rw [y4]; exact d3⟩⟩, fun z hz => nmK_chg hc hT (h1 z hz), ⟨by rw [cg_S hc h2 (by decide)]; exact h2, by rw [cg_S hc h2 (by decide)]; exact h3, fun j hj => ?_⟩, h5⟩
  rw [cg_R hc hT h2 (by decide) (by decide)]
  exact h4 j hj
theorem penD_chg (hc : chg T S S' D D' R R') (hT : ∀ q, T q → tkB (S q).1) (hp : penOK Z S R P) {σ : mS} (hd : penD D P σ) : penD D' P σ := by
  rw [penD, cg_D hc hT hp.1 (by decide) (by decide), cg_D hc hT (pA_k hp 0 rfl (n := 50) rfl) (by decide) (by decide), cg_D hc hT (pA_k hp 2 rfl (n := 52) rfl) (by decide) (by decide), cg_D hc hT (pA_k hp 36 rfl (n := 86) rfl) (by decide) (by decide)]
  exact hd
theorem letS_hi {τ σ : mS} {first many : Int} (h : 40 ≤ first) (h7 : τ 7 = σ 7) (h8 : τ 8 = σ 8) (hl : letS σ first many) : letS τ first many := by
  obtain ⟨a, b, c, d, e⟩ := hl
  refine ⟨a, b, c, d, fun s x y => ?_⟩
  have h9 := e s x y
  have e1 : np τ s = np σ s := by rw [np, np, if_neg (by omega), if_neg (by omega), h8]
  have e2 : nu τ s = nu σ s := by funext j; rw [nu, nu, if_neg (by omega), if_neg (by omega), h7]
  rw [e1, e2]; exact h9
theorem lsR_hi {τ σ : mS} {a : Nat} {first many : Int} (h : 40 ≤ first) (h7 : τ 7 = σ 7) (h8 : τ 8 = σ 8) (hl : lsR S D R a σ first many) : lsR S D R a τ first many := by
  refine ⟨hl.1, fun i x y => ?_⟩
  have e1 : np τ (first + i) = np σ (first + i) := by rw [np, np, if_neg (by omega), if_neg (by omega), h8]
  have e2 : nu τ (first + i) = nu σ (first + i) := by funext j; rw [nu, nu, if_neg (by omega), if_neg (by omega), h7]
  rw [e1, e2]; exact hl.2 i x y
theorem samR_to {τ σ : mS} (h6 : τ 6 0 = σ 6 0) (h7 : τ 7 = σ 7) (h8 : τ 8 = σ 8) (h9 : τ 9 = σ 9) (h10 : τ 10 = σ 10) (h : samR S D R P σ) : samR S D R P τ := by
  obtain ⟨s1, s2, s3⟩ := h
  refine ⟨by rw [h6]; exact s1, ⟨by rw [h6]; exact s2.1, fun k x y => ?_⟩, fun k x y => ?_⟩
  · rw [h6] at y
    rw [h9, h10]
    exact ⟨(s2.2 k x y).1, (s2.2 k x y).2.1, letS_hi (by omega) h7 h8 (s2.2 k x y).2.2⟩
  · rw [h6] at y
    rw [h9, h10]
    exact ⟨(s3 k x y).1, lsR_hi (by omega) h7 h8 (s3 k x y).2⟩
theorem samR_chg (hc : chg T S S' D D' R R') (hT : ∀ q, T q → tkB (S q).1) (hT2 : ∀ q, T q → (S q).1 ≠ 12 ∧ (S q).1 ≠ 22) (hg : GI E Z S D R) (hp : penOK Z S R P) (h31 : ¬ T (P.2.1 31) ∧ ¬ T (rf R (P.2.1 31) 1)) {σ : mS} (h : samR S D R P σ) : samR S' D' R' P σ := by
  obtain ⟨s1, s2, s3⟩ := h
  have k31 := pL_k hp 31 rfl (n := 16) rfl
  have hls := hg.2.1 (P.2.1 31) (by omega) (by omega)
  have l31 := ls_chg hc (by omega) hls h31.1 h31.2
  refine ⟨by rw [l31.2.2.1]; exact s1, s2, fun k x y => ?_⟩
  have ke := (hls.2.2.2 k x (by rw [s1]; exact y)).2
  rw [k31] at ke
  have ke9 : (S (lE R (P.2.1 31) k)).1 = 9 := ke
  have hsf := hg.2.2.2.2.1 _ ke9
  have hle := hg.2.2.2.1 _ hsf.2
  have q1 : rf R' (lE R (P.2.1 31) k) 1 = rf R (lE R (P.2.1 31) k) 1 := cg_rf hc hT ke9 (by decide) (by decide) 1
  have q2 : rf R' (rf R (lE R (P.2.1 31) k) 1) 1 = rf R (rf R (lE R (P.2.1 31) k) 1) 1 := cg_rf hc hT hsf.2 (by decide) (by decide) 1
  have n12 := ls12 hT hT2 hle.2.2.2.1 (hg.2.1 _ (by rw [hle.2.2.2.1]; decide) (by rw [hle.2.2.2.1]; decide))
  rw [l31.2.2.2.1, q1, q2, cg_D hc hT ke9 (by decide) (by decide)]
  exact ⟨(s3 k x y).1, lsR_chg hc hT hg (by rw [hle.2.2.2.1]; decide) n12.1 n12.2 (s3 k x y).2⟩
/-- cells change, and cells are new -/
theorem GI_chg (hg : GI E Z S D R) (hc : chg T S S' D D' R R') (hT : ∀ q, T q → tkB (S q).1) (hl : ∀ a, 10 ≤ (S' a).1 → (S' a).1 ≤ 17 → ((S a).1 = 0 ∨ T a ∨ T (rf R a 1)) → lsOK Z S' D' R' a) (hn : ∀ q, (S q).1 = 0 → ((S' q).1 = 8 → strOK S' D' R' q) ∧ ((S' q).1 = 2 → stF S' R' q) ∧ ((S' q).1 = 7 → leF0 S' R' q) ∧ ((S' q).1 = 9 → saF S' R' q) ∧ ((S' q).1 = 30 → txF S' D' R' q) ∧ (wk (S' q).1 = true → E.2.2 q)) : GI E Z S' D' R' := by
  have old : ∀ q k, (S' q).1 = k → (S q).1 ≠ 0 → (S q).1 = k := fun q k hk c => by rw [← hc.1 q c]; exact hk
  refine ⟨fun s hs => ?_, fun a h1 h2 => ?_, fun s hs => ?_, fun t ht => ?_, fun p hp => ?_, fun q hq => ?_, fun q hq => ?_⟩
  · by_cases c : (S s).1 = 0
    · exact (hn s c).1 hs
    have hs0 := old s 8 hs c
    obtain ⟨⟨hf, hk, hpc, hl⟩, hca⟩ := hg.1 s hs0
    have es := cg_R hc hT hs0 (by decide) (by decide)
    have ed := cg_D hc hT hs0 (by decide) (by decide)
    have q : ∀ j, rf R' s j = rf R s j := fun j => by rw [rf, rf, es]
    have k4 : (S (rf R s 4)).1 = 42 := by rw [hf.2.2.2.2.2.2.2.1]
    have k5 : (S (rf R s 5)).1 = 43 := by rw [hf.2.2.2.2.2.2.2.2.2.1]
    have k6 : (S (rf R s 6)).1 = 44 := by rw [hf.2.2.2.2.2.2.2.2.2.2.2]
    have k0 := hf.2.1
    have k1 := hf.2.2.2.2.1
    have s0 := cg_S hc k0 (by decide)
    have hN : strN S' R' s = strN S R s := by rw [strN, strN, q, s0]
    have d0 := cg_D hc hT k0 (by decide) (by decide)
    refine ⟨⟨?_, ?_, ?_, ?_⟩, ?_⟩
    · simp only [skF0, hN, q, es, s0, cg_S hc k1 (by decide), cg_S hc k4 (by decide), cg_S hc k5 (by decide), cg_S hc k6 (by decide)]
      exact hf
    · rw [hN, q, d0]; exact hk
    · rw [hN, q, q, d0, cg_D hc hT k1 (by decide) (by decide)]; exact hpc
    · rw [hN, q, d0, ed]; exact hl
    · simp only [caOK, hN, q, d0, cg_D hc hT k4 (by decide) (by decide), cg_D hc hT k5 (by decide) (by decide), cg_D hc hT k6 (by decide) (by decide), ed]
      exact hca
  · by_cases c : (S a).1 = 0 ∨ T a ∨ T (rf R a 1)
    · exact hl a h1 h2 c
    · have c0 : (S a).1 ≠ 0 := fun z => c (Or.inl z)
      have e := hc.1 a c0
      rw [e] at h1 h2
      exact lsOK_chg hc ⟨h1, h2⟩ (hg.2.1 a h1 h2) (fun z => c (Or.inr (Or.inl z))) (fun z => c (Or.inr (Or.inr z)))
  · by_cases c : (S s).1 = 0
    · exact (hn s c).2.1 hs
    have h0 := old s 2 hs c
    have f := hg.2.2.1 s h0
    have es := cg_R hc hT h0 (by decide) (by decide)
    have q : ∀ j, rf R' s j = rf R s j := fun j => by rw [rf, rf, es]
    simp only [stF, q, es, hc.1 _ (show (S (rf R s 0)).1 ≠ 0 by rw [f.2.1]; decide), hc.1 _ (show (S (rf R s 1)).1 ≠ 0 by rw [f.2.2.2.2.1]; decide), hc.1 _ (show (S (rf R s 2)).1 ≠ 0 by rw [f.2.2.2.2.2.2.2]; exact (by decide : (45 : Nat) ≠ 0))]
    exact f
  · by_cases c : (S t).1 = 0
    · exact (hn t c).2.2.1 ht
    have h0 := old t 7 ht c
    have f := hg.2.2.2.1 t h0
    have es := cg_R hc hT h0 (by decide) (by decide)
    have q : ∀ j, rf R' t j = rf R t j := fun j => by rw [rf, rf, es]
    simp only [leF0, q, es, hc.1 _ (show (S (rf R t 0)).1 ≠ 0 by rw [f.2.1]; decide), hc.1 _ (show (S (rf R t 1)).1 ≠ 0 by rw [f.2.2.2.1]; decide)]
    exact f
  · by_cases c : (S p).1 = 0
    · exact (hn p c).2.2.2.1 hp
    have h0 := old p 9 hp c
    have f := hg.2.2.2.2.1 p h0
    have es := cg_R hc hT h0 (by decide) (by decide)
    have q : ∀ j, rf R' p j = rf R p j := fun j => by rw [rf, rf, es]
    simp only [saF, q, es, hc.1 _ (show (S (rf R p 1)).1 ≠ 0 by rw [f.2]; decide)]
    exact f
  · by_cases c : (S q).1 = 0
    · exact (hn q c).2.2.2.2.1 hq
    have h0 := old q 30 hq c
    have f := hg.2.2.2.2.2.1 q h0
    have es := cg_R hc hT h0 (by decide) (by decide)
    have ed := cg_D hc hT h0 (by decide) (by decide)
    have q' : ∀ j, rf R' q j = rf R q j := fun j => by rw [rf, rf, es]
    simp only [txF, q', es, ed, cg_S hc f.2.1 (by decide), cg_D hc hT f.2.1 (by decide) (by decide)]
    exact f
  · by_cases c : (S q).1 = 0
    · exact (hn q c).2.2.2.2.2 hq
    · rw [hc.1 q c] at hq
      exact hg.2.2.2.2.2.2 q hq
/-- the cells of a list -/
def lT (S : xS) (a : Nat) : Nat → Prop := fun q => q = a ∨ ((S q).1 = (S a).1 + 10 ∧ (S q).2.2 = a)
theorem lT_k {a : Nat} (hk : 10 ≤ (S a).1 ∧ (S a).1 ≤ 17) : ∀ q, lT S a q → tkB (S q).1 := by
  rintro q (rfl | ⟨h, -⟩)
  · exact Or.inl hk
  · rw [h]; omega
/-- another list has none of them -/
theorem lT_o (hg : GI E Z S D R) {a b : Nat} (hk : 10 ≤ (S a).1 ∧ (S a).1 ≤ 17) (hb : 10 ≤ (S b).1 ∧ (S b).1 ≤ 17) (hne : b ≠ a) : ¬ lT S a b ∧ ¬ lT S a (rf R b 1) := by
  refine ⟨?_, ?_⟩
  · rintro (h | ⟨h, -⟩)
    · exact hne h
    · omega
  · have hl := hg.2.1 b hb.1 hb.2
    rintro (h | ⟨h, h2⟩)
    · rcases hl.2.2.1 with q | q
      · rw [h] at q; omega
      · rw [h] at q; omega
    · rcases hl.2.2.1 with q | q
      · exact hne (by rw [← q.2.1, h2])
      · omega
/-- a list has changed, and only rows of it and rows of no account are new -/
theorem GI_ls (hg : GI E Z S D R) {a : Nat} (hk : 10 ≤ (S a).1 ∧ (S a).1 ≤ 17) (hc : chg (lT S a) S S' D D' R R') (hl : lsOK Z S' D' R' a) (hn : ∀ q, (S q).1 = 0 → ((S' q).1 = 0 ∨ (S' q).1 = (S a).1 + 10 ∨ (S' q).1 = 121) ∧ (wk (S' q).1 = true → E.2.2 q)) : GI E Z S' D' R' := by
  refine GI_chg hg hc (lT_k hk) (fun b h1 h2 h3 => ?_) (fun q hq => ?_)
  · by_cases e : b = a
    · rw [e]; exact hl
    · exfalso
      by_cases z : (S b).1 = 0
      · have := (hn b z).1
        omega
      · have e2 := hc.1 b z
        rw [e2] at h1 h2
        have h4 := lT_o hg hk ⟨h1, h2⟩ e
        rcases h3 with h3 | h3 | h3
        · exact z h3
        · exact h4.1 h3
        · exact h4.2 h3
  · have := (hn q hq).1
    exact ⟨fun h => absurd h (by omega), fun h => absurd h (by omega), fun h => absurd h (by omega), fun h => absurd h (by omega), fun h => absurd h (by omega), (hn q hq).2⟩
end CG
