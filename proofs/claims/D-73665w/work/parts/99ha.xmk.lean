set_option maxRecDepth 100000
/-! OBJECTS ARE MADE: a world without one of its cells; states, letters, strokes that are new -/
def del (S : xS) (q : Nat) : xS := fun p => if p = q then (0, 0, 0) else S p
theorem del_s (S : xS) (q : Nat) : del S q q = (0, 0, 0) := by simp [del]
theorem del_n {S : xS} {q p : Nat} (h : p ≠ q) : del S q p = S p := by simp [del, h]
theorem del_old {S : xS} {q p : Nat} (h : (del S q p).1 ≠ 0) : p ≠ q ∧ (S p).1 ≠ 0 := by
  by_cases e : p = q
  · rw [e, del_s] at h; exact absurd rfl h
  · rw [del_n e] at h; exact ⟨e, h⟩
section MK
variable {E : gE} {Z : Nat → Nat} {S S' : xS} {D D' : xD} {R R' : xR} {P : xPk}
theorem GI_same (hg : GI E Z S D R) (h : ext S S' D D' R R') (hn : ∀ q, (S q).1 = 0 → (S' q).1 = 0) : GI E Z S' D' R' := GI_ext h hg (fun q hq => by
  rw [hn q hq]
  exact ⟨by decide, by decide, by decide, by decide, by decide, by decide, fun h8 => absurd h8 (by decide)⟩)
theorem del_new (hg : GI E Z S D R) {q k n o : Nat} {f : Int → Int} {g : Int → Option Nat} (hz : (S q).1 = 0) (hS : S' = uS S q k n o) (hD : D' = uN D q f) (hR : R' = uN R q g) : GI E Z (del S' q) D' R' ∧ ext S (del S' q) D D' R R' := by
  have ne : ∀ p, (S p).1 ≠ 0 → p ≠ q := fun p hp e => hp (by rw [e]; exact hz)
  have he : ext S (del S' q) D D' R R' := ⟨fun p hp => by rw [del_n (ne p hp), hS]; exact uS_n (ne p hp), fun p hp => by rw [hD]; funext j; rw [uN_n (ne p hp)], fun p hp => by rw [hR]; funext j; rw [uN_n (ne p hp)]⟩
  refine ⟨GI_same hg he (fun p hp => ?_), he⟩
  by_cases e : p = q
  · rw [e, del_s]
  · rw [del_n e, hS, uS_n e]; exact hp
/-- the row of a state that is new -/
def plS : Int → Int := fun j => if 1042 ≤ j ∧ j ≤ 1047 then begF (j - 1042) else 0
/-- a new list is one -/
theorem ls_new {a k : Nat} (hk : (S a).1 = k) (h10 : 10 ≤ k ∧ k ≤ 17) (hz : (S (Z 0)).1 = 28 ∧ (S (Z 0)).2.1 = 0) (h1 : R a 1 = some (Z 0)) (h2 : D a 2 = 0) : lsOK Z S D R a := by
  have er : rf R a 1 = Z 0 := rf_s h1
  refine ⟨by rw [er]; exact h1, by rw [er, h2, hz.2]; decide, Or.inr (by rw [er]; exact ⟨rfl, hz⟩), fun i x y => ?_⟩
  rw [h2] at y
  omega
theorem st_mk (hg : GI E Z S D R) (hz : (S (Z 0)).1 = 28 ∧ (S (Z 0)).2.1 = 0) {q m i v : Nat} (zq : (S q).1 = 0) (zm : (S m).1 = 0) (zi : (S i).1 = 0) (zv : (S v).1 = 0) (wq : E.2.2 q) (wm : E.2.2 m) (wi : E.2.2 i) (wv : E.2.2 v) (hS : ∀ p, (S p).1 ≠ 0 → S' p = S p) (hn : ∀ p, (S p).1 = 0 → p ≠ q → p ≠ m → p ≠ i → p ≠ v → (S' p).1 = 0) (sq : (S' q).1 = 2) (sm : S' m = (11, 3, q)) (si : S' i = (10, 3, q)) (sv : S' v = (45, 6, q)) (hD : ∀ p, (S p).1 ≠ 0 → D' p = D p) (hR : ∀ p, (S p).1 ≠ 0 → R' p = R p) (r0 : R' q 0 = some m) (r1 : R' q 1 = some i) (r2 : R' q 2 = some v) (m1 : R' m 1 = some (Z 0)) (m2 : D' m 2 = 0) (i1 : R' i 1 = some (Z 0)) (i2 : D' i 2 = 0) (hv : ∀ j, 0 ≤ j → j < 6 → D' v j = begF j) : GI E Z S' D' R' ∧ ext S S' D D' R R' ∧ stR S' D' R' q plS := by
  have he : ext S S' D D' R R' := ⟨hS, hD, hR⟩
  have hz' : (S' (Z 0)).1 = 28 ∧ (S' (Z 0)).2.1 = 0 := by rw [hS _ (by rw [hz.1]; decide)]; exact hz
  have km : (S' m).1 = 11 := by rw [sm]
  have ki : (S' i).1 = 10 := by rw [si]
  have kv : (S' v).1 = 45 := by rw [sv]
  have hst : stF S' R' q := by
    refine ⟨?_, ?_, ?_, ?_, ?_, ?_, ?_, ?_⟩ <;> first | rw [rf_s r0, sm] | rw [rf_s r1, si] | rw [rf_s r2, sv] | (rw [rf_s r0]; exact r0) | (rw [rf_s r1]; exact r1) | (rw [rf_s r2]; exact r2)
  refine ⟨GI_chg (T := fun _ => False) hg (chg_ext he) (fun _ h => h.elim) (fun a h1 h2 h3 => ?_) (fun p hp => ?_), he, ?_⟩
  · have za : (S a).1 = 0 := by rcases h3 with h | h | h; exact h; exact h.elim; exact h.elim
    by_cases e1 : a = m
    · rw [e1]; exact ls_new km (by decide) hz' m1 m2
    · by_cases e2 : a = i
      · rw [e2]; exact ls_new ki (by decide) hz' i1 i2
      · exfalso
        by_cases e3 : a = q
        · rw [e3] at h1; omega
        · by_cases e4 : a = v
          · rw [e4] at h2; omega
          · have := hn a za e3 e1 e2 e4; omega
  · by_cases e3 : p = q
    · rw [e3, sq]
      exact ⟨fun h => absurd h (by decide), fun _ => hst, fun h => absurd h (by decide), fun h => absurd h (by decide), fun h => absurd h (by decide), fun _ => wq⟩
    · have key : (S' p).1 = 11 ∨ (S' p).1 = 10 ∨ (S' p).1 = 45 ∨ (S' p).1 = 0 := by
        by_cases e1 : p = m
        · rw [e1]; omega
        · by_cases e2 : p = i
          · rw [e2]; omega
          · by_cases e4 : p = v
            · rw [e4]; omega
            · have := hn p hp e3 e1 e2 e4; omega
      refine ⟨fun h => absurd h (by omega), fun h => absurd h (by omega), fun h => absurd h (by omega), fun h => absurd h (by omega), fun h => absurd h (by omega), fun h => ?_⟩
      by_cases e1 : p = m
      · rw [e1]; exact wm
      · by_cases e2 : p = i
        · rw [e2]; exact wi
        · by_cases e4 : p = v
          · rw [e4]; exact wv
          · rw [hn p hp e3 e1 e2 e4] at h; exact absurd h (by decide)
  · refine ⟨sq, ?_, ?_, fun i a b => ?_, ?_, fun i a b => ?_⟩
    · rw [rf_s r2, hv 0 (by decide) (by decide), hv 1 (by decide) (by decide), hv 2 (by decide) (by decide), hv 3 (by decide) (by decide), hv 4 (by decide) (by decide), hv 5 (by decide) (by decide)]
      exact ⟨rfl, rfl, rfl, rfl, rfl, rfl⟩
    · rw [rf_s r1, i2]; rfl
    · have : plS 1009 = 0 := rfl
      omega
    · rw [rf_s r0, m2]; rfl
    · have : plS 1000 = 0 := rfl
      omega
theorem le_mk (hg : GI E Z S D R) (hz : (S (Z 0)).1 = 28 ∧ (S (Z 0)).2.1 = 0) {q s nm : Nat} (zq : (S q).1 = 0) (zs : (S s).1 = 0) (wq : E.2.2 q) (ws : E.2.2 s) (hnm : (S nm).1 = 30) (hS : ∀ p, (S p).1 ≠ 0 → S' p = S p) (hn : ∀ p, (S p).1 = 0 → p ≠ q → p ≠ s → (S' p).1 = 0) (sq : (S' q).1 = 7) (ss : S' s = (12, 3, q)) (hD : ∀ p, (S p).1 ≠ 0 → D' p = D p) (hR : ∀ p, (S p).1 ≠ 0 → R' p = R p) (r0 : R' q 0 = some nm) (r1 : R' q 1 = some s) (s1 : R' s 1 = some (Z 0)) (s2 : D' s 2 = 0) : GI E Z S' D' R' ∧ ext S S' D D' R R' := by
  have he : ext S S' D D' R R' := ⟨hS, hD, hR⟩
  have hz' : (S' (Z 0)).1 = 28 ∧ (S' (Z 0)).2.1 = 0 := by rw [hS _ (by rw [hz.1]; decide)]; exact hz
  have ks : (S' s).1 = 12 := by rw [ss]
  have hle : leF0 S' R' q := ⟨by rw [rf_s r0]; exact r0, by rw [rf_s r0, hS _ (by rw [hnm]; decide)]; exact hnm, by rw [rf_s r1]; exact r1, by rw [rf_s r1]; exact ks, by rw [rf_s r1, ss]⟩
  refine ⟨GI_chg (T := fun _ => False) hg (chg_ext he) (fun _ h => h.elim) (fun a h1 h2 h3 => ?_) (fun p hp => ?_), he⟩
  · have za : (S a).1 = 0 := by rcases h3 with h | h | h; exact h; exact h.elim; exact h.elim
    by_cases e1 : a = s
    · rw [e1]; exact ls_new ks (by decide) hz' s1 s2
    · exfalso
      by_cases e3 : a = q
      · rw [e3] at h1; omega
      · have := hn a za e3 e1; omega
  · by_cases e3 : p = q
    · rw [e3, sq]
      exact ⟨fun h => absurd h (by decide), fun h => absurd h (by decide), fun _ => hle, fun h => absurd h (by decide), fun h => absurd h (by decide), fun _ => wq⟩
    · have key : (S' p).1 = 12 ∨ (S' p).1 = 0 := by
        by_cases e1 : p = s
        · rw [e1]; omega
        · have := hn p hp e3 e1; omega
      refine ⟨fun h => absurd h (by omega), fun h => absurd h (by omega), fun h => absurd h (by omega), fun h => absurd h (by omega), fun h => absurd h (by omega), fun h => ?_⟩
      by_cases e1 : p = s
      · rw [e1]; exact ws
      · rw [hn p hp e3 e1] at h; exact absurd h (by decide)
/-- a new stroke: its own rows are new -/
theorem sk_mk (hg : GI E Z S D R) {q pa pi sa co ba : Nat} {n : Int} (hpa : (S pa).1 = 40 ∧ ((S pa).2.1 : Int) = 2 * n) (hok : skOK n (D pa)) (zq : (S q).1 = 0) (zp : (S pi).1 = 0) (zs : (S sa).1 = 0) (zc : (S co).1 = 0) (zb : (S ba).1 = 0) (hw : E.2.2 q ∧ E.2.2 pi ∧ E.2.2 sa ∧ E.2.2 co ∧ E.2.2 ba) (hS : ∀ p, (S p).1 ≠ 0 → S' p = S p) (hn : ∀ p, (S p).1 = 0 → p ≠ q → p ≠ pi → p ≠ sa → p ≠ co → p ≠ ba → (S' p).1 = 0) (sq : (S' q).1 = 8) (sp : (S' pi).1 = 41 ∧ ((S' pi).2.1 : Int) = n - 1) (ss : S' sa = (42, 34, q)) (sc : S' co = (43, 16, q)) (sb : S' ba = (44, 16, q)) (hD : ∀ p, (S p).1 ≠ 0 → D' p = D p) (hR : ∀ p, (S p).1 ≠ 0 → R' p = R p) (r0 : R' q 0 = some pa) (r1 : R' q 1 = some pi) (r4 : R' q 4 = some sa) (r5 : R' q 5 = some co) (r6 : R' q 6 = some ba) (d3 : D' q 3 = 0) (d2 : D' q 2 = lnS n (D pa)) (hp : ∀ k, 0 ≤ k → k + 1 < n → D' pi k = pcs (D pa) k) : GI E Z S' D' R' ∧ ext S S' D D' R R' ∧ skR S' D' R' q n (D pa) := by
  have he : ext S S' D D' R R' := ⟨hS, hD, hR⟩
  have kpa : (S pa).1 ≠ 0 := by rw [hpa.1]; decide
  have epa := hS pa kpa
  have dpa := hD pa kpa
  have hN : strN S' R' q = n := by rw [strN, rf_s r0, epa]; omega
  have hso : strOK S' D' R' q := by
    refine ⟨⟨?_, by rw [hN, rf_s r0, dpa]; exact hok, by rw [hN, rf_s r0, rf_s r1, dpa]; exact hp, by rw [hN, rf_s r0, dpa]; exact d2⟩, Or.inl d3⟩
    rw [hN]
    refine ⟨by rw [rf_s r0]; exact r0, by rw [rf_s r0, epa]; exact hpa.1, by rw [rf_s r0, epa]; exact hpa.2, by rw [rf_s r1]; exact r1, by rw [rf_s r1]; exact sp.1, by rw [rf_s r1]; exact sp.2, by rw [rf_s r4]; exact r4, by rw [rf_s r4]; exact ss, by rw [rf_s r5]; exact r5, by rw [rf_s r5]; exact sc, by rw [rf_s r6]; exact r6, by rw [rf_s r6]; exact sb⟩
  have key : ∀ p, (S p).1 = 0 → p ≠ q → ((S' p).1 = 41 ∨ (S' p).1 = 42 ∨ (S' p).1 = 43 ∨ (S' p).1 = 44 ∨ (S' p).1 = 0) ∧ (wk (S' p).1 = true → E.2.2 p) := by
    intro p hp9 e0
    by_cases e1 : p = pi
    · rw [e1]; exact ⟨Or.inl sp.1, fun _ => hw.2.1⟩
    · by_cases e2 : p = sa
      · rw [e2, ss]; exact ⟨Or.inr (Or.inl rfl), fun _ => hw.2.2.1⟩
      · by_cases e3 : p = co
        · rw [e3, sc]; exact ⟨Or.inr (Or.inr (Or.inl rfl)), fun _ => hw.2.2.2.1⟩
        · by_cases e4 : p = ba
          · rw [e4, sb]; exact ⟨Or.inr (Or.inr (Or.inr (Or.inl rfl))), fun _ => hw.2.2.2.2⟩
          · have h9 := hn p hp9 e0 e1 e2 e3 e4
            exact ⟨by omega, fun h => by rw [h9] at h; exact absurd h (by decide)⟩
  refine ⟨GI_chg (T := fun _ => False) hg (chg_ext he) (fun _ h => h.elim) (fun a h1 h2 h3 => ?_) (fun p hp => ?_), he, ⟨sq, by rw [rf_s r0, epa]; exact hpa.2, fun j _ _ => by rw [rf_s r0, dpa]⟩⟩
  · have za : (S a).1 = 0 := by rcases h3 with h | h | h; exact h; exact h.elim; exact h.elim
    exfalso
    by_cases e3 : a = q
    · rw [e3] at h1; omega
    · have := (key a za e3).1; omega
  · by_cases e3 : p = q
    · rw [e3, sq]
      exact ⟨fun _ => hso, fun h => absurd h (by decide), fun h => absurd h (by decide), fun h => absurd h (by decide), fun h => absurd h (by decide), fun _ => hw.1⟩
    · have k9 := key p hp e3
      exact ⟨fun h => absurd h (by omega), fun h => absurd h (by omega), fun h => absurd h (by omega), fun h => absurd h (by omega), fun h => absurd h (by omega), k9.2⟩
end MK
section XC3
variable {l : Launch} {Γ : gC} {E : gE} {X : State → Prop} {y : MethodName} {cc : ByteArray} {nL : Nat} {ret : Option FieldType} {d mc ms : Nat} {post : Option Value → wM → Prop} {M : wM} {S : xS} {D : xD} {R : xR} {cells slots pc : Nat} {lv lv' : List (Option Value)} {st rest : List Value}
theorem x_copyx (hΓ : gOK l Γ E X y cc nL ret d mc ms post) (hAn : xNew E X) {own : String} {ix : Nat} (ho : own = y.cls) (h1 : Cond.methodLink own ix arraycopyName ∈ lw_all) (h2 : Cond.native arraycopyName ∈ lw_all) (h3 : Cond.static arraycopyName ∈ lw_all) (h4 : Cond.initialized "java/lang/System" ∈ lw_all) {a0 a k0 k n0 n1 : Nat} {sp dp n : Int} (ha0 : (S a0).1 = k0) (hn0 : (S a0).2.1 = n0) (hk0 : k0 ≠ 0 ∧ kty k0 = 0) (hA0 : ¬ E.2.2 a0) (ha : (S a).1 = k) (hn1 : (S a).2.1 = n1) (hk : k ≠ 0 ∧ kty k = 0) (hA : E.2.2 a) (b : 0 ≤ sp ∧ 0 ≤ dp ∧ 0 ≤ n ∧ sp + n ≤ (n0 : Int) ∧ dp + n ≤ (n1 : Int) ∧ (n0 : Int) < 2147483648 ∧ (n1 : Int) < 2147483648) (hdd : 1 ≤ d) (hrm : (st.map fun v => v.category).sum ≤ 8) (hlv : lv.length = nL) (hd : decode cc pc = .ok (.invokestatic ix, 3)) (kk : ∀ τ : xD, (∀ (q : Nat) (j : Int), q ≠ a → τ q j = D q j) → (∀ j, τ a j = cpI (D a0) (D a) sp dp n j) → gW Γ E (xM E S τ R) cells slots (pc + 3) lv st) : gW Γ E (xM E S D R) cells slots pc lv (.int (iI n) :: .int (iI dp) :: .ref a :: .int (iI sp) :: .ref a0 :: st) := g_copyx hΓ hAn ho h1 h2 h3 h4 (xM_i ha0 hk0.1 hk0.2 (by decide) hn0) hA0 (xM_i ha hk.1 hk.2 (by decide) hn1) hA b hdd hrm hlv hd (by rw [show cAr E 0 n1 (cpI (D a0) (D a) sp dp n) = xcell E (kty k) (S a).2.1 (cpI (D a0) (D a) sp dp n) (R a) by rw [hk.2, xcell_i (by decide), hn1], xM_D2 ha hk.1]; exact kk _ (fun q j h => by rw [uN_n h]) (fun j => by rw [uN_s]))
end XC3
/-! cells of kind 99 (samples being made) may change and get their kind -/
def chg9 (T : Nat → Prop) (S S' : xS) (D D' : xD) (R R' : xR) : Prop := (∀ q, ((S q).1 ≠ 0 ∧ (S q).1 ≠ 99) → S' q = S q) ∧ (∀ q, ((S q).1 ≠ 0 ∧ (S q).1 ≠ 99) → ¬ T q → D' q = D q) ∧ ∀ q, ((S q).1 ≠ 0 ∧ (S q).1 ≠ 99) → ¬ T q → R' q = R q
theorem lek_ne9 {k : Nat} (h : 10 ≤ k ∧ k ≤ 17) : lek k ≠ 0 ∧ lek k ≠ 99 := by
  rcases (show k = 10 ∨ k = 11 ∨ k = 12 ∨ k = 13 ∨ k = 14 ∨ k = 15 ∨ k = 16 ∨ k = 17 by omega) with e | e | e | e | e | e | e | e <;> rw [e] <;> decide
section C9
variable {E : gE} {Z : Nat → Nat} {S S' : xS} {D D' : xD} {R R' : xR} {P : xPk} {T : Nat → Prop}
theorem cg_S9 (hc : chg9 T S S' D D' R R') {q k : Nat} (hk : (S q).1 = k) (h0 : k ≠ 0 ∧ k ≠ 99) : S' q = S q := hc.1 q (by rw [hk]; exact h0)
theorem cg_D9 (hc : chg9 T S S' D D' R R') (hT : ∀ q, T q → tkB (S q).1) {q k : Nat} (hk : (S q).1 = k) (h0 : k ≠ 0 ∧ k ≠ 99) (hb : ¬ tkB k) : D' q = D q := hc.2.1 q (by rw [hk]; exact h0) (cg_n hT hk hb)
theorem cg_R9 (hc : chg9 T S S' D D' R R') (hT : ∀ q, T q → tkB (S q).1) {q k : Nat} (hk : (S q).1 = k) (h0 : k ≠ 0 ∧ k ≠ 99) (hb : ¬ tkB k) : R' q = R q := hc.2.2 q (by rw [hk]; exact h0) (cg_n hT hk hb)
theorem cg_rf9 (hc : chg9 T S S' D D' R R') (hT : ∀ q, T q → tkB (S q).1) {q k : Nat} (hk : (S q).1 = k) (h0 : k ≠ 0 ∧ k ≠ 99) (hb : ¬ tkB k) (j : Int) : rf R' q j = rf R q j := by rw [rf, rf, cg_R9 hc hT hk h0 hb]
theorem ls_chg9 (hc : chg9 T S S' D D' R R') {a : Nat} (hk : 10 ≤ (S a).1 ∧ (S a).1 ≤ 17) (hl : lsOK Z S D R a) (ha : ¬ T a) (hb : ¬ T (rf R a 1)) : rf R' a 1 = rf R a 1 ∧ ((S (rf R a 1)).1 ≠ 0 ∧ (S (rf R a 1)).1 ≠ 99) ∧ D' a = D a ∧ (∀ i, lE R' a i = lE R a i) ∧ R' a = R a ∧ R' (rf R a 1) = R (rf R a 1) := by
  have e0 : R' a = R a := hc.2.2 a (by omega) ha
  have e1 : rf R' a 1 = rf R a 1 := by rw [rf, rf, e0]
  obtain ⟨b, kb, -, hb1, hb2, hb3, -⟩ := lsOK_b hl hk
  have kb0 : (S (rf R a 1)).1 ≠ 0 ∧ (S (rf R a 1)).1 ≠ 99 := by rw [← hb1]; omega
  have e2 := hc.2.2 _ kb0 hb
  exact ⟨e1, kb0, hc.2.1 a (by omega) ha, fun i => by rw [lE, lE, e1]; show (R' (rf R a 1) i).getD 0 = (R (rf R a 1) i).getD 0; rw [e2], e0, e2⟩
theorem lsOK_chg9 (hc : chg9 T S S' D D' R R') {a : Nat} (hk : 10 ≤ (S a).1 ∧ (S a).1 ≤ 17) (hl : lsOK Z S D R a) (ha : ¬ T a) (hb : ¬ T (rf R a 1)) : lsOK Z S' D' R' a := by
  obtain ⟨e1, e2, e3, e4, e5, e6⟩ := ls_chg9 hc hk hl ha hb
  have sa := hc.1 a (by omega)
  obtain ⟨g1, g2, g3, g4⟩ := hl
  refine ⟨by rw [e5, e1]; exact g1, by rw [e1, e3, hc.1 _ e2]; exact g2, by rw [e1, sa, hc.1 _ e2]; exact g3, fun i x y => ?_⟩
  rw [e3] at y
  have g := g4 i x y
  have k0 : (S (lE R a i)).1 ≠ 0 ∧ (S (lE R a i)).1 ≠ 99 := by rw [g.2]; exact lek_ne9 hk
  rw [e1, e4, e6, hc.1 _ k0, sa]
  exact g
theorem GI_chg9 (hg : GI E Z S D R) (hc : chg9 T S S' D D' R R') (hT : ∀ q, T q → tkB (S q).1) (hl : ∀ a, 10 ≤ (S' a).1 → (S' a).1 ≤ 17 → (((S a).1 = 0 ∨ (S a).1 = 99) ∨ T a ∨ T (rf R a 1)) → lsOK Z S' D' R' a) (hn : ∀ q, ((S q).1 = 0 ∨ (S q).1 = 99) → ((S' q).1 = 8 → strOK S' D' R' q) ∧ ((S' q).1 = 2 → stF S' R' q) ∧ ((S' q).1 = 7 → leF0 S' R' q) ∧ ((S' q).1 = 9 → saF S' R' q) ∧ ((S' q).1 = 30 → txF S' D' R' q) ∧ (wk (S' q).1 = true → E.2.2 q)) : GI E Z S' D' R' := by
  have old : ∀ q k, (S' q).1 = k → ((S q).1 ≠ 0 ∧ (S q).1 ≠ 99) → (S q).1 = k := fun q k hk c => by rw [← hc.1 q c]; exact hk
  refine ⟨fun s hs => ?_, fun a h1 h2 => ?_, fun s hs => ?_, fun t ht => ?_, fun p hp => ?_, fun q hq => ?_, fun q hq => ?_⟩
  · by_cases c0 : (S s).1 = 0 ∨ (S s).1 = 99
    · exact (hn s c0).1 hs
    have c : (S s).1 ≠ 0 ∧ (S s).1 ≠ 99 := ⟨fun z => c0 (Or.inl z), fun z => c0 (Or.inr z)⟩
    have hs0 := old s 8 hs c
    obtain ⟨⟨hf, hk, hpc, hl⟩, hca⟩ := hg.1 s hs0
    have es := cg_R9 hc hT hs0 (by decide) (by decide)
    have ed := cg_D9 hc hT hs0 (by decide) (by decide)
    have q : ∀ j, rf R' s j = rf R s j := fun j => by rw [rf, rf, es]
    have k4 : (S (rf R s 4)).1 = 42 := by rw [hf.2.2.2.2.2.2.2.1]
    have k5 : (S (rf R s 5)).1 = 43 := by rw [hf.2.2.2.2.2.2.2.2.2.1]
    have k6 : (S (rf R s 6)).1 = 44 := by rw [hf.2.2.2.2.2.2.2.2.2.2.2]
    have k0 := hf.2.1
    have k1 := hf.2.2.2.2.1
    have s0 := cg_S9 hc k0 (by decide)
    have hN : strN S' R' s = strN S R s := by rw [strN, strN, q, s0]
    have d0 := cg_D9 hc hT k0 (by decide) (by decide)
    refine ⟨⟨?_, ?_, ?_, ?_⟩, ?_⟩
    · simp only [skF0, hN, q, es, s0, cg_S9 hc k1 (by decide), cg_S9 hc k4 (by decide), cg_S9 hc k5 (by decide), cg_S9 hc k6 (by decide)]
      exact hf
    · rw [hN, q, d0]; exact hk
    · rw [hN, q, q, d0, cg_D9 hc hT k1 (by decide) (by decide)]; exact hpc
    · rw [hN, q, d0, ed]; exact hl
    · simp only [caOK, hN, q, d0, cg_D9 hc hT k4 (by decide) (by decide), cg_D9 hc hT k5 (by decide) (by decide), cg_D9 hc hT k6 (by decide) (by decide), ed]
      exact hca
  · by_cases c : ((S a).1 = 0 ∨ (S a).1 = 99) ∨ T a ∨ T (rf R a 1)
    · exact hl a h1 h2 c
    · have c0 : (S a).1 ≠ 0 ∧ (S a).1 ≠ 99 := ⟨fun z => c (Or.inl (Or.inl z)), fun z => c (Or.inl (Or.inr z))⟩
      have e := hc.1 a c0
      rw [e] at h1 h2
      exact lsOK_chg9 hc ⟨h1, h2⟩ (hg.2.1 a h1 h2) (fun z => c (Or.inr (Or.inl z))) (fun z => c (Or.inr (Or.inr z)))
  · by_cases c0 : (S s).1 = 0 ∨ (S s).1 = 99
    · exact (hn s c0).2.1 hs
    have c : (S s).1 ≠ 0 ∧ (S s).1 ≠ 99 := ⟨fun z => c0 (Or.inl z), fun z => c0 (Or.inr z)⟩
    have h0 := old s 2 hs c
    have f := hg.2.2.1 s h0
    have es := cg_R9 hc hT h0 (by decide) (by decide)
    have q : ∀ j, rf R' s j = rf R s j := fun j => by rw [rf, rf, es]
    simp only [stF, q, es, hc.1 _ (show (S (rf R s 0)).1 ≠ 0 ∧ (S (rf R s 0)).1 ≠ 99 by rw [f.2.1]; decide), hc.1 _ (show (S (rf R s 1)).1 ≠ 0 ∧ (S (rf R s 1)).1 ≠ 99 by rw [f.2.2.2.2.1]; decide), hc.1 _ (show (S (rf R s 2)).1 ≠ 0 ∧ (S (rf R s 2)).1 ≠ 99 by rw [f.2.2.2.2.2.2.2]; exact (by decide : (45 : Nat) ≠ 0 ∧ (45 : Nat) ≠ 99))]
    exact f
  · by_cases c0 : (S t).1 = 0 ∨ (S t).1 = 99
    · exact (hn t c0).2.2.1 ht
    have c : (S t).1 ≠ 0 ∧ (S t).1 ≠ 99 := ⟨fun z => c0 (Or.inl z), fun z => c0 (Or.inr z)⟩
    have h0 := old t 7 ht c
    have f := hg.2.2.2.1 t h0
    have es := cg_R9 hc hT h0 (by decide) (by decide)
    have q : ∀ j, rf R' t j = rf R t j := fun j => by rw [rf, rf, es]
    simp only [leF0, q, es, hc.1 _ (show (S (rf R t 0)).1 ≠ 0 ∧ (S (rf R t 0)).1 ≠ 99 by rw [f.2.1]; decide), hc.1 _ (show (S (rf R t 1)).1 ≠ 0 ∧ (S (rf R t 1)).1 ≠ 99 by rw [f.2.2.2.1]; decide)]
    exact f
  · by_cases c0 : (S p).1 = 0 ∨ (S p).1 = 99
    · exact (hn p c0).2.2.2.1 hp
    have c : (S p).1 ≠ 0 ∧ (S p).1 ≠ 99 := ⟨fun z => c0 (Or.inl z), fun z => c0 (Or.inr z)⟩
    have h0 := old p 9 hp c
    have f := hg.2.2.2.2.1 p h0
    have es := cg_R9 hc hT h0 (by decide) (by decide)
    have q : ∀ j, rf R' p j = rf R p j := fun j => by rw [rf, rf, es]
    simp only [saF, q, es, hc.1 _ (show (S (rf R p 1)).1 ≠ 0 ∧ (S (rf R p 1)).1 ≠ 99 by rw [f.2]; decide)]
    exact f
  · by_cases c0 : (S q).1 = 0 ∨ (S q).1 = 99
    · exact (hn q c0).2.2.2.2.1 hq
    have c : (S q).1 ≠ 0 ∧ (S q).1 ≠ 99 := ⟨fun z => c0 (Or.inl z), fun z => c0 (Or.inr z)⟩
    have h0 := old q 30 hq c
    have f := hg.2.2.2.2.2.1 q h0
    have es := cg_R9 hc hT h0 (by decide) (by decide)
    have ed := cg_D9 hc hT h0 (by decide) (by decide)
    have q' : ∀ j, rf R' q j = rf R q j := fun j => by rw [rf, rf, es]
    simp only [txF, q', es, ed, cg_S9 hc f.2.1 (by decide), cg_D9 hc hT f.2.1 (by decide) (by decide)]
    exact f
  · by_cases c0 : (S q).1 = 0 ∨ (S q).1 = 99
    · exact (hn q c0).2.2.2.2.2 hq
    · have c : (S q).1 ≠ 0 ∧ (S q).1 ≠ 99 := ⟨fun z => c0 (Or.inl z), fun z => c0 (Or.inr z)⟩
      rw [hc.1 q c] at hq
      exact hg.2.2.2.2.2.2 q hq
/-- a sample that is made gets its kind -/
theorem GI_rek (hg : GI E Z S D R) {p n o : Nat} (hp : (S p).1 = 99) (hS : S' = uS S p 9 n o) (hD : ∀ (q : Nat) (j : Int), q ≠ p → D' q j = D q j) (hR : ∀ (q : Nat) (j : Int), q ≠ p → R' q j = R q j) (hw : E.2.2 p) (hs : saF S' R' p) : GI E Z S' D' R' := by
  have ne : ∀ q, ((S q).1 ≠ 0 ∧ (S q).1 ≠ 99) → q ≠ p := fun q hq e => hq.2 (by rw [e]; exact hp)
  have hc : chg9 (fun _ => False) S S' D D' R R' := ⟨fun q hq => by rw [hS]; exact uS_n (ne q hq), fun q hq _ => funext fun j => hD q j (ne q hq), fun q hq _ => funext fun j => hR q j (ne q hq)⟩
  have key : ∀ q, ((S q).1 = 0 ∨ (S q).1 = 99) → ((S' q).1 = 0 ∨ ((S' q).1 = 99 ∧ E.2.2 q)) ∨ ((S' q).1 = 9 ∧ q = p) := fun q hq => by
    by_cases e : q = p
    · exact Or.inr ⟨by rw [hS, e, uS_s], e⟩
    · rw [hS, uS_n e]
      rcases hq with h | h
      · exact Or.inl (Or.inl h)
      · exact Or.inl (Or.inr ⟨h, hg.2.2.2.2.2.2 q (by rw [h]; rfl)⟩)
  refine GI_chg9 hg hc (fun _ h => h.elim) (fun a h1 h2 h3 => ?_) (fun q hq => ?_)
  · exfalso
    rcases h3 with h | h | h
    · have := key a h; omega
    · exact h
    · exact h
  · have k9 := key q hq
    refine ⟨fun h => absurd h (by omega), fun h => absurd h (by omega), fun h => absurd h (by omega), fun h => ?_, fun h => absurd h (by omega), fun h => ?_⟩
    · rcases k9 with z | z
      · omega
      · rw [z.2]; exact hs
    · rcases k9 with (z | z) | z
      · rw [z] at h; exact absurd h (by decide)
      · exact z.2
      · rw [z.2]; exact hw
end C9
theorem del_z {S : xS} {q m : Nat} (h : (S m).1 = 0) : (del S q m).1 = 0 := by
  by_cases e : m = q
  · rw [e, del_s]
  · rw [del_n e]; exact h
theorem sle_z {S S1 : xS} {i : Nat} (h : sle S S1) (hz : (S1 i).1 = 0) : (S i).1 = 0 := by
  by_cases c : (S i).1 = 0
  · exact c
  · rw [h i c] at hz; exact absurd hz c
theorem del_sle {S S1 : xS} {q : Nat} (h : sle S S1) : ∀ p, (del S q p).1 ≠ 0 → S1 p = del S q p := fun p hp => by
  have h9 := del_old hp
  rw [del_n h9.1]; exact h p h9.2

theorem rf_c {R R' : xR} {q : Nat} {j : Int} (h : R' q j = R q j) : rf R' q j = rf R q j := by rw [rf, rf, h]
