set_option maxRecDepth 100000
/-! LISTS: their rows; copies of references; calls through an interface -/
theorem sle_t {S S1 S2 : xS} (h : sle S S1) (h2 : sle S1 S2) : sle S S2 := fun q hq => (h2 q (by rw [h q hq]; exact hq)).trans (h q hq)
/-- elements of lists: their classes -/
theorem el_c {l : Launch} {E : gE} {X : State → Prop} {Z : Nat → Nat} {Y : Nat → Option Nat} (hX : xOK l E X Z Y) {S : xS} {q k : Nat} (hk : 10 ≤ k ∧ k ≤ 17) (h : (S q).1 = lek k) : ∃ c : Nat, ((S q).1 ≠ 0 ∧ kty (S q).1 = 10 + c) ∧ ∃ r : vw_C, clsX[c]? = some r ∧ ∀ U, X U → va_Nw (.castable r.1 "java/lang/Object") U := by
  rw [h]
  rcases (show k = 10 ∨ k = 11 ∨ k = 12 ∨ k = 13 ∨ k = 14 ∨ k = 15 ∨ k = 16 ∨ k = 17 by omega) with e | e | e | e | e | e | e | e <;> rw [e]
  · exact ⟨8, ⟨by decide, rfl⟩, _, rfl, xn_cast8 hX⟩
  · exact ⟨7, ⟨by decide, rfl⟩, _, rfl, xn_cast7 hX⟩
  · exact ⟨8, ⟨by decide, rfl⟩, _, rfl, xn_cast8 hX⟩
  · exact ⟨8, ⟨by decide, rfl⟩, _, rfl, xn_cast8 hX⟩
  · exact ⟨1, ⟨by decide, rfl⟩, _, rfl, xn_cast1 hX⟩
  · exact ⟨1, ⟨by decide, rfl⟩, _, rfl, xn_cast1 hX⟩
  · exact ⟨9, ⟨by decide, rfl⟩, _, rfl, xn_cast9 hX⟩
  · exact ⟨11, ⟨by decide, rfl⟩, _, rfl, xn_cast11 hX⟩
section RW
variable {E : gE} {Z : Nat → Nat} {S S' : xS} {D D' : xD} {R R' : xR} {P : xPk}
/-- a list that has room has a row of its own -/
theorem ls_own (hg : GI E Z S D R) {a : Nat} (hk : 10 ≤ (S a).1 ∧ (S a).1 ≤ 17) (h : 0 < (S (rf R a 1)).2.1) : (S (rf R a 1)).1 = (S a).1 + 10 ∧ (S (rf R a 1)).2.2 = a ∧ E.2.2 (rf R a 1) ∧ 10 ≤ (S (rf R a 1)).2.1 ∧ (S (rf R a 1)).2.1 ≤ 1000 := by
  have hl := hg.2.1 a hk.1 hk.2
  rcases hl.2.2.1 with q | q
  · exact ⟨q.1, q.2.1, hg.2.2.2.2.2.2 _ (by rw [q.1]; exact wk_20_27 (by omega)), q.2.2, hl.2.1.2.2⟩
  · exfalso
    omega
theorem ls_z (hg : GI E Z S D R) {a : Nat} (hk : 10 ≤ (S a).1 ∧ (S a).1 ≤ 17) (h : (S (rf R a 1)).2.1 < 10) : rf R a 1 = Z 0 ∧ (S (rf R a 1)).1 = 28 ∧ (S (rf R a 1)).2.1 = 0 := by
  rcases (hg.2.1 a hk.1 hk.2).2.2.1 with q | q
  · exact absurd q.2.2 (by omega)
  · exact q
theorem ls_ne (hg : GI E Z S D R) {a : Nat} (hk : 10 ≤ (S a).1 ∧ (S a).1 ≤ 17) : a ≠ rf R a 1 := by
  obtain ⟨b, kb, hb0, hb1, hb2, hb3, hb4⟩ := lsOK_b (hg.2.1 a hk.1 hk.2) hk
  intro e
  rw [← hb1] at e
  rw [e, hb2] at hk
  omega
theorem GI_clear (hg : GI E Z S D R) {a : Nat} (hk : 10 ≤ (S a).1 ∧ (S a).1 ≤ 17) (hD : ∀ (q : Nat) (j : Int), q ≠ a → D' q j = D q j) (h2 : D' a 2 = 0) (hR : ∀ (q : Nat) (j : Int), (q ≠ rf R a 1 ∨ ¬ (0 ≤ j ∧ j < D a 2)) → R' q j = R q j) : GI E Z S D' R' ∧ D' a 2 = 0 ∧ chg (lT S a) S S D D' R R' := by
  have hl := hg.2.1 a hk.1 hk.2
  have hne := ls_ne hg hk
  have hc : chg (lT S a) S S D D' R R' := ⟨fun q _ => rfl, fun q _ hn => funext fun j => hD q j (fun e => hn (Or.inl e)), fun q _ hn => funext fun j => hR q j (by
    by_cases e : q = rf R a 1
    · refine Or.inr (fun h9 => hn ?_)
      have h8 := hl.2.1
      have ho := ls_own hg hk (by omega)
      rw [e]
      exact Or.inr ⟨ho.1, ho.2.1⟩
    · exact Or.inl e)⟩
  have ea : R' a 1 = R a 1 := hR a 1 (Or.inl hne)
  have er : rf R' a 1 = rf R a 1 := by rw [rf, rf, ea]
  refine ⟨GI_ls hg hk hc ⟨by rw [ea, er]; exact hl.1, ?_, by rw [er]; exact hl.2.2.1, fun i x y => ?_⟩ (fun q hq => ⟨Or.inl hq, fun h => absurd (by rw [hq] at h; exact h) (by decide)⟩), h2, hc⟩
  · have := hl.2.1
    rw [h2, er]
    omega
  · rw [h2] at y
    omega
/-- a list's row is b now, and holds el 0, el 1 .. -/
theorem GI_row (hg : GI E Z S D R) {a b : Nat} (hk : 10 ≤ (S a).1 ∧ (S a).1 ≤ 17) {n : Int} (el : Int → Nat) (hS : ∀ q, (S q).1 ≠ 0 → S' q = S q) (hn : ∀ q, (S q).1 = 0 → ((S' q).1 = 0 ∨ q = b ∨ (S' q).1 = 121) ∧ (wk (S' q).1 = true → E.2.2 q)) (hb : (S' b).1 = (S a).1 + 10 ∧ (S' b).2.2 = a ∧ 10 ≤ (S' b).2.1 ∧ (S' b).2.1 ≤ 1000) (hD : ∀ q, (S q).1 ≠ 0 → q ≠ a → D' q = D q) (hR : ∀ q, (S q).1 ≠ 0 → q ≠ a → q ≠ b → R' q = R q) (h1 : R' a 1 = some b) (h2 : D' a 2 = n) (h3 : 0 ≤ n ∧ n ≤ ((S' b).2.1 : Int)) (he : ∀ i, 0 ≤ i → i < n → R' b i = some (el i) ∧ (S' (el i)).1 = lek (S a).1) : GI E Z S' D' R' ∧ D' a 2 = n ∧ chg (lT S a) S S' D D' R R' ∧ ∀ i, 0 ≤ i → i < n → lE R' a i = el i := by
  have er : rf R' a 1 = b := rf_s h1
  have sa : S' a = S a := hS a (by omega)
  have hc : chg (lT S a) S S' D D' R R' := ⟨hS, fun q h0 hn9 => hD q h0 (fun e => hn9 (Or.inl e)), fun q h0 hn9 => hR q h0 (fun e => hn9 (Or.inl e)) (fun e => hn9 (Or.inr (by rw [← hS q h0, e]; exact ⟨hb.1, hb.2.1⟩)))⟩
  have hE : ∀ i, 0 ≤ i → i < n → lE R' a i = el i := fun i x y => by rw [lE, er]; exact rf_s (he i x y).1
  refine ⟨GI_ls hg hk hc ⟨by rw [er]; exact h1, by rw [er, h2]; exact ⟨h3.1, h3.2, hb.2.2.2⟩, Or.inl (by rw [er, sa]; exact ⟨hb.1, hb.2.1, hb.2.2.1⟩), fun i x y => ?_⟩ (fun q hq => ⟨?_, (hn q hq).2⟩), h2, hc, hE⟩
  · rw [h2] at y
    rw [er, hE i x y, sa]
    exact he i x y
  · rcases (hn q hq).1 with z | z | z
    · exact Or.inl z
    · exact Or.inr (Or.inl (by rw [z]; exact hb.1))
    · exact Or.inr (Or.inr z)
/-- .. the row that it had -/
theorem GI_row0 (hg : GI E Z S D R) {a : Nat} (hk : 10 ≤ (S a).1 ∧ (S a).1 ≤ 17) (h0 : 0 < (S (rf R a 1)).2.1) {n : Int} (el : Int → Nat) (hD : ∀ (q : Nat) (j : Int), q ≠ a → D' q j = D q j) (hR : ∀ (q : Nat) (j : Int), q ≠ rf R a 1 → R' q j = R q j) (h2 : D' a 2 = n) (h3 : 0 ≤ n ∧ n ≤ ((S (rf R a 1)).2.1 : Int)) (he : ∀ i, 0 ≤ i → i < n → R' (rf R a 1) i = some (el i) ∧ (S (el i)).1 = lek (S a).1) : GI E Z S D' R' ∧ D' a 2 = n ∧ chg (lT S a) S S D D' R R' ∧ ∀ i, 0 ≤ i → i < n → lE R' a i = el i := by
  have ho := ls_own hg hk h0
  have hl := hg.2.1 a hk.1 hk.2
  have h4 := hl.2.1
  exact GI_row hg hk el (fun q _ => rfl) (fun q hq => ⟨Or.inl hq, fun h => absurd (by rw [hq] at h; exact h) (by decide)⟩) ⟨ho.1, ho.2.1, ho.2.2.2.1, ho.2.2.2.2⟩ (fun q _ e => funext fun j => hD q j e) (fun q _ _ e => funext fun j => hR q j e) ((hR a 1 (ls_ne hg hk)).trans hl.1) h2 h3 he
theorem ls_el (hg : GI E Z S D R) {a : Nat} (hk : 10 ≤ (S a).1 ∧ (S a).1 ≤ 17) {i : Int} (h0 : 0 ≤ i) (h1 : i < D a 2) : R (rf R a 1) i = some (lE R a i) ∧ (S (lE R a i)).1 = lek (S a).1 := (hg.2.1 a hk.1 hk.2).2.2.2 i h0 h1
theorem GI_rem (hg : GI E Z S D R) {a : Nat} (hk : 10 ≤ (S a).1 ∧ (S a).1 ≤ 17) {i : Int} (hi : 0 ≤ i ∧ i < D a 2) (hD : ∀ (q : Nat) (j : Int), q ≠ a → D' q j = D q j) (h2 : D' a 2 = D a 2 - 1) (hR : ∀ (q : Nat) (j : Int), q ≠ rf R a 1 → R' q j = R q j) (he : ∀ j, 0 ≤ j → j < D a 2 - 1 → R' (rf R a 1) j = R (rf R a 1) (if j < i then j else j + 1)) : GI E Z S D' R' ∧ D' a 2 = D a 2 - 1 ∧ chg (lT S a) S S D D' R R' ∧ ∀ j, 0 ≤ j → j < D a 2 - 1 → lE R' a j = lE R a (if j < i then j else j + 1) := by
  have h4 := (hg.2.1 a hk.1 hk.2).2.1
  exact GI_row0 hg hk (by omega) (fun j => lE R a (if j < i then j else j + 1)) hD hR h2 (by omega) (fun j x y => by rw [he j x y]; exact ls_el hg hk (by split <;> omega) (by split <;> omega))
theorem GI_setE (hg : GI E Z S D R) {a e : Nat} (hk : 10 ≤ (S a).1 ∧ (S a).1 ≤ 17) {i : Int} (hi : 0 ≤ i ∧ i < D a 2) (hk2 : (S e).1 = lek (S a).1) (hR : ∀ (q : Nat) (j : Int), (q ≠ rf R a 1 ∨ j ≠ i) → R' q j = R q j) (he : R' (rf R a 1) i = some e) : GI E Z S D R' ∧ chg (lT S a) S S D D R R' ∧ ∀ j, 0 ≤ j → j < D a 2 → lE R' a j = if j = i then e else lE R a j := by
  have h4 := (hg.2.1 a hk.1 hk.2).2.1
  have h := GI_row0 (D' := D) (R' := R') hg hk (by omega) (fun j => if j = i then e else lE R a j) (fun _ _ _ => rfl) (fun q j h => hR q j (Or.inl h)) rfl (by omega) (fun j x y => by
    by_cases c : j = i
    · rw [if_pos c, c]; exact ⟨he, hk2⟩
    · rw [if_neg c, hR _ _ (Or.inr c)]; exact ls_el hg hk x y)
  exact ⟨h.1, h.2.2⟩
/-- only the count of changes has changed -/
theorem GI_mod (hg : GI E Z S D R) {a : Nat} (hk : 10 ≤ (S a).1 ∧ (S a).1 ≤ 17) (hD : ∀ (q : Nat) (j : Int), (q ≠ a ∨ j ≠ 0) → D' q j = D q j) : GI E Z S D' R ∧ chg (lT S a) S S D D' R R := by
  have hc : chg (lT S a) S S D D' R R := ⟨fun q _ => rfl, fun q _ hn => funext fun j => hD q j (Or.inl (fun e => hn (Or.inl e))), fun q _ _ => rfl⟩
  obtain ⟨g1, g2, g3, g4⟩ := hg.2.1 a hk.1 hk.2
  have e2 : D' a 2 = D a 2 := hD a 2 (Or.inr (by decide))
  exact ⟨GI_ls hg hk hc ⟨g1, by rw [e2]; exact g2, g3, by rw [e2]; exact g4⟩ (fun q hq => ⟨Or.inl hq, fun h => absurd (by rw [hq] at h; exact h) (by decide)⟩), hc⟩
/-- one new cell of no account -/
theorem GI_one (hg : GI E Z S D R) {q k n o : Nat} (hz : (S q).1 = 0) (hw : E.2.2 q) (hS : S' = uS S q k n o) (hD : ∀ (p : Nat) (j : Int), p ≠ q → D' p j = D p j) (hR : ∀ (p : Nat) (j : Int), p ≠ q → R' p j = R p j) (hk : k ≠ 2 ∧ k ≠ 7 ∧ k ≠ 8 ∧ k ≠ 9 ∧ ¬ (10 ≤ k ∧ k ≤ 17) ∧ k ≠ 30) : GI E Z S' D' R' ∧ ext S S' D D' R R' := by
  have ne : ∀ p, (S p).1 ≠ 0 → p ≠ q := fun p hp e => hp (by rw [e]; exact hz)
  have he : ext S S' D D' R R' := ⟨fun p hp => by rw [hS]; exact uS_n (ne p hp), fun p hp => funext fun j => hD p j (ne p hp), fun p hp => funext fun j => hR p j (ne p hp)⟩
  refine ⟨GI_ext he hg (fun p hp => ?_), he⟩
  by_cases e : p = q
  · have h9 : (S' p).1 = k := by rw [hS, e, uS_s]
    rw [h9, e]
    exact ⟨hk.1, hk.2.1, hk.2.2.1, hk.2.2.2.1, hk.2.2.2.2.1, hk.2.2.2.2.2, fun _ => hw⟩
  · have h9 : (S' p).1 = 0 := by rw [hS, uS_n e]; exact hp
    rw [h9]
    exact ⟨by decide, by decide, by decide, by decide, by decide, by decide, fun h8 => absurd h8 (by decide)⟩
theorem GI_add (hg : GI E Z S D R) {a b e : Nat} (hk : 10 ≤ (S a).1 ∧ (S a).1 ≤ 17) (hS : ∀ q, (S q).1 ≠ 0 → S' q = S q) (hn : ∀ q, (S q).1 = 0 → ((S' q).1 = 0 ∨ q = b ∨ (S' q).1 = 121) ∧ (wk (S' q).1 = true → E.2.2 q)) (hb : (S' b).1 = (S a).1 + 10 ∧ (S' b).2.2 = a ∧ 10 ≤ (S' b).2.1 ∧ (S' b).2.1 ≤ 1000) (hcap : D a 2 + 1 ≤ ((S' b).2.1 : Int)) (he : (S' e).1 = lek (S a).1) (hD : ∀ q, (S q).1 ≠ 0 → q ≠ a → D' q = D q) (hR : ∀ q, (S q).1 ≠ 0 → q ≠ a → q ≠ b → R' q = R q) (h1 : R' a 1 = some b) (h2 : D' a 2 = D a 2 + 1) (hpre : ∀ i, 0 ≤ i → i < D a 2 → R' b i = some (lE R a i)) (hE : R' b (D a 2) = some e) : GI E Z S' D' R' ∧ D' a 2 = D a 2 + 1 ∧ chg (lT S a) S S' D D' R R' ∧ ∀ i, 0 ≤ i → i < D a 2 + 1 → lE R' a i = if i = D a 2 then e else lE R a i := by
  have h4 := (hg.2.1 a hk.1 hk.2).2.1
  refine GI_row hg hk (fun i => if i = D a 2 then e else lE R a i) hS hn hb hD hR h1 h2 (by omega) (fun i x y => ?_)
  by_cases c : i = D a 2
  · rw [if_pos c, c]; exact ⟨hE, he⟩
  · have h5 := ls_el hg hk x (show i < D a 2 by omega)
    rw [if_neg c]
    exact ⟨hpre i x (by omega), by rw [hS _ (by rw [h5.2]; exact lek_ne hk)]; exact h5.2⟩
end RW
theorem ls_hel {l : Launch} {E : gE} {X : State → Prop} {Z : Nat → Nat} {Y : Nat → Option Nat} (hX : xOK l E X Z Y) {S : xS} {D : xD} {R : xR} (hg : GI E Z S D R) {a b : Nat} (hk : 10 ≤ (S a).1 ∧ (S a).1 ≤ 17) (hb : b = rf R a 1) {sp n : Int} (h : 0 ≤ sp ∧ sp + n ≤ D a 2) : ∀ i : Int, sp ≤ i → i < sp + n → ∀ q : Nat, R b i = some q → ∃ c : Nat, ((S q).1 ≠ 0 ∧ kty (S q).1 = 10 + c) ∧ ∃ r : vw_C, clsX[c]? = some r ∧ ∀ U, X U → va_Nw (.castable r.1 "java/lang/Object") U := by
  intro i x y q hq
  have h5 := ls_el hg hk (i := i) (by omega) (by omega)
  rw [← hb, hq] at h5
  exact el_c hX hk (by rw [Option.some.inj h5.1]; exact h5.2)
section XC2
variable {l : Launch} {Γ : gC} {E : gE} {X : State → Prop} {y : MethodName} {cc : ByteArray} {nL : Nat} {ret : Option FieldType} {d mc ms : Nat} {post : Option Value → wM → Prop} {M : wM} {S : xS} {D : xD} {R : xR} {cells slots pc : Nat} {lv lv' : List (Option Value)} {st rest : List Value}
theorem xM_R2 {a k : Nat} (ha : (S a).1 = k) (hk : k ≠ 0) (f : Int → Option Nat) : wU (xM E S D R) a (xcell E (kty k) (S a).2.1 (D a) f) = xM E S D (uN R a f) := by
  funext q
  by_cases hq : q = a
  · subst hq
    rw [wU_s, xM_at ha hk, uN_s]
  · rw [wU_n hq, xM, xM, uN_n hq]
theorem x_copyr (hE : E.2.1 = clsX) (hΓ : gOK l Γ E X y cc nL ret d mc ms post) (hAn : xNew E X) {own : String} {ix : Nat} (ho : own = y.cls) (h1 : Cond.methodLink own ix arraycopyName ∈ lw_all) (h2 : Cond.native arraycopyName ∈ lw_all) (h3 : Cond.static arraycopyName ∈ lw_all) (h4 : Cond.initialized "java/lang/System" ∈ lw_all) {a0 a k0 k n0 n1 : Nat} {sp dp n : Int} (ha0 : (S a0).1 = k0) (hn0 : (S a0).2.1 = n0) (hk0 : k0 ≠ 0 ∧ kty k0 = 5) (hA0 : E.2.2 a0) (ha : (S a).1 = k) (hn1 : (S a).2.1 = n1) (hk : k ≠ 0 ∧ kty k = 5) (hA : E.2.2 a) (hel : ∀ i : Int, sp ≤ i → i < sp + n → ∀ q : Nat, R a0 i = some q → ∃ c : Nat, ((S q).1 ≠ 0 ∧ kty (S q).1 = 10 + c) ∧ ∃ r : vw_C, clsX[c]? = some r ∧ ∀ U, X U → va_Nw (.castable r.1 "java/lang/Object") U) (b : 0 ≤ sp ∧ 0 ≤ dp ∧ 0 ≤ n ∧ sp + n ≤ (n0 : Int) ∧ dp + n ≤ (n1 : Int) ∧ (n0 : Int) < 2147483648 ∧ (n1 : Int) < 2147483648) (hdd : 1 ≤ d) (hrm : (st.map fun v => v.category).sum ≤ 8) (hlv : lv.length = nL) (hd : decode cc pc = .ok (.invokestatic ix, 3)) (kk : ∀ τ : xR, (∀ (q : Nat) (j : Int), q ≠ a → τ q j = R q j) → (∀ j, τ a j = cpI (R a0) (R a) sp dp n j) → gW Γ E (xM E S D τ) cells slots (pc + 3) lv st) : gW Γ E (xM E S D R) cells slots pc lv (.int (iI n) :: .int (iI dp) :: .ref a :: .int (iI sp) :: .ref a0 :: st) := g_copyr hΓ hAn ho h1 h2 h3 h4 (xM_r ha0 hk0.1 hk0.2 (by decide) hn0) hA0 (xM_r ha hk.1 hk.2 (by decide) hn1) hA (fun i x z q hq => by obtain ⟨c, hc, r, hr, hw⟩ := hel i x z q hq; exact ⟨c, _, r, xM_o rfl hc.1 hc.2, by rw [hE]; exact hr, hw⟩) b hdd hrm hlv hd (by rw [show cRf E 5 n1 (cpI (R a0) (R a) sp dp n) = xcell E (kty k) (S a).2.1 (D a) (cpI (R a0) (R a) sp dp n) by rw [hk.2, xcell_r (by decide), hn1], xM_R2 ha hk.1]; exact kk _ (fun q j h => by rw [uN_n h]) (fun j => by rw [uN_s]))
/-- nothing is copied, out of a row of length 0 that lies elsewhere -/
theorem g_copyg (hΓ : gOK l Γ E X y cc nL ret d mc ms post) (hA : xNew E X) {own : String} {ix : Nat} (ho : own = y.cls) (h1 : Cond.methodLink own ix arraycopyName ∈ lw_all) (h2 : Cond.native arraycopyName ∈ lw_all) (h3 : Cond.static arraycopyName ∈ lw_all) (h4 : Cond.initialized "java/lang/System" ∈ lw_all) {a0 a n1 : Nat} {f g : Int → Option Nat} {dp : Int} (hM0 : M a0 = some (cRf E 5 0 f)) (hA0 : ¬ E.2.2 a0) (hM1 : M a = some (cRf E 5 n1 g)) (hA1 : E.2.2 a) (b : 0 ≤ dp ∧ dp ≤ (n1 : Int) ∧ (n1 : Int) < 2147483648) (hdd : 1 ≤ d) (hrm : (st.map fun v => v.category).sum ≤ 8) (hlv : lv.length = nL) (hd : decode cc pc = .ok (.invokestatic ix, 3)) (k : gW Γ E M cells slots (pc + 3) lv st) : gW Γ E M cells slots pc lv (.int (iI 0) :: .int (iI dp) :: .ref a :: .int (iI 0) :: .ref a0 :: st) := fun H locs ls hP hS hl => by
  obtain ⟨b1, b2, b3⟩ := b
  have e1 := iI_clN (show (0 : Int) ≤ 0 by decide) (show (0 : Int) < 2147483648 by decide)
  have e2 := iI_clN b1 (show dp < 2147483648 by omega)
  have hml : Γ.2.2.2.2.2.2.2.2.2.1.maxLocals = ls.size := by rw [hΓ.2.2.2.2.1]; exact (hl.1.trans hlv).symm
  have hfr : 1 ≤ Γ.2.2.2.1.frames := by rw [hΓ.2.2.2.2.2.2.2.2.2.1]; exact hdd
  have hlo : (st.map fun v => v.category).sum + (nativeFrameWords "java/lang/System" "arraycopy" 5 + 11) ≤ Γ.2.2.2.1.locals := by
    rw [hΓ.2.2.2.2.2.2.2.2.2.1]
    have hw : nativeFrameWords "java/lang/System" "arraycopy" 5 = 7 := by decide
    show _ ≤ 64 * d
    omega
  obtain ⟨k1, hk1⟩ := wsA_at hP hA1 hM1
  have hlt : a0 < Γ.2.2.2.2.1.heap.size := Nat.lt_of_not_le fun z => hA0 (hA _ hΓ.2.2.2.2.2.2.2.2.1.2 a0 z)
  have hc0 : Γ.2.2.2.2.1.heap[a0]? = some (vp_cell _ _) := (hS.2.1 a0 hlt hA0).symm.trans (hP a0 _ hM0)
  have hX0 : va_T (.object "java/lang/Object") a0 0 (fun j => va_rf (f (j : Int))) E.2.2 Γ.2.2.2.2.1 Γ.2.2.2.2.1.heap := ⟨_, hc0, (hΓ.2.2.2.2.2.2.2.1.2 5 _ rfl).1 0 (fun j => va_rf (f (j : Int))), (fun q => by cases q), Nat.zero_le _, by rw [vp_cell_q, arrV_size] <;> rfl, fun j hj => absurd hj (Nat.not_lt_zero j), hA0⟩
  refine va_copyg (E0 := "java/lang/Object") (E1 := "java/lang/Object") hΓ.1 hΓ.2.1 hml (own := own) (by rw [ho]; exact hΓ.2.2.2.2.2.1) (hΓ.2.2.2.2.2.2.1 _ h1) (hΓ.2.2.2.2.2.2.1 _ h2) (hΓ.2.2.2.2.2.2.1 _ h3) (hΓ.2.2.2.2.2.2.1 _ h4) hΓ.2.2.2.2.2.2.2.1 hP.wsP (wsA_D E M H.size) hS k1 5 hX0 hk1 rfl (iI_nn (by decide) (by decide)) (iI_nn b1 (by omega)) (iI_nn (by decide) (by decide)) (by rw [e1]; decide) (by rw [e1, e2]; show dp.toNat + 0 ≤ n1; omega) hfr hlo hd fun H1 locs1 p1 d1 s1 => ?_
  have ez : va_cpy (fun _ => none) (fun j : Nat => g (j : Int)) (iI 0).toNatClampNeg (iI dp).toNatClampNeg (iI 0).toNatClampNeg = fun j : Nat => g (j : Int) := by
    funext j
    simp only [va_cpy, e1, e2]
    rw [if_neg (by simp)]
  rw [ez] at p1
  have hm : wU M a (cRf E 5 n1 g) = M := by
    funext q
    by_cases hq : q = a
    · subst hq; rw [wU_s]; exact hM1.symm
    · rw [wU_n hq]
  have hb := hP.back (e' := cRf E 5 n1 g) (hA _ hΓ.2.2.2.2.2.2.2.2.1.2) hS hk1 p1 s1
  rw [hm] at hb
  exact k H1 locs1 ls hb s1 hl
theorem x_copyg (hΓ : gOK l Γ E X y cc nL ret d mc ms post) (hAn : xNew E X) {own : String} {ix : Nat} (ho : own = y.cls) (h1 : Cond.methodLink own ix arraycopyName ∈ lw_all) (h2 : Cond.native arraycopyName ∈ lw_all) (h3 : Cond.static arraycopyName ∈ lw_all) (h4 : Cond.initialized "java/lang/System" ∈ lw_all) {a0 a k0 k n1 : Nat} {dp : Int} (ha0 : (S a0).1 = k0) (hn0 : (S a0).2.1 = 0) (hk0 : k0 ≠ 0 ∧ kty k0 = 5) (hA0 : ¬ E.2.2 a0) (ha : (S a).1 = k) (hn1 : (S a).2.1 = n1) (hk : k ≠ 0 ∧ kty k = 5) (hA : E.2.2 a) (b : 0 ≤ dp ∧ dp ≤ (n1 : Int) ∧ (n1 : Int) < 2147483648) (hdd : 1 ≤ d) (hrm : (st.map fun v => v.category).sum ≤ 8) (hlv : lv.length = nL) (hd : decode cc pc = .ok (.invokestatic ix, 3)) (kk : gW Γ E (xM E S D R) cells slots (pc + 3) lv st) : gW Γ E (xM E S D R) cells slots pc lv (.int (iI 0) :: .int (iI dp) :: .ref a :: .int (iI 0) :: .ref a0 :: st) := g_copyg hΓ hAn ho h1 h2 h3 h4 (xM_r ha0 hk0.1 hk0.2 (by decide) hn0) hA0 (xM_r ha hk.1 hk.2 (by decide) hn1) hA b hdd hrm hlv hd kk
theorem x_ldcM (hΓ : gOK l Γ E X y cc nL ret d mc ms post) {own C : String} {ix mi : Nat} (ho : own = y.cls) (hlink : Cond.classLink own ix C ∈ lw_all) (hM : ∀ U, X U → va_Mi C mi U) (hd : decode cc pc = .ok (.ldc ix, 2)) (k : gW Γ E M cells slots (pc + 2) lv (.ref mi :: st)) : gW Γ E M cells slots pc lv st := g_ldcM hΓ ho hlink hM hd k
theorem x_getC (hΓ : gOK l Γ E X y cc nL ret d mc ms post) {own : String} {ix mi a n k : Nat} (ho : own = y.cls) (h1 : Cond.methodLink own ix yGetC ∈ lw_all) (h2 : ∀ U, X U → va_Dc U) (h3 : Cond.selects "[Ljava/lang/Object;" yGetC yGetC ∈ lw_all) (h4 : Cond.instanceMethod yGetC ∈ lw_all) (h5 : Cond.native yGetC ∈ lw_all) (hM : ∀ U, X U → va_Mi "[Ljava/lang/Object;" mi U) (ha : (S a).1 = k) (hn : (S a).2.1 = n) (hk : k ≠ 0 ∧ kty k = 5) (hdd : 1 ≤ d) (hrm : (st.map fun v => v.category).sum ≤ 8) (hlv : lv.length = nL) (hd : decode cc pc = .ok (.invokevirtual ix, 3)) (kk : gW Γ E (xM E S D R) cells slots (pc + 3) lv (.ref mi :: st)) : gW Γ E (xM E S D R) cells slots pc lv (.ref a :: st) := g_getC hΓ ho h1 h2 h3 h4 h5 hM (xM_r ha hk.1 hk.2 (by decide) hn) hdd hrm hlv hd kk
/-- a call through an interface -/
theorem g_callF (hΓ : gOK l Γ E X y cc nL ret d mc ms post) {x y' : MethodName} {cc' : ByteArray} {nL' d' mc' ms' ix count : Nat} {ret' : Option FieldType} {b : Nat} {As : List Value} {post' : Option Value → wM → Prop} {C own : String} (hC : Ct l E X y' cc' nL' ret' d' mc' ms' (.ref b :: As) M post') (ho : own = y.cls) (hF : ∀ U, X U → va_Fw C x y' U) (h1 : Cond.methodLink own ix x ∈ lw_all) (h3 : Cond.selects C x y' ∈ lw_all) (h2 : Cond.instanceMethod y' ∈ lw_all) (h4 : Cond.initialized y'.cls ∈ lw_all) (h5 : Cond.code y' cc' nL' ret' ∈ lw_all) {n : Nat} (h6 : x.cls ≠ "java/lang/invoke/MethodHandle" ∧ x.cls ≠ "java/lang/invoke/VarHandle" ∧ (parseMethodDescriptor x.desc).map (fun d => d.parameters.length) = some n) (hn : As.length = n) (hdd : d' + 1 ≤ d) (hnl : nL' ≤ 40) (hmc : cells + mc' ≤ mc) (hms : slots + ms' ≤ ms) {ci N : Nat} {fs : List Value} {T : u_T} (hM : M b = some (.inr (ci, fs))) (hc : E.2.1[ci]? = some (C, T, N)) (hst : st = As.reverse ++ .ref b :: rest) (hrm : (rest.map fun v => v.category).sum ≤ 8) (hd : decode cc pc = .ok (.invokeinterface ix count, 5)) (hlv : lv.length = nL) (kk : ∀ (v : Option Value) (M' : wM), post' v M' → gW Γ E M' (cells + mc') (slots + ms') (pc + 5) lv (v.toList ++ rest)) : gW Γ E M cells slots pc lv st := by
  subst hst
  intro H locs ls hP hS hl T0 hT X'
  have hl9 := hΓ.2.2.2.2.2.2.2.2.2.2.2.1
  have hC' : Ct Γ.2.1 E X y' cc' nL' ret' d' mc' ms' (.ref b :: As) M post' := by rw [hl9]; exact hC
  have hGd : GoodIn lw_all (va_wsF own ix C x y' (ws_ y' cc' nL' ret')) := lw_app (by
    intro w hw
    simp only [List.mem_cons, List.not_mem_nil, or_false] at hw
    rcases hw with rfl | rfl | rfl | rfl
    · exact h1
    · exact h3
    · exact h2
    · exact h4) (lw_meth h5)
  have hr := va_runF (As := As) (own := own) (C := C) (x := x) (cC := E.1.1 ci) (hΓ.2.2.2.2.2.2.2.1.1 ci _ hc).2 ⟨hΓ.1, hΓ.2.1, hΓ.2.2.2.2.1, by rw [ho]; exact hΓ.2.2.2.2.2.1, hΓ.2.2.2.2.2.2.1⟩ hC' (va_cwF n hΓ.2.2.2.2.2.2.1 hGd rfl rfl rfl (hF _ hΓ.2.2.2.2.2.2.2.2.1.2) h6 ⟨by rw [hΓ.2.2.2.2.2.2.2.2.2.1]; exact hdd, by rw [hΓ.2.2.2.2.2.2.2.2.2.1]; show 8 + (nL' + 11) + 64 * d' ≤ 64 * d; omega⟩) ⟨g_blind hΓ.2.2.2.2.2.2.2.2.1.1, va_recv hΓ.2.2.2.2.2.2.2.1 (hP.one hM) hc (q0 := 0) rfl, g_pre hΓ hP hS⟩ (g := F0 Γ.2.2.2.2.2.1 pc ls (As.reverse ++ .ref b :: rest)) rfl hn (hl.1.trans hlv) rfl (lv_room hrm) hd (cells := cells) (slots := slots) (locs := locs) ⟨by rw [hΓ.2.2.2.2.2.2.2.2.2.1]; exact hmc, by rw [hΓ.2.2.2.2.2.2.2.2.2.1]; exact hms⟩ T0 hT X'
  obtain ⟨v, st₀, t, T', L, h0, X2, hL, e1, e2, ⟨⟨v', M', hv, hp, hP'⟩, hz, hk⟩, stp⟩ := hr
  cases hv
  rw [h0] at hz hk
  obtain ⟨t2, a1, b1⟩ := kk v M' hp T'.heap (locs ++ L) ls (by rw [e1]; exact hP') ⟨Nat.le_trans hS.1 (by rw [e1]; exact hz), fun q h1 h2 => by rw [e1, hk q (Nat.lt_of_lt_of_le h1 hS.1) h2]; exact hS.2.1 q h1 h2, fun q hq => by
      rcases List.mem_append.mp hq with h | h
      · exact hS.2.2 q h
      · exact hL q h⟩ hl T' rfl X2
  exact ⟨t2, stp t2 a1, b1⟩
theorem x_callF (hE : E.2.1 = clsX) (hΓ : gOK l Γ E X y cc nL ret d mc ms post) {x y' : MethodName} {cc' : ByteArray} {nL' d' mc' ms' ix count : Nat} {ret' : Option FieldType} {b : Nat} {As : List Value} {post' : Option Value → xS → xD → xR → Prop} {C own : String} (hC : xC l E X y' cc' nL' ret' d' mc' ms' (.ref b :: As) S D R post') {k c N : Nat} {T : u_T} (hb : (S b).1 = k) (hk : k ≠ 0 ∧ kty k = 10 + c) (hcl : clsX[c]? = some (C, T, N)) (ho : own = y.cls) (hF : ∀ U, X U → va_Fw C x y' U) (h1 : Cond.methodLink own ix x ∈ lw_all) (h3 : Cond.selects C x y' ∈ lw_all) (h2 : Cond.instanceMethod y' ∈ lw_all) (h4 : Cond.initialized y'.cls ∈ lw_all) (h5 : Cond.code y' cc' nL' ret' ∈ lw_all) {n : Nat} (h6 : x.cls ≠ "java/lang/invoke/MethodHandle" ∧ x.cls ≠ "java/lang/invoke/VarHandle" ∧ (parseMethodDescriptor x.desc).map (fun d => d.parameters.length) = some n) (hn : As.length = n) (hdd : d' + 1 ≤ d) (hnl : nL' ≤ 40) (hmc : cells + mc' ≤ mc) (hms : slots + ms' ≤ ms) (hst : st = As.reverse ++ .ref b :: rest) (hrm : (rest.map fun v => v.category).sum ≤ 8) (hd : decode cc pc = .ok (.invokeinterface ix count, 5)) (hlv : lv.length = nL) (kk : ∀ (v : Option Value) (S' : xS) (D' : xD) (R' : xR), post' v S' D' R' → gW Γ E (xM E S' D' R') (cells + mc') (slots + ms') (pc + 5) lv (v.toList ++ rest)) : gW Γ E (xM E S D R) cells slots pc lv st := g_callF hΓ hC ho hF h1 h3 h2 h4 h5 h6 hn hdd hnl hmc hms (xM_o hb hk.1 hk.2) (by rw [hE]; exact hcl) hst hrm hd hlv (fun v M' hv => by obtain ⟨S', D', R', e, hq⟩ := hv; rw [e]; exact kk v S' D' R' hq)
end XC2
