set_option maxRecDepth 100000
/-! THE HEAP LAYER: a world is S (an address' kind, length, owner), D (its ints), R (its references) -/
abbrev xS : Type := Nat → Nat × Nat × Nat
abbrev xD : Type := Nat → Int → Int
abbrev xR : Type := Nat → Int → Option Nat
def clsX : List vw_C := [(RX0, TX0, 38), (RX1, TX1, 3), (RX2, TX2, 2), (RX3, TX3, 41), (RX4, TX4, 6), (RX5, TX5, 4), (RX6, TX6, 8), (RX7, TX7, 2), (RX8, TX8, 7), (RX9, TX9, 2), (RJ2, TJ2, 3), (RJ6, TJ6, 4)]
/-- a kind's type: arrays 0 int, 1 char, 2 byte, 3 boolean, 4 int[], 5 Object, 6 String; 10 + c: objects of class c -/
def kty (k : Nat) : Nat := match k with
  | 1 => 10
  | 2 => 11
  | 3 => 12
  | 4 => 14
  | 5 => 15
  | 6 => 16
  | 7 => 17
  | 8 => 18
  | 9 => 19
  | 10 => 20
  | 11 => 20
  | 12 => 20
  | 13 => 20
  | 14 => 20
  | 15 => 20
  | 16 => 20
  | 17 => 20
  | 19 => 12
  | 20 => 5
  | 21 => 5
  | 22 => 5
  | 23 => 5
  | 24 => 5
  | 25 => 5
  | 26 => 5
  | 27 => 5
  | 28 => 5
  | 30 => 21
  | 31 => 2
  | 32 => 6
  | 33 => 0
  | 34 => 0
  | 35 => 0
  | 40 => 0
  | 41 => 0
  | 42 => 0
  | 43 => 0
  | 44 => 0
  | 45 => 0
  | 46 => 0
  | 47 => 0
  | 48 => 0
  | 49 => 0
  | 50 => 1
  | 52 => 0
  | 53 => 0
  | 62 => 4
  | 63 => 0
  | 64 => 0
  | 65 => 4
  | 66 => 4
  | 67 => 4
  | 68 => 0
  | 69 => 0
  | 73 => 0
  | 74 => 0
  | 75 => 0
  | 76 => 0
  | 77 => 0
  | 78 => 0
  | 79 => 0
  | 82 => 4
  | 83 => 3
  | 84 => 0
  | 86 => 1
  | 90 => 10
  | 91 => 11
  | 92 => 12
  | 93 => 13
  | 94 => 14
  | 95 => 15
  | 96 => 16
  | 97 => 17
  | 98 => 18
  | 99 => 19
  | 100 => 20
  | 101 => 21
  | 112 => 0
  | 115 => 0
  | 116 => 0
  | 117 => 0
  | 120 => 0
  | 121 => 5
  | 132 => 0
  | _ => 0
/-- a field's type: 0 int, 1 reference, 2 long -/
def fco (c : Nat) : List Nat := match c with
  | 0 => [1, 0, 1, 1, 1, 1, 1, 0, 0, 1, 1, 1, 1, 1, 1, 1, 1, 1, 1, 1, 1, 1, 0, 1, 1, 1, 1, 1, 1, 1, 1, 1, 1, 1, 1, 2, 1, 0]
  | 1 => [1, 1, 1]
  | 2 => [1, 1]
  | 4 => [0, 1, 1, 0, 0, 1]
  | 5 => [1, 1, 0, 0]
  | 6 => [1, 1, 1, 1, 1, 0, 0, 0]
  | 7 => [1, 1]
  | 8 => [1, 1, 0, 0, 1, 1, 1]
  | 9 => [0, 1]
  | 10 => [0, 1, 0]
  | 11 => [1, 0, 0, 0]
  | _ => []
/-- kinds that may be written -/
def wk (k : Nat) : Bool := match k with
  | 0 => false
  | 28 => false
  | 30 => false
  | 31 => false
  | 32 => false
  | 33 => false
  | 34 => false
  | 35 => false
  | _ => true
def xfv (t : Nat) (d : Int) (r : Option Nat) : Value := if t = 0 then .int (iI d) else if t = 2 then .long (lI d) else va_rf r
def xfs (c : Nat) (D : Int → Int) (R : Int → Option Nat) : List Value := (List.range (fco c).length).map (fun j => xfv ((fco c).getD j 0) (D (j : Int)) (R (j : Int)))
theorem xfs_at {c : Nat} (D : Int → Int) (R : Int → Option Nat) {j : Nat} (hj : j < (fco c).length) : (xfs c D R)[j]? = some (xfv ((fco c).getD j 0) (D (j : Int)) (R (j : Int))) := by
  simp [xfs, hj]
theorem xfs_len (c : Nat) (D : Int → Int) (R : Int → Option Nat) : (xfs c D R).length = (fco c).length := by simp [xfs]
theorem xfs_setD {c : Nat} (D : Int → Int) (R : Int → Option Nat) {j : Nat} {x : Int} {v : Value} (hv : ∀ r, xfv ((fco c).getD j 0) x r = v) : (xfs c D R).set j v = xfs c (up D (j : Int) x) R := by
  apply List.ext_getElem?
  intro i
  by_cases hi : i = j
  · subst hi
    by_cases hl : i < (fco c).length
    · rw [List.getElem?_set_self (by rw [xfs_len]; exact hl), xfs_at _ _ hl, up_s, hv]
    · rw [List.getElem?_eq_none (by rw [List.length_set, xfs_len]; omega), List.getElem?_eq_none (by rw [xfs_len]; omega)]
  · rw [List.getElem?_set_ne (Ne.symm hi)]
    by_cases hl : i < (fco c).length
    · rw [xfs_at _ _ hl, xfs_at _ _ hl, up_n (by omega)]
    · rw [List.getElem?_eq_none (by rw [xfs_len]; omega), List.getElem?_eq_none (by rw [xfs_len]; omega)]
theorem xfs_setR {c : Nat} (D : Int → Int) (R : Int → Option Nat) {j : Nat} {r : Option Nat} {v : Value} (hv : ∀ d, xfv ((fco c).getD j 0) d r = v) : (xfs c D R).set j v = xfs c D (up R (j : Int) r) := by
  apply List.ext_getElem?
  intro i
  by_cases hi : i = j
  · subst hi
    by_cases hl : i < (fco c).length
    · rw [List.getElem?_set_self (by rw [xfs_len]; exact hl), xfs_at _ _ hl, up_s, hv]
    · rw [List.getElem?_eq_none (by rw [List.length_set, xfs_len]; omega), List.getElem?_eq_none (by rw [xfs_len]; omega)]
  · rw [List.getElem?_set_ne (Ne.symm hi)]
    by_cases hl : i < (fco c).length
    · rw [xfs_at _ _ hl, xfs_at _ _ hl, up_n (by omega)]
    · rw [List.getElem?_eq_none (by rw [xfs_len]; omega), List.getElem?_eq_none (by rw [xfs_len]; omega)]
def xcell (E : gE) (t n : Nat) (D : Int → Int) (R : Int → Option Nat) : va_E := if t < 4 then cAr E t n D else if t < 10 then cRf E t n R else .inr (t - 10, xfs (t - 10) D R)
theorem xcell_i {E : gE} {t n : Nat} {D : Int → Int} {R : Int → Option Nat} (h : t < 4) : xcell E t n D R = cAr E t n D := by rw [xcell, if_pos h]
theorem xcell_r {E : gE} {t n : Nat} {D : Int → Int} {R : Int → Option Nat} (h : 4 ≤ t ∧ t < 10) : xcell E t n D R = cRf E t n R := by rw [xcell, if_neg (by omega), if_pos h.2]
theorem xcell_o {E : gE} {c n : Nat} {D : Int → Int} {R : Int → Option Nat} : xcell E (10 + c) n D R = .inr (c, xfs c D R) := by rw [xcell, if_neg (by omega), if_neg (by omega), Nat.add_sub_cancel_left]
def xM (E : gE) (S : xS) (D : xD) (R : xR) : wM := fun q => if (S q).1 = 0 then none else some (xcell E (kty (S q).1) (S q).2.1 (D q) (R q))
theorem xM_at {E : gE} {S : xS} {D : xD} {R : xR} {a k : Nat} (ha : (S a).1 = k) (hk : k ≠ 0) : xM E S D R a = some (xcell E (kty k) (S a).2.1 (D a) (R a)) := by
  rw [xM, if_neg (by rw [ha]; exact hk), ha]
theorem xM_i {E : gE} {S : xS} {D : xD} {R : xR} {a k n t : Nat} (ha : (S a).1 = k) (hk : k ≠ 0) (ht : kty k = t) (h4 : t < 4) (hn : (S a).2.1 = n) : xM E S D R a = some (cAr E t n (D a)) := by
  rw [xM_at ha hk, ht, xcell_i h4, hn]
theorem xM_r {E : gE} {S : xS} {D : xD} {R : xR} {a k n t : Nat} (ha : (S a).1 = k) (hk : k ≠ 0) (ht : kty k = t) (h4 : 4 ≤ t ∧ t < 10) (hn : (S a).2.1 = n) : xM E S D R a = some (cRf E t n (R a)) := by
  rw [xM_at ha hk, ht, xcell_r h4, hn]
theorem xM_o {E : gE} {S : xS} {D : xD} {R : xR} {a k c : Nat} (ha : (S a).1 = k) (hk : k ≠ 0) (ht : kty k = 10 + c) : xM E S D R a = some (.inr (c, xfs c (D a) (R a))) := by
  rw [xM_at ha hk, ht, xcell_o]
theorem xM_D {E : gE} {S : xS} {D : xD} {R : xR} {a k : Nat} (ha : (S a).1 = k) (hk : k ≠ 0) (i x : Int) : wU (xM E S D R) a (xcell E (kty k) (S a).2.1 (up (D a) i x) (R a)) = xM E S (us D a i x) R := by
  funext q
  by_cases hq : q = a
  · subst hq
    rw [wU_s, xM_at ha hk, us_a]
  · rw [wU_n hq, xM, xM, us_f hq]
def ur (R : xR) (a : Nat) (i : Int) (r : Option Nat) : xR := fun q j => if q = a ∧ j = i then r else R q j
theorem ur_s (R : xR) (a : Nat) (i : Int) (r : Option Nat) : ur R a i r a i = r := by simp [ur]
theorem ur_n {R : xR} {a q : Nat} {i j : Int} {r : Option Nat} (h : q ≠ a ∨ j ≠ i) : ur R a i r q j = R q j := by
  simp only [ur]
  rw [if_neg]
  rintro ⟨rfl, rfl⟩
  rcases h with h | h <;> exact h rfl
theorem ur_f {R : xR} {a q : Nat} {i : Int} {r : Option Nat} (h : q ≠ a) : ur R a i r q = R q := by
  funext j
  exact ur_n (Or.inl h)
theorem ur_a (R : xR) (a : Nat) (i : Int) (r : Option Nat) : ur R a i r a = up (R a) i r := by
  funext j
  simp [ur, up]
theorem xM_R {E : gE} {S : xS} {D : xD} {R : xR} {a k : Nat} (ha : (S a).1 = k) (hk : k ≠ 0) (i : Int) (r : Option Nat) : wU (xM E S D R) a (xcell E (kty k) (S a).2.1 (D a) (up (R a) i r)) = xM E S D (ur R a i r) := by
  funext q
  by_cases hq : q = a
  · subst hq
    rw [wU_s, xM_at ha hk, ur_a]
  · rw [wU_n hq, xM, xM, ur_f hq]
/-- a new cell -/
def uS (S : xS) (q k n o : Nat) : xS := fun p => if p = q then (k, n, o) else S p
def uN {α : Type} (D : Nat → Int → α) (q : Nat) (f : Int → α) : Nat → Int → α := fun p => if p = q then f else D p
theorem xM_N {E : gE} {S : xS} {D : xD} {R : xR} {q k n : Nat} (o : Nat) (hk : k ≠ 0) {e : va_E} {fD : Int → Int} {fR : Int → Option Nat} (he : e = xcell E (kty k) n fD fR) : wU (xM E S D R) q e = xM E (uS S q k n o) (uN D q fD) (uN R q fR) := by
  funext p
  by_cases hp : p = q
  · subst hp
    rw [wU_s, xM_at (k := k) (by simp [uS]) hk, he]
    simp [uS, uN]
  · rw [wU_n hp, xM, xM]
    simp [uS, uN, hp]
theorem xM_none {E : gE} {S : xS} {D : xD} {R : xR} {q : Nat} (h : xM E S D R q = none) : (S q).1 = 0 := by
  by_cases c : (S q).1 = 0
  · exact c
  · rw [xM, if_neg c] at h; cases h
/-- a new kind for an address, of the same type -/
theorem xM_K {E : gE} {S : xS} {D : xD} {R : xR} {q k k' o : Nat} (h : (S q).1 = k) (hk : k ≠ 0) (hk' : k' ≠ 0) (ht : kty k' = kty k) : xM E S D R = xM E (uS S q k' (S q).2.1 o) D R := by
  funext p
  by_cases hp : p = q
  · subst hp
    rw [xM_at h hk, xM_at (k := k') (by simp [uS]) hk', ht]
    simp [uS]
  · rw [xM, xM]
    simp [uS, hp]
def rf (R : xR) (q : Nat) (j : Int) : Nat := (R q j).getD 0
theorem rf_s {R : xR} {q a : Nat} {j : Int} (h : R q j = some a) : rf R q j = a := by rw [rf, h]; rfl
/-- what a place of an address is called: small kinds (objects) by field -/
def md (k : Nat) (i : Int) : Nat := if k = 0 then 0 else if k < 10 then 1000 * k + i.toNat else k
theorem mdN {k : Nat} (i : Int) (h : 10 ≤ k) : md k i = k := by rw [md, if_neg (by omega), if_neg (by omega)]
theorem ne_k {S : xS} {a b k k' : Nat} (ha : (S a).1 = k) (hb : (S b).1 = k') (h : k ≠ k') : a ≠ b := fun e => h (by rw [← ha, ← hb, e])
theorem kup {S S' : xS} {a k : Nat} (h : (S a).1 = k) (hk : k ≠ 0) (hle : ∀ q, (S q).1 ≠ 0 → S' q = S q) : (S' a).1 = k := by rw [hle a (by rw [h]; exact hk)]; exact h
theorem nup {S S' : xS} {a k n : Nat} (h : (S a).1 = k) (hk : k ≠ 0) (hn : (S a).2.1 = n) (hle : ∀ q, (S q).1 ≠ 0 → S' q = S q) : (S' a).2.1 = n := by rw [hle a (by rw [h]; exact hk)]; exact hn
/-- a contract of the component -/
def xC (l : Launch) (E : gE) (X : State → Prop) (y : MethodName) (cc : ByteArray) (nL : Nat) (ret : Option FieldType) (d mc ms : Nat) (av : List Value) (S : xS) (D : xD) (R : xR) (post : Option Value → xS → xD → xR → Prop) : Prop := Ct l E X y cc nL ret d mc ms av (xM E S D R) (fun v M' => ∃ S' D' R', M' = xM E S' D' R' ∧ post v S' D' R')
abbrev xP (E : gE) (post : Option Value → xS → xD → xR → Prop) : Option Value → wM → Prop := fun v M' => ∃ S' D' R', M' = xM E S' D' R' ∧ post v S' D' R'
theorem xC.of {l : Launch} {E : gE} {X : State → Prop} {y : MethodName} {cc : ByteArray} {nL : Nat} {ret : Option FieldType} {d mc ms : Nat} {av : List Value} {S : xS} {D : xD} {R : xR} {post : Option Value → xS → xD → xR → Prop} (hXK : gXK E.2.2 X) (hy : plainName y.cls = true) (lv : List (Option Value)) (h0 : (lg_sl av).length ≤ nL) (h1 : lvp 0 lv = lv_args 0 av) (h2 : lv.length = nL) (body : ∀ Γ, gOK l Γ E X y cc nL ret d mc ms (xP E post) → gW Γ E (xM E S D R) 0 0 0 lv []) : xC l E X y cc nL ret d mc ms av S D R post := Ct.of hXK hy lv h0 h1 h2 body
section XR
variable {l : Launch} {Γ : gC} {E : gE} {X : State → Prop} {y : MethodName} {cc : ByteArray} {nL : Nat} {ret : Option FieldType} {d mc ms : Nat} {post : Option Value → wM → Prop} {S : xS} {D : xD} {R : xR} {cells slots pc : Nat} {lv lv' : List (Option Value)} {st rest : List Value}
theorem x_geti (hE : E.2.1 = clsX) (hΓ : gOK l Γ E X y cc nL ret d mc ms post) {C : String} {T : u_T} {N a k c : Nat} (hin : ∀ w ∈ u_ws C T N, w ∈ lw_all) (hcl : clsX[c]? = some (C, T, N)) (ha : (S a).1 = k) (hk : k ≠ 0 ∧ kty k = 10 + c) (j : Nat) {ji : Int} (hji : (j : Int) = ji) (hj : j < N) (hjl : j < (fco c).length) {ix : Nat} {own ref : String} (ho : own = y.cls) (hlink : Cond.fieldLink own ix ref (T j).2.1 (T j).2.2.1 ∈ lw_all) (hsame : ref = (T j).1) (ht : (fco c).getD j 0 = 0) (hd : decode cc pc = .ok (.getfield ix, 3)) (kk : gW Γ E (xM E S D R) cells slots (pc + 3) lv (.int (iI (D a ji)) :: st)) : gW Γ E (xM E S D R) cells slots pc lv (.ref a :: st) := g_getf hΓ hin (xM_o ha hk.1 hk.2) (by rw [hE]; exact hcl) j hj ho hlink hsame (by rw [xfs_at _ _ hjl, ht, hji]; rfl) hd kk
theorem x_getl (hE : E.2.1 = clsX) (hΓ : gOK l Γ E X y cc nL ret d mc ms post) {C : String} {T : u_T} {N a k c : Nat} (hin : ∀ w ∈ u_ws C T N, w ∈ lw_all) (hcl : clsX[c]? = some (C, T, N)) (ha : (S a).1 = k) (hk : k ≠ 0 ∧ kty k = 10 + c) (j : Nat) {ji : Int} (hji : (j : Int) = ji) (hj : j < N) (hjl : j < (fco c).length) {ix : Nat} {own ref : String} (ho : own = y.cls) (hlink : Cond.fieldLink own ix ref (T j).2.1 (T j).2.2.1 ∈ lw_all) (hsame : ref = (T j).1) (ht : (fco c).getD j 0 = 2) (hd : decode cc pc = .ok (.getfield ix, 3)) (kk : gW Γ E (xM E S D R) cells slots (pc + 3) lv (.long (lI (D a ji)) :: st)) : gW Γ E (xM E S D R) cells slots pc lv (.ref a :: st) := g_getf hΓ hin (xM_o ha hk.1 hk.2) (by rw [hE]; exact hcl) j hj ho hlink hsame (by rw [xfs_at _ _ hjl, ht, hji]; rfl) hd kk
theorem x_geta (hE : E.2.1 = clsX) (hΓ : gOK l Γ E X y cc nL ret d mc ms post) {C : String} {T : u_T} {N a k c : Nat} (hin : ∀ w ∈ u_ws C T N, w ∈ lw_all) (hcl : clsX[c]? = some (C, T, N)) (ha : (S a).1 = k) (hk : k ≠ 0 ∧ kty k = 10 + c) (j : Nat) {ji : Int} (hji : (j : Int) = ji) (hj : j < N) (hjl : j < (fco c).length) {ix : Nat} {own ref : String} (ho : own = y.cls) (hlink : Cond.fieldLink own ix ref (T j).2.1 (T j).2.2.1 ∈ lw_all) (hsame : ref = (T j).1) (ht : (fco c).getD j 0 = 1) {r : Option Nat} (hr : R a ji = r) (hd : decode cc pc = .ok (.getfield ix, 3)) (kk : gW Γ E (xM E S D R) cells slots (pc + 3) lv (va_rf r :: st)) : gW Γ E (xM E S D R) cells slots pc lv (.ref a :: st) := g_getf hΓ hin (xM_o ha hk.1 hk.2) (by rw [hE]; exact hcl) j hj ho hlink hsame (by rw [xfs_at _ _ hjl, ht, hji, hr]; rfl) hd kk
theorem x_getiS (hE : E.2.1 = clsX) (hΓ : gOK l Γ E X y cc nL ret d mc ms post) {C : String} {T : u_T} {N a k c : Nat} (hin : ∀ w ∈ u_ws C T N, w ∈ lw_all) (hcl : clsX[c]? = some (C, T, N)) (ha : (S a).1 = k) (hk : k ≠ 0 ∧ kty k = 10 + c) (j : Nat) {ji : Int} (hji : (j : Int) = ji) (hj : j < N) (hjl : j < (fco c).length) {ix : Nat} {own ref : String} (ho : own = y.cls) (hlink : Cond.fieldLink own ix ref (T j).2.1 (T j).2.2.1 ∈ lw_all) (hsame : Cond.sameField ref (T j).1 (T j).2.1 (T j).2.2.1 ∈ lw_all) (ht : (fco c).getD j 0 = 0) (hd : decode cc pc = .ok (.getfield ix, 3)) (kk : gW Γ E (xM E S D R) cells slots (pc + 3) lv (.int (iI (D a ji)) :: st)) : gW Γ E (xM E S D R) cells slots pc lv (.ref a :: st) := g_getfS hΓ hin (xM_o ha hk.1 hk.2) (by rw [hE]; exact hcl) j hj ho hlink hsame (by rw [xfs_at _ _ hjl, ht, hji]; rfl) hd kk
theorem x_getlS (hE : E.2.1 = clsX) (hΓ : gOK l Γ E X y cc nL ret d mc ms post) {C : String} {T : u_T} {N a k c : Nat} (hin : ∀ w ∈ u_ws C T N, w ∈ lw_all) (hcl : clsX[c]? = some (C, T, N)) (ha : (S a).1 = k) (hk : k ≠ 0 ∧ kty k = 10 + c) (j : Nat) {ji : Int} (hji : (j : Int) = ji) (hj : j < N) (hjl : j < (fco c).length) {ix : Nat} {own ref : String} (ho : own = y.cls) (hlink : Cond.fieldLink own ix ref (T j).2.1 (T j).2.2.1 ∈ lw_all) (hsame : Cond.sameField ref (T j).1 (T j).2.1 (T j).2.2.1 ∈ lw_all) (ht : (fco c).getD j 0 = 2) (hd : decode cc pc = .ok (.getfield ix, 3)) (kk : gW Γ E (xM E S D R) cells slots (pc + 3) lv (.long (lI (D a ji)) :: st)) : gW Γ E (xM E S D R) cells slots pc lv (.ref a :: st) := g_getfS hΓ hin (xM_o ha hk.1 hk.2) (by rw [hE]; exact hcl) j hj ho hlink hsame (by rw [xfs_at _ _ hjl, ht, hji]; rfl) hd kk
theorem x_getaS (hE : E.2.1 = clsX) (hΓ : gOK l Γ E X y cc nL ret d mc ms post) {C : String} {T : u_T} {N a k c : Nat} (hin : ∀ w ∈ u_ws C T N, w ∈ lw_all) (hcl : clsX[c]? = some (C, T, N)) (ha : (S a).1 = k) (hk : k ≠ 0 ∧ kty k = 10 + c) (j : Nat) {ji : Int} (hji : (j : Int) = ji) (hj : j < N) (hjl : j < (fco c).length) {ix : Nat} {own ref : String} (ho : own = y.cls) (hlink : Cond.fieldLink own ix ref (T j).2.1 (T j).2.2.1 ∈ lw_all) (hsame : Cond.sameField ref (T j).1 (T j).2.1 (T j).2.2.1 ∈ lw_all) (ht : (fco c).getD j 0 = 1) {r : Option Nat} (hr : R a ji = r) (hd : decode cc pc = .ok (.getfield ix, 3)) (kk : gW Γ E (xM E S D R) cells slots (pc + 3) lv (va_rf r :: st)) : gW Γ E (xM E S D R) cells slots pc lv (.ref a :: st) := g_getfS hΓ hin (xM_o ha hk.1 hk.2) (by rw [hE]; exact hcl) j hj ho hlink hsame (by rw [xfs_at _ _ hjl, ht, hji, hr]; rfl) hd kk
theorem x_getiN (hE : E.2.1 = clsX) (hΓ : gOK l Γ E X y cc nL ret d mc ms post) {C : String} {T : u_T} {N a k c : Nat} (hin : ∀ w ∈ u_ws C T N, w ∈ lw_all) (hcl : clsX[c]? = some (C, T, N)) (ha : (S a).1 = k) (hk : k ≠ 0 ∧ kty k = 10 + c) (j : Nat) {ji : Int} (hji : (j : Int) = ji) (hj : j < N) (hjl : j < (fco c).length) {ix : Nat} {own ref host : String} (ho : own = y.cls) (hlink : ∀ U, X U → va_Nw (.fieldLinkNest own ix ref (T j).2.1 (T j).2.2.1 host) U) (hsame : ref = (T j).1) (ht : (fco c).getD j 0 = 0) (hd : decode cc pc = .ok (.getfield ix, 3)) (kk : gW Γ E (xM E S D R) cells slots (pc + 3) lv (.int (iI (D a ji)) :: st)) : gW Γ E (xM E S D R) cells slots pc lv (.ref a :: st) := g_getN hΓ hin (xM_o ha hk.1 hk.2) (by rw [hE]; exact hcl) j hj ho hlink hsame (by rw [xfs_at _ _ hjl, ht, hji]; rfl) hd kk
theorem x_getlN (hE : E.2.1 = clsX) (hΓ : gOK l Γ E X y cc nL ret d mc ms post) {C : String} {T : u_T} {N a k c : Nat} (hin : ∀ w ∈ u_ws C T N, w ∈ lw_all) (hcl : clsX[c]? = some (C, T, N)) (ha : (S a).1 = k) (hk : k ≠ 0 ∧ kty k = 10 + c) (j : Nat) {ji : Int} (hji : (j : Int) = ji) (hj : j < N) (hjl : j < (fco c).length) {ix : Nat} {own ref host : String} (ho : own = y.cls) (hlink : ∀ U, X U → va_Nw (.fieldLinkNest own ix ref (T j).2.1 (T j).2.2.1 host) U) (hsame : ref = (T j).1) (ht : (fco c).getD j 0 = 2) (hd : decode cc pc = .ok (.getfield ix, 3)) (kk : gW Γ E (xM E S D R) cells slots (pc + 3) lv (.long (lI (D a ji)) :: st)) : gW Γ E (xM E S D R) cells slots pc lv (.ref a :: st) := g_getN hΓ hin (xM_o ha hk.1 hk.2) (by rw [hE]; exact hcl) j hj ho hlink hsame (by rw [xfs_at _ _ hjl, ht, hji]; rfl) hd kk
theorem x_getaN (hE : E.2.1 = clsX) (hΓ : gOK l Γ E X y cc nL ret d mc ms post) {C : String} {T : u_T} {N a k c : Nat} (hin : ∀ w ∈ u_ws C T N, w ∈ lw_all) (hcl : clsX[c]? = some (C, T, N)) (ha : (S a).1 = k) (hk : k ≠ 0 ∧ kty k = 10 + c) (j : Nat) {ji : Int} (hji : (j : Int) = ji) (hj : j < N) (hjl : j < (fco c).length) {ix : Nat} {own ref host : String} (ho : own = y.cls) (hlink : ∀ U, X U → va_Nw (.fieldLinkNest own ix ref (T j).2.1 (T j).2.2.1 host) U) (hsame : ref = (T j).1) (ht : (fco c).getD j 0 = 1) {r : Option Nat} (hr : R a ji = r) (hd : decode cc pc = .ok (.getfield ix, 3)) (kk : gW Γ E (xM E S D R) cells slots (pc + 3) lv (va_rf r :: st)) : gW Γ E (xM E S D R) cells slots pc lv (.ref a :: st) := g_getN hΓ hin (xM_o ha hk.1 hk.2) (by rw [hE]; exact hcl) j hj ho hlink hsame (by rw [xfs_at _ _ hjl, ht, hji, hr]; rfl) hd kk
theorem x_puti (hE : E.2.1 = clsX) (hΓ : gOK l Γ E X y cc nL ret d mc ms post) {C : String} {T : u_T} {N a k c : Nat} (hin : ∀ w ∈ u_ws C T N, w ∈ lw_all) (hcl : clsX[c]? = some (C, T, N)) (ha : (S a).1 = k) (hk : k ≠ 0 ∧ kty k = 10 + c) (ty0 : Nat → FieldType) (hty : ∀ k, k < N → parseFieldDescriptor (T k).2.2.1 = some (ty0 k)) (hnm : ∀ a, a < N → ∀ b, b < N → a ≠ b → (T a).2.1 ≠ (T b).2.1) (hA : E.2.2 a) (j : Nat) {ji : Int} (hji : (j : Int) = ji) (hj : j < N) (hjl : j < (fco c).length) {ix : Nat} {own ref : String} (ho : own = y.cls) (hlink : Cond.fieldLink own ix ref (T j).2.1 (T j).2.2.1 ∈ lw_all) (hsame : ref = (T j).1) (ht : (fco c).getD j 0 = 0) (hfin : (T j).2.2.2 = false) {ty : FieldType} (hdsc : parseFieldDescriptor (T j).2.2.1 = some ty) {x : Int} (hn : narrow ty (.int (iI x)) = .int (iI x)) (hfit : fits ty (.int (iI x)) = true) (hd : decode cc pc = .ok (.putfield ix, 3)) (kk : ∀ τ : xD, τ = us D a ji x → gW Γ E (xM E S τ R) cells slots (pc + 3) lv st) : gW Γ E (xM E S D R) cells slots pc lv (.int (iI x) :: .ref a :: st) := g_putfS hΓ hin ty0 hty hnm (xM_o ha hk.1 hk.2) (by rw [hE]; exact hcl) hA j hj ho hlink (Or.inl hsame) hfin hdsc hn hfit (by rw [xfs_len]; exact hjl) hd (by rw [xfs_setD (x := x) _ _ (by intro r; rw [ht]; rfl), hji, show (Sum.inr (c, xfs c (up (D a) ji x) (R a)) : va_E) = xcell E (kty k) (S a).2.1 (up (D a) ji x) (R a) by rw [hk.2, xcell_o], xM_D ha hk.1]; exact kk _ rfl)
theorem x_putl (hE : E.2.1 = clsX) (hΓ : gOK l Γ E X y cc nL ret d mc ms post) {C : String} {T : u_T} {N a k c : Nat} (hin : ∀ w ∈ u_ws C T N, w ∈ lw_all) (hcl : clsX[c]? = some (C, T, N)) (ha : (S a).1 = k) (hk : k ≠ 0 ∧ kty k = 10 + c) (ty0 : Nat → FieldType) (hty : ∀ k, k < N → parseFieldDescriptor (T k).2.2.1 = some (ty0 k)) (hnm : ∀ a, a < N → ∀ b, b < N → a ≠ b → (T a).2.1 ≠ (T b).2.1) (hA : E.2.2 a) (j : Nat) {ji : Int} (hji : (j : Int) = ji) (hj : j < N) (hjl : j < (fco c).length) {ix : Nat} {own ref : String} (ho : own = y.cls) (hlink : Cond.fieldLink own ix ref (T j).2.1 (T j).2.2.1 ∈ lw_all) (hsame : ref = (T j).1) (ht : (fco c).getD j 0 = 2) (hfin : (T j).2.2.2 = false) {ty : FieldType} (hdsc : parseFieldDescriptor (T j).2.2.1 = some ty) {x : Int} (hn : narrow ty (.long (lI x)) = .long (lI x)) (hfit : fits ty (.long (lI x)) = true) (hd : decode cc pc = .ok (.putfield ix, 3)) (kk : ∀ τ : xD, τ = us D a ji x → gW Γ E (xM E S τ R) cells slots (pc + 3) lv st) : gW Γ E (xM E S D R) cells slots pc lv (.long (lI x) :: .ref a :: st) := g_putfS hΓ hin ty0 hty hnm (xM_o ha hk.1 hk.2) (by rw [hE]; exact hcl) hA j hj ho hlink (Or.inl hsame) hfin hdsc hn hfit (by rw [xfs_len]; exact hjl) hd (by rw [xfs_setD (x := x) _ _ (by intro r; rw [ht]; rfl), hji, show (Sum.inr (c, xfs c (up (D a) ji x) (R a)) : va_E) = xcell E (kty k) (S a).2.1 (up (D a) ji x) (R a) by rw [hk.2, xcell_o], xM_D ha hk.1]; exact kk _ rfl)
theorem x_puta (hE : E.2.1 = clsX) (hΓ : gOK l Γ E X y cc nL ret d mc ms post) {C : String} {T : u_T} {N a k c : Nat} (hin : ∀ w ∈ u_ws C T N, w ∈ lw_all) (hcl : clsX[c]? = some (C, T, N)) (ha : (S a).1 = k) (hk : k ≠ 0 ∧ kty k = 10 + c) (ty0 : Nat → FieldType) (hty : ∀ k, k < N → parseFieldDescriptor (T k).2.2.1 = some (ty0 k)) (hnm : ∀ a, a < N → ∀ b, b < N → a ≠ b → (T a).2.1 ≠ (T b).2.1) (hA : E.2.2 a) (j : Nat) {ji : Int} (hji : (j : Int) = ji) (hj : j < N) (hjl : j < (fco c).length) {ix : Nat} {own ref : String} (ho : own = y.cls) (hlink : Cond.fieldLink own ix ref (T j).2.1 (T j).2.2.1 ∈ lw_all) (hsame : ref = (T j).1) (ht : (fco c).getD j 0 = 1) (hfin : (T j).2.2.2 = false) {ty : FieldType} (hdsc : parseFieldDescriptor (T j).2.2.1 = some ty) {v : Value} (r : Option Nat) (hv : v = va_rf r) (hn : narrow ty v = v) (hfit : fits ty v = true) (hd : decode cc pc = .ok (.putfield ix, 3)) (kk : ∀ τ : xR, τ = ur R a ji r → gW Γ E (xM E S D τ) cells slots (pc + 3) lv st) : gW Γ E (xM E S D R) cells slots pc lv (v :: .ref a :: st) := g_putfS hΓ hin ty0 hty hnm (xM_o ha hk.1 hk.2) (by rw [hE]; exact hcl) hA j hj ho hlink (Or.inl hsame) hfin hdsc hn hfit (by rw [xfs_len]; exact hjl) hd (by rw [xfs_setR (r := r) _ _ (by intro r; rw [ht, hv]; rfl), hji, show (Sum.inr (c, xfs c (D a) (up (R a) ji r)) : va_E) = xcell E (kty k) (S a).2.1 (D a) (up (R a) ji r) by rw [hk.2, xcell_o], xM_R ha hk.1]; exact kk _ rfl)
theorem x_putSi (hE : E.2.1 = clsX) (hΓ : gOK l Γ E X y cc nL ret d mc ms post) {C : String} {T : u_T} {N a k c : Nat} (hin : ∀ w ∈ u_ws C T N, w ∈ lw_all) (hcl : clsX[c]? = some (C, T, N)) (ha : (S a).1 = k) (hk : k ≠ 0 ∧ kty k = 10 + c) (ty0 : Nat → FieldType) (hty : ∀ k, k < N → parseFieldDescriptor (T k).2.2.1 = some (ty0 k)) (hnm : ∀ a, a < N → ∀ b, b < N → a ≠ b → (T a).2.1 ≠ (T b).2.1) (hA : E.2.2 a) (j : Nat) {ji : Int} (hji : (j : Int) = ji) (hj : j < N) (hjl : j < (fco c).length) {ix : Nat} {own ref : String} (ho : own = y.cls) (hlink : Cond.fieldLink own ix ref (T j).2.1 (T j).2.2.1 ∈ lw_all) (hsame : Cond.sameField ref (T j).1 (T j).2.1 (T j).2.2.1 ∈ lw_all) (ht : (fco c).getD j 0 = 0) (hfin : (T j).2.2.2 = false) {ty : FieldType} (hdsc : parseFieldDescriptor (T j).2.2.1 = some ty) {x : Int} (hn : narrow ty (.int (iI x)) = .int (iI x)) (hfit : fits ty (.int (iI x)) = true) (hd : decode cc pc = .ok (.putfield ix, 3)) (kk : ∀ τ : xD, τ = us D a ji x → gW Γ E (xM E S τ R) cells slots (pc + 3) lv st) : gW Γ E (xM E S D R) cells slots pc lv (.int (iI x) :: .ref a :: st) := g_putfS hΓ hin ty0 hty hnm (xM_o ha hk.1 hk.2) (by rw [hE]; exact hcl) hA j hj ho hlink (Or.inr hsame) hfin hdsc hn hfit (by rw [xfs_len]; exact hjl) hd (by rw [xfs_setD (x := x) _ _ (by intro r; rw [ht]; rfl), hji, show (Sum.inr (c, xfs c (up (D a) ji x) (R a)) : va_E) = xcell E (kty k) (S a).2.1 (up (D a) ji x) (R a) by rw [hk.2, xcell_o], xM_D ha hk.1]; exact kk _ rfl)
theorem x_putSl (hE : E.2.1 = clsX) (hΓ : gOK l Γ E X y cc nL ret d mc ms post) {C : String} {T : u_T} {N a k c : Nat} (hin : ∀ w ∈ u_ws C T N, w ∈ lw_all) (hcl : clsX[c]? = some (C, T, N)) (ha : (S a).1 = k) (hk : k ≠ 0 ∧ kty k = 10 + c) (ty0 : Nat → FieldType) (hty : ∀ k, k < N → parseFieldDescriptor (T k).2.2.1 = some (ty0 k)) (hnm : ∀ a, a < N → ∀ b, b < N → a ≠ b → (T a).2.1 ≠ (T b).2.1) (hA : E.2.2 a) (j : Nat) {ji : Int} (hji : (j : Int) = ji) (hj : j < N) (hjl : j < (fco c).length) {ix : Nat} {own ref : String} (ho : own = y.cls) (hlink : Cond.fieldLink own ix ref (T j).2.1 (T j).2.2.1 ∈ lw_all) (hsame : Cond.sameField ref (T j).1 (T j).2.1 (T j).2.2.1 ∈ lw_all) (ht : (fco c).getD j 0 = 2) (hfin : (T j).2.2.2 = false) {ty : FieldType} (hdsc : parseFieldDescriptor (T j).2.2.1 = some ty) {x : Int} (hn : narrow ty (.long (lI x)) = .long (lI x)) (hfit : fits ty (.long (lI x)) = true) (hd : decode cc pc = .ok (.putfield ix, 3)) (kk : ∀ τ : xD, τ = us D a ji x → gW Γ E (xM E S τ R) cells slots (pc + 3) lv st) : gW Γ E (xM E S D R) cells slots pc lv (.long (lI x) :: .ref a :: st) := g_putfS hΓ hin ty0 hty hnm (xM_o ha hk.1 hk.2) (by rw [hE]; exact hcl) hA j hj ho hlink (Or.inr hsame) hfin hdsc hn hfit (by rw [xfs_len]; exact hjl) hd (by rw [xfs_setD (x := x) _ _ (by intro r; rw [ht]; rfl), hji, show (Sum.inr (c, xfs c (up (D a) ji x) (R a)) : va_E) = xcell E (kty k) (S a).2.1 (up (D a) ji x) (R a) by rw [hk.2, xcell_o], xM_D ha hk.1]; exact kk _ rfl)
theorem x_putSa (hE : E.2.1 = clsX) (hΓ : gOK l Γ E X y cc nL ret d mc ms post) {C : String} {T : u_T} {N a k c : Nat} (hin : ∀ w ∈ u_ws C T N, w ∈ lw_all) (hcl : clsX[c]? = some (C, T, N)) (ha : (S a).1 = k) (hk : k ≠ 0 ∧ kty k = 10 + c) (ty0 : Nat → FieldType) (hty : ∀ k, k < N → parseFieldDescriptor (T k).2.2.1 = some (ty0 k)) (hnm : ∀ a, a < N → ∀ b, b < N → a ≠ b → (T a).2.1 ≠ (T b).2.1) (hA : E.2.2 a) (j : Nat) {ji : Int} (hji : (j : Int) = ji) (hj : j < N) (hjl : j < (fco c).length) {ix : Nat} {own ref : String} (ho : own = y.cls) (hlink : Cond.fieldLink own ix ref (T j).2.1 (T j).2.2.1 ∈ lw_all) (hsame : Cond.sameField ref (T j).1 (T j).2.1 (T j).2.2.1 ∈ lw_all) (ht : (fco c).getD j 0 = 1) (hfin : (T j).2.2.2 = false) {ty : FieldType} (hdsc : parseFieldDescriptor (T j).2.2.1 = some ty) {v : Value} (r : Option Nat) (hv : v = va_rf r) (hn : narrow ty v = v) (hfit : fits ty v = true) (hd : decode cc pc = .ok (.putfield ix, 3)) (kk : ∀ τ : xR, τ = ur R a ji r → gW Γ E (xM E S D τ) cells slots (pc + 3) lv st) : gW Γ E (xM E S D R) cells slots pc lv (v :: .ref a :: st) := g_putfS hΓ hin ty0 hty hnm (xM_o ha hk.1 hk.2) (by rw [hE]; exact hcl) hA j hj ho hlink (Or.inr hsame) hfin hdsc hn hfit (by rw [xfs_len]; exact hjl) hd (by rw [xfs_setR (r := r) _ _ (by intro r; rw [ht, hv]; rfl), hji, show (Sum.inr (c, xfs c (D a) (up (R a) ji r)) : va_E) = xcell E (kty k) (S a).2.1 (D a) (up (R a) ji r) by rw [hk.2, xcell_o], xM_R ha hk.1]; exact kk _ rfl)
theorem x_putFi (hE : E.2.1 = clsX) (hΓ : gOK l Γ E X y cc nL ret d mc ms post) {C : String} {T : u_T} {N a k c : Nat} (hin : ∀ w ∈ u_ws C T N, w ∈ lw_all) (hcl : clsX[c]? = some (C, T, N)) (ha : (S a).1 = k) (hk : k ≠ 0 ∧ kty k = 10 + c) (ty0 : Nat → FieldType) (hty : ∀ k, k < N → parseFieldDescriptor (T k).2.2.1 = some (ty0 k)) (hnm : ∀ a, a < N → ∀ b, b < N → a ≠ b → (T a).2.1 ≠ (T b).2.1) (hA : E.2.2 a) (j : Nat) {ji : Int} (hji : (j : Int) = ji) (hj : j < N) (hjl : j < (fco c).length) {ix : Nat} {own ref : String} (ho : own = y.cls) (hlink : Cond.fieldLink own ix ref (T j).2.1 (T j).2.2.1 ∈ lw_all) (hsame : ref = (T j).1) (ht : (fco c).getD j 0 = 0) (hfin : (T j).2.2.2 = true) (hin2 : y.name = "<init>") (hdecl : (T j).1 = own) {ty : FieldType} (hdsc : parseFieldDescriptor (T j).2.2.1 = some ty) {x : Int} (hn : narrow ty (.int (iI x)) = .int (iI x)) (hfit : fits ty (.int (iI x)) = true) (hd : decode cc pc = .ok (.putfield ix, 3)) (kk : ∀ τ : xD, τ = us D a ji x → gW Γ E (xM E S τ R) cells slots (pc + 3) lv st) : gW Γ E (xM E S D R) cells slots pc lv (.int (iI x) :: .ref a :: st) := g_putF hΓ hin ty0 hty hnm (xM_o ha hk.1 hk.2) (by rw [hE]; exact hcl) hA j hj ho hlink hsame hfin hin2 hdecl hdsc hn hfit (by rw [xfs_len]; exact hjl) hd (by rw [xfs_setD (x := x) _ _ (by intro r; rw [ht]; rfl), hji, show (Sum.inr (c, xfs c (up (D a) ji x) (R a)) : va_E) = xcell E (kty k) (S a).2.1 (up (D a) ji x) (R a) by rw [hk.2, xcell_o], xM_D ha hk.1]; exact kk _ rfl)
theorem x_putFl (hE : E.2.1 = clsX) (hΓ : gOK l Γ E X y cc nL ret d mc ms post) {C : String} {T : u_T} {N a k c : Nat} (hin : ∀ w ∈ u_ws C T N, w ∈ lw_all) (hcl : clsX[c]? = some (C, T, N)) (ha : (S a).1 = k) (hk : k ≠ 0 ∧ kty k = 10 + c) (ty0 : Nat → FieldType) (hty : ∀ k, k < N → parseFieldDescriptor (T k).2.2.1 = some (ty0 k)) (hnm : ∀ a, a < N → ∀ b, b < N → a ≠ b → (T a).2.1 ≠ (T b).2.1) (hA : E.2.2 a) (j : Nat) {ji : Int} (hji : (j : Int) = ji) (hj : j < N) (hjl : j < (fco c).length) {ix : Nat} {own ref : String} (ho : own = y.cls) (hlink : Cond.fieldLink own ix ref (T j).2.1 (T j).2.2.1 ∈ lw_all) (hsame : ref = (T j).1) (ht : (fco c).getD j 0 = 2) (hfin : (T j).2.2.2 = true) (hin2 : y.name = "<init>") (hdecl : (T j).1 = own) {ty : FieldType} (hdsc : parseFieldDescriptor (T j).2.2.1 = some ty) {x : Int} (hn : narrow ty (.long (lI x)) = .long (lI x)) (hfit : fits ty (.long (lI x)) = true) (hd : decode cc pc = .ok (.putfield ix, 3)) (kk : ∀ τ : xD, τ = us D a ji x → gW Γ E (xM E S τ R) cells slots (pc + 3) lv st) : gW Γ E (xM E S D R) cells slots pc lv (.long (lI x) :: .ref a :: st) := g_putF hΓ hin ty0 hty hnm (xM_o ha hk.1 hk.2) (by rw [hE]; exact hcl) hA j hj ho hlink hsame hfin hin2 hdecl hdsc hn hfit (by rw [xfs_len]; exact hjl) hd (by rw [xfs_setD (x := x) _ _ (by intro r; rw [ht]; rfl), hji, show (Sum.inr (c, xfs c (up (D a) ji x) (R a)) : va_E) = xcell E (kty k) (S a).2.1 (up (D a) ji x) (R a) by rw [hk.2, xcell_o], xM_D ha hk.1]; exact kk _ rfl)
theorem x_putFa (hE : E.2.1 = clsX) (hΓ : gOK l Γ E X y cc nL ret d mc ms post) {C : String} {T : u_T} {N a k c : Nat} (hin : ∀ w ∈ u_ws C T N, w ∈ lw_all) (hcl : clsX[c]? = some (C, T, N)) (ha : (S a).1 = k) (hk : k ≠ 0 ∧ kty k = 10 + c) (ty0 : Nat → FieldType) (hty : ∀ k, k < N → parseFieldDescriptor (T k).2.2.1 = some (ty0 k)) (hnm : ∀ a, a < N → ∀ b, b < N → a ≠ b → (T a).2.1 ≠ (T b).2.1) (hA : E.2.2 a) (j : Nat) {ji : Int} (hji : (j : Int) = ji) (hj : j < N) (hjl : j < (fco c).length) {ix : Nat} {own ref : String} (ho : own = y.cls) (hlink : Cond.fieldLink own ix ref (T j).2.1 (T j).2.2.1 ∈ lw_all) (hsame : ref = (T j).1) (ht : (fco c).getD j 0 = 1) (hfin : (T j).2.2.2 = true) (hin2 : y.name = "<init>") (hdecl : (T j).1 = own) {ty : FieldType} (hdsc : parseFieldDescriptor (T j).2.2.1 = some ty) {v : Value} (r : Option Nat) (hv : v = va_rf r) (hn : narrow ty v = v) (hfit : fits ty v = true) (hd : decode cc pc = .ok (.putfield ix, 3)) (kk : ∀ τ : xR, τ = ur R a ji r → gW Γ E (xM E S D τ) cells slots (pc + 3) lv st) : gW Γ E (xM E S D R) cells slots pc lv (v :: .ref a :: st) := g_putF hΓ hin ty0 hty hnm (xM_o ha hk.1 hk.2) (by rw [hE]; exact hcl) hA j hj ho hlink hsame hfin hin2 hdecl hdsc hn hfit (by rw [xfs_len]; exact hjl) hd (by rw [xfs_setR (r := r) _ _ (by intro r; rw [ht, hv]; rfl), hji, show (Sum.inr (c, xfs c (D a) (up (R a) ji r)) : va_E) = xcell E (kty k) (S a).2.1 (D a) (up (R a) ji r) by rw [hk.2, xcell_o], xM_R ha hk.1]; exact kk _ rfl)
theorem x_iald (hΓ : gOK l Γ E X y cc nL ret d mc ms post) {a k n : Nat} {i : Int} (ha : (S a).1 = k) (hn : (S a).2.1 = n) (hk : k ≠ 0 ∧ kty k = 0) (h0 : 0 ≤ i ∧ i < (n : Int)) (hb : i < 2147483648) (hd : decode cc pc = .ok (.iaload, 1)) (kk : gW Γ E (xM E S D R) cells slots (pc + 1) lv (.int (iI (D a i)) :: st)) : gW Γ E (xM E S D R) cells slots pc lv (.int (iI i) :: .ref a :: st) := g_iald hΓ (xM_i ha hk.1 hk.2 (by decide) hn) h0.1 h0.2 hb hd kk
theorem x_cald (hΓ : gOK l Γ E X y cc nL ret d mc ms post) {a k n : Nat} {i : Int} (ha : (S a).1 = k) (hn : (S a).2.1 = n) (hk : k ≠ 0 ∧ kty k = 1) (h0 : 0 ≤ i ∧ i < (n : Int)) (hb : i < 2147483648) (hd : decode cc pc = .ok (.caload, 1)) (kk : gW Γ E (xM E S D R) cells slots (pc + 1) lv (.int (iI (D a i)) :: st)) : gW Γ E (xM E S D R) cells slots pc lv (.int (iI i) :: .ref a :: st) := g_cald hΓ (xM_i ha hk.1 hk.2 (by decide) hn) h0.1 h0.2 hb hd kk
theorem x_bald (hΓ : gOK l Γ E X y cc nL ret d mc ms post) {a k n : Nat} {i : Int} (ha : (S a).1 = k) (hn : (S a).2.1 = n) (hk : k ≠ 0 ∧ kty k = 2) (h0 : 0 ≤ i ∧ i < (n : Int)) (hb : i < 2147483648) (hd : decode cc pc = .ok (.baload, 1)) (kk : gW Γ E (xM E S D R) cells slots (pc + 1) lv (.int (iI (D a i)) :: st)) : gW Γ E (xM E S D R) cells slots pc lv (.int (iI i) :: .ref a :: st) := g_bald hΓ (xM_i ha hk.1 hk.2 (by decide) hn) h0.1 h0.2 hb hd kk
theorem x_zald (hΓ : gOK l Γ E X y cc nL ret d mc ms post) {a k n : Nat} {i : Int} (ha : (S a).1 = k) (hn : (S a).2.1 = n) (hk : k ≠ 0 ∧ kty k = 3) (h0 : 0 ≤ i ∧ i < (n : Int)) (hb : i < 2147483648) (hd : decode cc pc = .ok (.baload, 1)) (kk : gW Γ E (xM E S D R) cells slots (pc + 1) lv (.int (iI (D a i)) :: st)) : gW Γ E (xM E S D R) cells slots pc lv (.int (iI i) :: .ref a :: st) := g_zald hΓ (xM_i ha hk.1 hk.2 (by decide) hn) h0.1 h0.2 hb hd kk
theorem x_iast (hΓ : gOK l Γ E X y cc nL ret d mc ms post) {a k n : Nat} {i : Int} (ha : (S a).1 = k) (hn : (S a).2.1 = n) {x : Int} (hk : k ≠ 0 ∧ kty k = 0) (hA : E.2.2 a) (h0 : 0 ≤ i ∧ i < (n : Int)) (hb : i < 2147483648) (hd : decode cc pc = .ok (.iastore, 1)) (kk : ∀ τ : xD, τ = us D a i x → gW Γ E (xM E S τ R) cells slots (pc + 1) lv st) : gW Γ E (xM E S D R) cells slots pc lv (.int (iI x) :: .int (iI i) :: .ref a :: st) := g_iast hΓ (xM_i ha hk.1 hk.2 (by decide) hn) hA h0.1 h0.2 hb hd (by rw [show cAr E 0 n (up (D a) i x) = xcell E (kty k) (S a).2.1 (up (D a) i x) (R a) by rw [hk.2, xcell_i (by decide), hn], xM_D ha hk.1]; exact kk _ rfl)
theorem x_cast (hΓ : gOK l Γ E X y cc nL ret d mc ms post) {a k n : Nat} {i : Int} (ha : (S a).1 = k) (hn : (S a).2.1 = n) {x : Int} (hk : k ≠ 0 ∧ kty k = 1) (hA : E.2.2 a) (h0 : 0 ≤ i ∧ i < (n : Int)) (hb : i < 2147483648) (hnr : vp_nar .char (iI x) = iI x) (hd : decode cc pc = .ok (.castore, 1)) (kk : ∀ τ : xD, τ = us D a i x → gW Γ E (xM E S τ R) cells slots (pc + 1) lv st) : gW Γ E (xM E S D R) cells slots pc lv (.int (iI x) :: .int (iI i) :: .ref a :: st) := g_cast hΓ (xM_i ha hk.1 hk.2 (by decide) hn) hA h0.1 h0.2 hb hnr hd (by rw [show cAr E 1 n (up (D a) i x) = xcell E (kty k) (S a).2.1 (up (D a) i x) (R a) by rw [hk.2, xcell_i (by decide), hn], xM_D ha hk.1]; exact kk _ rfl)
theorem x_bast (hΓ : gOK l Γ E X y cc nL ret d mc ms post) {a k n : Nat} {i : Int} (ha : (S a).1 = k) (hn : (S a).2.1 = n) {x : Int} (hk : k ≠ 0 ∧ kty k = 2) (hA : E.2.2 a) (h0 : 0 ≤ i ∧ i < (n : Int)) (hb : i < 2147483648) (hnr : vp_nar .byte (iI x) = iI x) (hd : decode cc pc = .ok (.bastore, 1)) (kk : ∀ τ : xD, τ = us D a i x → gW Γ E (xM E S τ R) cells slots (pc + 1) lv st) : gW Γ E (xM E S D R) cells slots pc lv (.int (iI x) :: .int (iI i) :: .ref a :: st) := g_bast hΓ (xM_i ha hk.1 hk.2 (by decide) hn) hA h0.1 h0.2 hb hnr hd (by rw [show cAr E 2 n (up (D a) i x) = xcell E (kty k) (S a).2.1 (up (D a) i x) (R a) by rw [hk.2, xcell_i (by decide), hn], xM_D ha hk.1]; exact kk _ rfl)
theorem x_zast (hΓ : gOK l Γ E X y cc nL ret d mc ms post) {a k n : Nat} {i : Int} (ha : (S a).1 = k) (hn : (S a).2.1 = n) {x : Int} (hk : k ≠ 0 ∧ kty k = 3) (hA : E.2.2 a) (h0 : 0 ≤ i ∧ i < (n : Int)) (hb : i < 2147483648) (hnr : vp_nar .boolean (iI x) = iI x) (hd : decode cc pc = .ok (.bastore, 1)) (kk : ∀ τ : xD, τ = us D a i x → gW Γ E (xM E S τ R) cells slots (pc + 1) lv st) : gW Γ E (xM E S D R) cells slots pc lv (.int (iI x) :: .int (iI i) :: .ref a :: st) := g_zast hΓ (xM_i ha hk.1 hk.2 (by decide) hn) hA h0.1 h0.2 hb hnr hd (by rw [show cAr E 3 n (up (D a) i x) = xcell E (kty k) (S a).2.1 (up (D a) i x) (R a) by rw [hk.2, xcell_i (by decide), hn], xM_D ha hk.1]; exact kk _ rfl)
theorem x_aaldG (hΓ : gOK l Γ E X y cc nL ret d mc ms post) {a k n : Nat} {i : Int} (ha : (S a).1 = k) (hn : (S a).2.1 = n) {r : Option Nat} (hk : k ≠ 0 ∧ kty k = 4) (h0 : 0 ≤ i ∧ i < (n : Int)) (hb : i < 2147483648) (hr : R a i = r) (hd : decode cc pc = .ok (.aaload, 1)) (kk : gW Γ E (xM E S D R) cells slots (pc + 1) lv (va_rf r :: st)) : gW Γ E (xM E S D R) cells slots pc lv (.int (iI i) :: .ref a :: st) := g_aaldG hΓ (xM_r ha hk.1 hk.2 (by decide) hn) h0.1 h0.2 hb hr hd kk
theorem x_aaldO (hΓ : gOK l Γ E X y cc nL ret d mc ms post) {a k n : Nat} {i : Int} (ha : (S a).1 = k) (hn : (S a).2.1 = n) {r : Option Nat} (hk : k ≠ 0 ∧ kty k = 5) (h0 : 0 ≤ i ∧ i < (n : Int)) (hb : i < 2147483648) (hr : R a i = r) (hd : decode cc pc = .ok (.aaload, 1)) (kk : gW Γ E (xM E S D R) cells slots (pc + 1) lv (va_rf r :: st)) : gW Γ E (xM E S D R) cells slots pc lv (.int (iI i) :: .ref a :: st) := g_aaldO hΓ (xM_r ha hk.1 hk.2 (by decide) hn) h0.1 h0.2 hb hr hd kk
theorem x_aaldS (hΓ : gOK l Γ E X y cc nL ret d mc ms post) {a k n : Nat} {i : Int} (ha : (S a).1 = k) (hn : (S a).2.1 = n) {r : Option Nat} (hk : k ≠ 0 ∧ kty k = 6) (h0 : 0 ≤ i ∧ i < (n : Int)) (hb : i < 2147483648) (hr : R a i = r) (hd : decode cc pc = .ok (.aaload, 1)) (kk : gW Γ E (xM E S D R) cells slots (pc + 1) lv (va_rf r :: st)) : gW Γ E (xM E S D R) cells slots pc lv (.int (iI i) :: .ref a :: st) := g_aaldS hΓ (xM_r ha hk.1 hk.2 (by decide) hn) h0.1 h0.2 hb hr hd kk
theorem x_aastO (hE : E.2.1 = clsX) (hΓ : gOK l Γ E X y cc nL ret d mc ms post) {a k n : Nat} {i : Int} (ha : (S a).1 = k) (hn : (S a).2.1 = n) {v kv c N : Nat} {C : String} {T : u_T} (hk : k ≠ 0 ∧ kty k = 5) (hA : E.2.2 a) (hv : (S v).1 = kv) (hkv : kv ≠ 0 ∧ kty kv = 10 + c) (hcl : clsX[c]? = some (C, T, N)) (hca : ∀ U, X U → va_Nw (.castable C "java/lang/Object") U) (h0 : 0 ≤ i ∧ i < (n : Int)) (hb : i < 2147483648) (hd : decode cc pc = .ok (.aastore, 1)) (kk : ∀ τ : xR, τ = ur R a i (some v) → gW Γ E (xM E S D τ) cells slots (pc + 1) lv st) : gW Γ E (xM E S D R) cells slots pc lv (.ref v :: .int (iI i) :: .ref a :: st) := g_aastO hΓ (r := (C, T, N)) (xM_r ha hk.1 hk.2 (by decide) hn) hA (xM_o hv hkv.1 hkv.2) (by rw [hE]; exact hcl) hca h0.1 h0.2 hb hd (by rw [show cRf E 5 n (up (R a) i (some v)) = xcell E (kty k) (S a).2.1 (D a) (up (R a) i (some v)) by rw [hk.2, xcell_r (by decide), hn], xM_R ha hk.1]; exact kk _ rfl)
theorem x_aastN (hΓ : gOK l Γ E X y cc nL ret d mc ms post) {a k n : Nat} {i : Int} (ha : (S a).1 = k) (hn : (S a).2.1 = n) (hk : k ≠ 0 ∧ kty k = 5) (hA : E.2.2 a) (h0 : 0 ≤ i ∧ i < (n : Int)) (hb : i < 2147483648) (hd : decode cc pc = .ok (.aastore, 1)) (kk : ∀ τ : xR, τ = ur R a i none → gW Γ E (xM E S D τ) cells slots (pc + 1) lv st) : gW Γ E (xM E S D R) cells slots pc lv (.null :: .int (iI i) :: .ref a :: st) := g_aastN hΓ (xM_r ha hk.1 hk.2 (by decide) hn) hA h0.1 h0.2 hb hd (by rw [show cRf E 5 n (up (R a) i none) = xcell E (kty k) (S a).2.1 (D a) (up (R a) i none) by rw [hk.2, xcell_r (by decide), hn], xM_R ha hk.1]; exact kk _ rfl)
theorem x_alen (hΓ : gOK l Γ E X y cc nL ret d mc ms post) {a k n : Nat} (ha : (S a).1 = k) (hn : (S a).2.1 = n) (hk : k ≠ 0 ∧ (kty k < 4 ∨ kty k = 4 ∨ kty k = 5 ∨ kty k = 6)) (hd : decode cc pc = .ok (.arraylength, 1)) (kk : gW Γ E (xM E S D R) cells slots (pc + 1) lv (.int (iI (n : Int)) :: st)) : gW Γ E (xM E S D R) cells slots pc lv (.ref a :: st) := by
  rcases hk.2 with h | h
  · exact g_alen hΓ (xM_i ha hk.1 rfl h hn) h hd kk
  · exact g_alenR hΓ (xM_r ha hk.1 rfl (by omega) hn) h hd kk
theorem x_new (hE : E.2.1 = clsX) (hΓ : gOK l Γ E X y cc nL ret d mc ms post) (hAn : xNew E X) (k o : Nat) {C own : String} {T : u_T} {N c ix : Nat} (hin : ∀ w ∈ u_ws C T N, w ∈ lw_all) (hcl : clsX[c]? = some (C, T, N)) (hk : k ≠ 0 ∧ kty k = 10 + c) (ty : Nat → FieldType) (hty : ∀ k, k < N → parseFieldDescriptor (T k).2.2.1 = some (ty k)) (ho : own = y.cls) (hl1 : Cond.classLink own ix C ∈ lw_all) (hl2 : Cond.instantiable C N ∈ lw_all) (hl3 : Cond.initialized C ∈ lw_all) (hfs : ∀ j, j < N → defaultValue (ty j) = vp_V (xfs c (fun _ => 0) (fun _ => none)) j) (hcells : cells + 1 ≤ mc) (hslots : slots + N ≤ ms) (hd : decode cc pc = .ok (.new ix, 3)) (kk : ∀ (q : Nat) (S' : xS) (D' : xD) (R' : xR), (S q).1 = 0 → E.2.2 q → S' = uS S q k N o → D' = uN D q (fun _ => 0) → R' = uN R q (fun _ => none) → gW Γ E (xM E S' D' R') (cells + 1) (slots + N) (pc + 3) lv (.ref q :: st)) : gW Γ E (xM E S D R) cells slots pc lv st := g_new hΓ hAn hin ty hty ho hl1 hl2 hl3 (by rw [hE]; exact hcl) hfs hcells hslots hd (fun q hq hA => by rw [xM_N (k := k) (n := N) o hk.1 (by rw [hk.2, xcell_o])]; exact kk q _ _ _ (xM_none hq) hA rfl rfl rfl)
theorem x_newi (hΓ : gOK l Γ E X y cc nL ret d mc ms post) (hAn : xNew E X) (k o : Nat) (hk : k ≠ 0 ∧ kty k = 0) (harr : Cond.arrayClass .int ∈ lw_all) {n : Int} (h0 : 0 ≤ n ∧ n ≤ 100000) (hcells : cells + 1 ≤ mc) (hslots : slots + n.toNat ≤ ms) (hd : decode cc pc = .ok (.newarray .int, 2)) (kk : ∀ (q : Nat) (S' : xS) (D' : xD) (R' : xR), (S q).1 = 0 → E.2.2 q → S' = uS S q k n.toNat o → D' = uN D q (fun _ => 0) → R' = uN R q (fun _ => none) → gW Γ E (xM E S' D' R') (cells + 1) (slots + n.toNat) (pc + 2) lv (.ref q :: st)) : gW Γ E (xM E S D R) cells slots pc lv (.int (iI n) :: st) := g_newi hΓ hAn harr h0 hcells hslots hd (fun q hq hA => by rw [xM_N (k := k) (n := n.toNat) (fD := fun _ => 0) (fR := fun _ => none) o hk.1 (by rw [hk.2, xcell_i (by decide)])]; exact kk q _ _ _ (xM_none hq) hA rfl rfl rfl)
theorem x_newc (hΓ : gOK l Γ E X y cc nL ret d mc ms post) (hAn : xNew E X) (k o : Nat) (hk : k ≠ 0 ∧ kty k = 1) (harr : Cond.arrayClass .char ∈ lw_all) {n : Int} (h0 : 0 ≤ n ∧ n ≤ 100000) (hcells : cells + 1 ≤ mc) (hslots : slots + n.toNat ≤ ms) (hd : decode cc pc = .ok (.newarray .char, 2)) (kk : ∀ (q : Nat) (S' : xS) (D' : xD) (R' : xR), (S q).1 = 0 → E.2.2 q → S' = uS S q k n.toNat o → D' = uN D q (fun _ => 0) → R' = uN R q (fun _ => none) → gW Γ E (xM E S' D' R') (cells + 1) (slots + n.toNat) (pc + 2) lv (.ref q :: st)) : gW Γ E (xM E S D R) cells slots pc lv (.int (iI n) :: st) := g_newc hΓ hAn harr h0 hcells hslots hd (fun q hq hA => by rw [xM_N (k := k) (n := n.toNat) (fD := fun _ => 0) (fR := fun _ => none) o hk.1 (by rw [hk.2, xcell_i (by decide)])]; exact kk q _ _ _ (xM_none hq) hA rfl rfl rfl)
theorem x_newb (hΓ : gOK l Γ E X y cc nL ret d mc ms post) (hAn : xNew E X) (k o : Nat) (hk : k ≠ 0 ∧ kty k = 2) (harr : Cond.arrayClass .byte ∈ lw_all) {n : Int} (h0 : 0 ≤ n ∧ n ≤ 100000) (hcells : cells + 1 ≤ mc) (hslots : slots + n.toNat ≤ ms) (hd : decode cc pc = .ok (.newarray .byte, 2)) (kk : ∀ (q : Nat) (S' : xS) (D' : xD) (R' : xR), (S q).1 = 0 → E.2.2 q → S' = uS S q k n.toNat o → D' = uN D q (fun _ => 0) → R' = uN R q (fun _ => none) → gW Γ E (xM E S' D' R') (cells + 1) (slots + n.toNat) (pc + 2) lv (.ref q :: st)) : gW Γ E (xM E S D R) cells slots pc lv (.int (iI n) :: st) := g_newb hΓ hAn harr h0 hcells hslots hd (fun q hq hA => by rw [xM_N (k := k) (n := n.toNat) (fD := fun _ => 0) (fR := fun _ => none) o hk.1 (by rw [hk.2, xcell_i (by decide)])]; exact kk q _ _ _ (xM_none hq) hA rfl rfl rfl)
theorem x_newz (hΓ : gOK l Γ E X y cc nL ret d mc ms post) (hAn : xNew E X) (k o : Nat) (hk : k ≠ 0 ∧ kty k = 3) (harr : Cond.arrayClass .boolean ∈ lw_all) {n : Int} (h0 : 0 ≤ n ∧ n ≤ 100000) (hcells : cells + 1 ≤ mc) (hslots : slots + n.toNat ≤ ms) (hd : decode cc pc = .ok (.newarray .boolean, 2)) (kk : ∀ (q : Nat) (S' : xS) (D' : xD) (R' : xR), (S q).1 = 0 → E.2.2 q → S' = uS S q k n.toNat o → D' = uN D q (fun _ => 0) → R' = uN R q (fun _ => none) → gW Γ E (xM E S' D' R') (cells + 1) (slots + n.toNat) (pc + 2) lv (.ref q :: st)) : gW Γ E (xM E S D R) cells slots pc lv (.int (iI n) :: st) := g_newz hΓ hAn harr h0 hcells hslots hd (fun q hq hA => by rw [xM_N (k := k) (n := n.toNat) (fD := fun _ => 0) (fR := fun _ => none) o hk.1 (by rw [hk.2, xcell_i (by decide)])]; exact kk q _ _ _ (xM_none hq) hA rfl rfl rfl)
theorem x_anewO (hΓ : gOK l Γ E X y cc nL ret d mc ms post) (hAn : xNew E X) (k o : Nat) (hk : k ≠ 0 ∧ kty k = 5) (hAO : ∀ U, X U → va_AO "java/lang/Object" U) {own : String} {ix : Nat} (ho : own = y.cls) (hl1 : Cond.classLink own ix "java/lang/Object" ∈ lw_all) {n : Int} (h0 : 0 ≤ n ∧ n ≤ 100000) (hcells : cells + 1 ≤ mc) (hslots : slots + n.toNat ≤ ms) (hd : decode cc pc = .ok (.anewarray ix, 3)) (kk : ∀ (q : Nat) (S' : xS) (D' : xD) (R' : xR), (S q).1 = 0 → E.2.2 q → S' = uS S q k n.toNat o → D' = uN D q (fun _ => 0) → R' = uN R q (fun _ => none) → gW Γ E (xM E S' D' R') (cells + 1) (slots + n.toNat) (pc + 3) lv (.ref q :: st)) : gW Γ E (xM E S D R) cells slots pc lv (.int (iI n) :: st) := g_anewO hΓ hAn hAO ho hl1 h0 hcells hslots hd (fun q hq hA => by rw [xM_N (k := k) (n := n.toNat) (fD := fun _ => 0) (fR := fun _ => none) o hk.1 (by rw [hk.2, xcell_r (by decide)])]; exact kk q _ _ _ (xM_none hq) hA rfl rfl rfl)
theorem x_castS (hE : E.2.1 = clsX) (hΓ : gOK l Γ E X y cc nL ret d mc ms post) {own C : String} {ix a k c N : Nat} {T : u_T} (ho : own = y.cls) (hlink : Cond.classLink own ix C ∈ lw_all) (ha : (S a).1 = k) (hk : k ≠ 0 ∧ kty k = 10 + c) (hcl : clsX[c]? = some (C, T, N)) (hd : decode cc pc = .ok (.checkcast ix, 3)) (kk : gW Γ E (xM E S D R) cells slots (pc + 3) lv (.ref a :: st)) : gW Γ E (xM E S D R) cells slots pc lv (.ref a :: st) := g_castS hΓ ho hlink (xM_o ha hk.1 hk.2) (by rw [hE]; exact hcl) hd kk
theorem x_instS (hE : E.2.1 = clsX) (hΓ : gOK l Γ E X y cc nL ret d mc ms post) {own C : String} {ix a k c N : Nat} {T : u_T} (ho : own = y.cls) (hlink : Cond.classLink own ix C ∈ lw_all) (ha : (S a).1 = k) (hk : k ≠ 0 ∧ kty k = 10 + c) (hcl : clsX[c]? = some (C, T, N)) (hd : decode cc pc = .ok (.instanceof ix, 3)) (kk : gW Γ E (xM E S D R) cells slots (pc + 3) lv (.int (iI 1) :: st)) : gW Γ E (xM E S D R) cells slots pc lv (.ref a :: st) := g_instS hΓ ho hlink (xM_o ha hk.1 hk.2) (by rw [hE]; exact hcl) hd kk
theorem x_callV (hE : E.2.1 = clsX) (hΓ : gOK l Γ E X y cc nL ret d mc ms post) {y' : MethodName} {cc' : ByteArray} {nL' d' mc' ms' ix : Nat} {ret' : Option FieldType} {b : Nat} {As : List Value} {post' : Option Value → xS → xD → xR → Prop} (hC : xC l E X y' cc' nL' ret' d' mc' ms' (.ref b :: As) S D R post') {k c N : Nat} {T : u_T} (hb : (S b).1 = k) (hk : k ≠ 0 ∧ kty k = 10 + c) (hcl : clsX[c]? = some (y'.cls, T, N)) {own : String} (ho : own = y.cls) (h1 : Cond.methodLink own ix y' ∈ lw_all) (h2 : Cond.instanceMethod y' ∈ lw_all) (h3 : Cond.selects y'.cls y' y' ∈ lw_all) (h4 : Cond.initialized y'.cls ∈ lw_all) (h5 : Cond.code y' cc' nL' ret' ∈ lw_all) {n : Nat} (h6 : y'.cls ≠ "java/lang/invoke/MethodHandle" ∧ y'.cls ≠ "java/lang/invoke/VarHandle" ∧ (parseMethodDescriptor y'.desc).map (fun d => d.parameters.length) = some n) (hn : As.length = n) (hdd : d' + 1 ≤ d) (hnl : nL' ≤ 40) (hmc : cells + mc' ≤ mc) (hms : slots + ms' ≤ ms) (hst : st = As.reverse ++ .ref b :: rest) (hrm : (rest.map fun v => v.category).sum ≤ 8) (hd : decode cc pc = .ok (.invokevirtual ix, 3)) (hlv : lv.length = nL) (kk : ∀ (v : Option Value) (S' : xS) (D' : xD) (R' : xR), post' v S' D' R' → gW Γ E (xM E S' D' R') (cells + mc') (slots + ms') (pc + 3) lv (v.toList ++ rest)) : gW Γ E (xM E S D R) cells slots pc lv st := g_callV hΓ hC ho h1 h2 h3 h4 h5 h6 hn hdd hnl hmc hms (xM_o hb hk.1 hk.2) (by rw [hE]; exact hcl) hst hrm hd hlv (fun v M' hv => by obtain ⟨S', D', R', e, hq⟩ := hv; rw [e]; exact kk v S' D' R' hq)
theorem x_callS (hΓ : gOK l Γ E X y cc nL ret d mc ms post) {y' : MethodName} {cc' : ByteArray} {nL' d' mc' ms' ix : Nat} {ret' : Option FieldType} {As : List Value} {post' : Option Value → xS → xD → xR → Prop} (hC : xC l E X y' cc' nL' ret' d' mc' ms' As S D R post') {own : String} (ho : own = y.cls) (h1 : Cond.methodLink own ix y' ∈ lw_all) (h2 : Cond.static y' ∈ lw_all) (h4 : Cond.initialized y'.cls ∈ lw_all) (h5 : Cond.code y' cc' nL' ret' ∈ lw_all) {n : Nat} (h6 : y'.cls ≠ "java/lang/invoke/MethodHandle" ∧ y'.cls ≠ "java/lang/invoke/VarHandle" ∧ (parseMethodDescriptor y'.desc).map (fun d => d.parameters.length) = some n) (hn : As.length = n) (hdd : d' + 1 ≤ d) (hnl : nL' ≤ 40) (hmc : cells + mc' ≤ mc) (hms : slots + ms' ≤ ms) (hst : st = As.reverse ++ rest) (hrm : (rest.map fun v => v.category).sum ≤ 8) (hd : decode cc pc = .ok (.invokestatic ix, 3)) (hlv : lv.length = nL) (kk : ∀ (v : Option Value) (S' : xS) (D' : xD) (R' : xR), post' v S' D' R' → gW Γ E (xM E S' D' R') (cells + mc') (slots + ms') (pc + 3) lv (v.toList ++ rest)) : gW Γ E (xM E S D R) cells slots pc lv st := g_callS hΓ hC ho h1 h2 h4 h5 h6 hn hdd hnl hmc hms hst hrm hd hlv (fun v M' hv => by obtain ⟨S', D', R', e, hq⟩ := hv; rw [e]; exact kk v S' D' R' hq)
theorem x_callI (hΓ : gOK l Γ E X y cc nL ret d mc ms post) {y' : MethodName} {cc' : ByteArray} {nL' d' mc' ms' ix : Nat} {b : Nat} {As : List Value} {post' : Option Value → xS → xD → xR → Prop} (hC : xC l E X y' cc' nL' none d' mc' ms' (.ref b :: As) S D R post') {own : String} (ho : own = y.cls) (h1 : Cond.methodLink own ix y' ∈ lw_all) (h2 : Cond.instanceMethod y' ∈ lw_all) (h4 : Cond.initialized y'.cls ∈ lw_all) (h5 : Cond.code y' cc' nL' none ∈ lw_all) {n : Nat} (h6 : y'.cls ≠ "java/lang/invoke/MethodHandle" ∧ y'.cls ≠ "java/lang/invoke/VarHandle" ∧ (parseMethodDescriptor y'.desc).map (fun d => d.parameters.length) = some n) (h7 : y'.name = "<init>") (hn : As.length = n) (hdd : d' + 1 ≤ d) (hnl : nL' ≤ 40) (hmc : cells + mc' ≤ mc) (hms : slots + ms' ≤ ms) (hst : st = As.reverse ++ .ref b :: rest) (hrm : (rest.map fun v => v.category).sum ≤ 8) (hd : decode cc pc = .ok (.invokespecial ix, 3)) (hlv : lv.length = nL) (kk : ∀ (v : Option Value) (S' : xS) (D' : xD) (R' : xR), post' v S' D' R' → gW Γ E (xM E S' D' R') (cells + mc') (slots + ms') (pc + 3) lv (v.toList ++ rest)) : gW Γ E (xM E S D R) cells slots pc lv st := g_callI hΓ hC ho h1 h2 h4 h5 h6 h7 hn hdd hnl hmc hms hst hrm hd hlv (fun v M' hv => by obtain ⟨S', D', R', e, hq⟩ := hv; rw [e]; exact kk v S' D' R' hq)
theorem x_callSN (hΓ : gOK l Γ E X y cc nL ret d mc ms post) {y' : MethodName} {cc' : ByteArray} {nL' d' mc' ms' ix : Nat} {ret' : Option FieldType} {As : List Value} {post' : Option Value → xS → xD → xR → Prop} (hC : xC l E X y' cc' nL' ret' d' mc' ms' As S D R post') {own host : String} (ho : own = y.cls) (hlk : ∀ U, X U → va_Nw (.methodLinkNest own ix y' host) U) (h2 : Cond.static y' ∈ lw_all) (h4 : Cond.initialized y'.cls ∈ lw_all) (h5 : Cond.code y' cc' nL' ret' ∈ lw_all) {n : Nat} (h6 : y'.cls ≠ "java/lang/invoke/MethodHandle" ∧ y'.cls ≠ "java/lang/invoke/VarHandle" ∧ (parseMethodDescriptor y'.desc).map (fun d => d.parameters.length) = some n) (hn : As.length = n) (hdd : d' + 1 ≤ d) (hnl : nL' ≤ 40) (hmc : cells + mc' ≤ mc) (hms : slots + ms' ≤ ms) (hst : st = As.reverse ++ rest) (hrm : (rest.map fun v => v.category).sum ≤ 8) (hd : decode cc pc = .ok (.invokestatic ix, 3)) (hlv : lv.length = nL) (kk : ∀ (v : Option Value) (S' : xS) (D' : xD) (R' : xR), post' v S' D' R' → gW Γ E (xM E S' D' R') (cells + mc') (slots + ms') (pc + 3) lv (v.toList ++ rest)) : gW Γ E (xM E S D R) cells slots pc lv st := g_callSN hΓ hC ho hlk h2 h4 h5 h6 hn hdd hnl hmc hms hst hrm hd hlv (fun v M' hv => by obtain ⟨S', D', R', e, hq⟩ := hv; rw [e]; exact kk v S' D' R' hq)
theorem x_callIN (hΓ : gOK l Γ E X y cc nL ret d mc ms post) {y' : MethodName} {cc' : ByteArray} {nL' d' mc' ms' ix : Nat} {b : Nat} {As : List Value} {post' : Option Value → xS → xD → xR → Prop} (hC : xC l E X y' cc' nL' none d' mc' ms' (.ref b :: As) S D R post') {own host : String} (ho : own = y.cls) (hlk : ∀ U, X U → va_Nw (.methodLinkNest own ix y' host) U) (h2 : Cond.instanceMethod y' ∈ lw_all) (h4 : Cond.initialized y'.cls ∈ lw_all) (h5 : Cond.code y' cc' nL' none ∈ lw_all) {n : Nat} (h6 : y'.cls ≠ "java/lang/invoke/MethodHandle" ∧ y'.cls ≠ "java/lang/invoke/VarHandle" ∧ (parseMethodDescriptor y'.desc).map (fun d => d.parameters.length) = some n) (h7 : y'.name = "<init>") (hn : As.length = n) (hdd : d' + 1 ≤ d) (hnl : nL' ≤ 40) (hmc : cells + mc' ≤ mc) (hms : slots + ms' ≤ ms) (hst : st = As.reverse ++ .ref b :: rest) (hrm : (rest.map fun v => v.category).sum ≤ 8) (hd : decode cc pc = .ok (.invokespecial ix, 3)) (hlv : lv.length = nL) (kk : ∀ (v : Option Value) (S' : xS) (D' : xD) (R' : xR), post' v S' D' R' → gW Γ E (xM E S' D' R') (cells + mc') (slots + ms') (pc + 3) lv (v.toList ++ rest)) : gW Γ E (xM E S D R) cells slots pc lv st := g_callIN hΓ hC ho hlk h2 h4 h5 h6 h7 hn hdd hnl hmc hms hst hrm hd hlv (fun v M' hv => by obtain ⟨S', D', R', e, hq⟩ := hv; rw [e]; exact kk v S' D' R' hq)
theorem x_iret {post : Option Value → xS → xD → xR → Prop} (hΓ : gOK l Γ E X y cc nL (some .int) d mc ms (xP E post)) {a : Int} (hd : decode cc pc = .ok (.ireturn, 1)) (hc : cells ≤ mc) (hs : slots ≤ ms) (hq : post (some (.int (iI a))) S D R) : gW Γ E (xM E S D R) cells slots pc lv [.int (iI a)] := g_iret hΓ hd ⟨S, D, R, rfl, hq⟩ hc hs
theorem x_zret {post : Option Value → xS → xD → xR → Prop} (hΓ : gOK l Γ E X y cc nL (some .boolean) d mc ms (xP E post)) {a : Int} (ha : a = 0 ∨ a = 1) (hd : decode cc pc = .ok (.ireturn, 1)) (hc : cells ≤ mc) (hs : slots ≤ ms) (hq : post (some (.int (iI a))) S D R) : gW Γ E (xM E S D R) cells slots pc lv [.int (iI a)] := g_zret hΓ ha hd ⟨S, D, R, rfl, hq⟩ hc hs
theorem x_vret {post : Option Value → xS → xD → xR → Prop} (hΓ : gOK l Γ E X y cc nL none d mc ms (xP E post)) (hd : decode cc pc = .ok (.return_, 1)) (hc : cells ≤ mc) (hs : slots ≤ ms) (hq : post none S D R) : gW Γ E (xM E S D R) cells slots pc lv [] := g_vret hΓ hd ⟨S, D, R, rfl, hq⟩ hc hs
theorem x_aret {post : Option Value → xS → xD → xR → Prop} {rt : FieldType} (hΓ : gOK l Γ E X y cc nL (some rt) d mc ms (xP E post)) {v : Value} (hrt : (∃ n, rt = .object n) ∨ ∃ t, rt = .array t) (hv : v = .null ∨ ∃ a, v = .ref a) (hd : decode cc pc = .ok (.areturn, 1)) (hc : cells ≤ mc) (hs : slots ≤ ms) (hq : post (some v) S D R) : gW Γ E (xM E S D R) cells slots pc lv [v] := g_aret hΓ hrt hv hd ⟨S, D, R, rfl, hq⟩ hc hs
end XR
