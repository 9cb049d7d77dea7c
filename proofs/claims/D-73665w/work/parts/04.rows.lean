set_option maxRecDepth 100000
/-! THE ROW LAYER: ints are iI of an Int; the world is a map from addresses to cells; one judgement gW, one contract Ct -/
def iI (a : Int) : Int32 := Int32.ofInt a
def lI (a : Int) : Int64 := Int64.ofInt a
abbrev r32 (a : Int) : Prop := -2147483648 ≤ a ∧ a < 2147483648
abbrev r64 (a : Int) : Prop := -9223372036854775808 ≤ a ∧ a < 9223372036854775808
theorem iI_add (a b : Int) : iI a + iI b = iI (a + b) := (Int32.ofInt_add a b).symm
theorem iI_sub (a b : Int) : iI a - iI b = iI (a - b) := (Int32.ofInt_sub a b).symm
theorem iI_mul (a b : Int) : iI a * iI b = iI (a * b) := (Int32.ofInt_mul a b).symm
theorem iI_neg (a : Int) : - iI a = iI (-a) := (Int32.ofInt_neg a).symm
theorem iI_toInt {a : Int} (h : r32 a) : (iI a).toInt = a := Int32.toInt_ofInt_of_le (by have := h.1; omega) (by have := h.2; omega)
theorem iI_of (x : Int32) : iI x.toInt = x := Int32.ofInt_toInt x
theorem iI_r (x : Int32) : r32 x.toInt := ⟨by have := Int32.le_toInt x; omega, by have := Int32.toInt_lt x; omega⟩
theorem iI_ex (x : Int32) : ∃ a : Int, r32 a ∧ x = iI a := ⟨x.toInt, iI_r x, (iI_of x).symm⟩
theorem iI_le {a b : Int} (ha : r32 a) (hb : r32 b) : iI a ≤ iI b ↔ a ≤ b := by rw [Int32.le_iff_toInt_le, iI_toInt ha, iI_toInt hb]
theorem iI_lt {a b : Int} (ha : r32 a) (hb : r32 b) : iI a < iI b ↔ a < b := by rw [Int32.lt_iff_toInt_lt, iI_toInt ha, iI_toInt hb]
theorem iI_eq {a b : Int} (ha : r32 a) (hb : r32 b) : iI a = iI b ↔ a = b := by rw [← Int32.toInt_inj, iI_toInt ha, iI_toInt hb]
theorem iI_inj {a b : Int} (ha : r32 a) (hb : r32 b) (h : iI a = iI b) : a = b := (iI_eq ha hb).mp h
theorem iI_0 : iI 0 = 0 := rfl
theorem iI_div {a b : Int} (ha : r32 a) (hb : r32 b) (h1 : b ≠ -1) : iI a / iI b = iI (a.tdiv b) := by
  refine Int32.toInt_inj.mp ?_
  have hne : iI b ≠ -1 := fun h => h1 (iI_inj hb ⟨by decide, by decide⟩ (h.trans (by decide : (-1 : Int32) = iI (-1))))
  rw [Int32.toInt_div_of_ne_right _ _ hne, iI_toInt ha, iI_toInt hb, iI_toInt]
  have h2 : (a.tdiv b).natAbs ≤ a.natAbs := by rw [Int.natAbs_tdiv]; exact Nat.div_le_self _ _
  by_cases hb0 : b = 0
  · subst hb0; rw [Int.tdiv_zero]; exact ⟨by decide, by decide⟩
  · have ha2 := ha
    refine ⟨by omega, ?_⟩
    by_cases hA : a = -2147483648
    · subst hA
      have h3 : (Int.tdiv (-2147483648) b).natAbs = 2147483648 / b.natAbs := by rw [Int.natAbs_tdiv]; rfl
      by_cases hb1 : b.natAbs = 1
      · have : b = 1 := by omega
        subst this; decide
      · have : 2147483648 / b.natAbs ≤ 2147483648 / 2 := Nat.div_le_div_left (by omega) (by decide)
        omega
    · omega
theorem iI_rem {a b : Int} (ha : r32 a) (hb : r32 b) (h1 : b ≠ -1) : iI a - iI a / iI b * iI b = iI (a.tmod b) := by
  rw [iI_div ha hb h1, iI_mul, iI_sub]
  congr 1
  have := Int.tmod_add_mul_tdiv a b
  rw [Int.mul_comm] at this
  omega
theorem lI_add (a b : Int) : lI a + lI b = lI (a + b) := (Int64.ofInt_add a b).symm
theorem lI_sub (a b : Int) : lI a - lI b = lI (a - b) := (Int64.ofInt_sub a b).symm
theorem lI_mul (a b : Int) : lI a * lI b = lI (a * b) := (Int64.ofInt_mul a b).symm
theorem lI_toInt {a : Int} (h : r64 a) : (lI a).toInt = a := Int64.toInt_ofInt_of_le (by have := h.1; omega) (by have := h.2; omega)
theorem lI_le {a b : Int} (ha : r64 a) (hb : r64 b) : lI a ≤ lI b ↔ a ≤ b := by rw [Int64.le_iff_toInt_le, lI_toInt ha, lI_toInt hb]
theorem lI_lt {a b : Int} (ha : r64 a) (hb : r64 b) : lI a < lI b ↔ a < b := by rw [Int64.lt_iff_toInt_lt, lI_toInt ha, lI_toInt hb]
theorem lI_eq {a b : Int} (ha : r64 a) (hb : r64 b) : lI a = lI b ↔ a = b := by rw [← Int64.toInt_inj, lI_toInt ha, lI_toInt hb]
theorem lI_div {a b : Int} (ha : r64 a) (hb : r64 b) (h1 : 0 < b) : lI a / lI b = lI (a.tdiv b) := by
  refine Int64.toInt_inj.mp ?_
  have hne : lI b ≠ -1 := fun h => by
    have h2 : b = -1 := (lI_eq hb ⟨by decide, by decide⟩).mp (h.trans (by decide : (-1 : Int64) = lI (-1)))
    omega
  rw [Int64.toInt_div_of_ne_right _ _ hne, lI_toInt ha, lI_toInt hb, lI_toInt]
  have h2 : (a.tdiv b).natAbs ≤ a.natAbs := by rw [Int.natAbs_tdiv]; exact Nat.div_le_self _ _
  refine ⟨by omega, ?_⟩
  by_cases hA : a = -9223372036854775808
  · subst hA
    have h3 : Int.tdiv (-9223372036854775808) b ≤ 0 := by
      rw [show (-9223372036854775808 : Int) = -(9223372036854775808) from rfl, Int.neg_tdiv]
      have := Int.tdiv_nonneg (a := 9223372036854775808) (b := b) (by decide) (by omega)
      omega
    omega
  · omega
theorem lI_rem {a b : Int} (ha : r64 a) (hb : r64 b) (h1 : 0 < b) : lI a - lI a / lI b * lI b = lI (a.tmod b) := by
  rw [lI_div ha hb h1, lI_mul, lI_sub]
  congr 1
  have := Int.tmod_add_mul_tdiv a b
  rw [Int.mul_comm] at this
  omega
theorem iI_l {a : Int} (h : r32 a) : (iI a).toInt64 = lI a := by
  refine Int64.toInt_inj.mp ?_
  rw [Int32.toInt_toInt64, iI_toInt h, lI_toInt ⟨by have := h.1; omega, by have := h.2; omega⟩]
theorem lI_i (a : Int) : (lI a).toInt32 = iI a := Int64.toInt32_ofInt
/-! the world -/
abbrev gE : Type := va_G × List vw_C × (Nat → Prop)
abbrev wM : Type := Nat → Option va_E
def PM (E : gE) (M : wM) (H : Heap) : Prop := ∀ (a : Nat) (e : va_E), M a = some e → va_at E.1 E.2.1 (a, e) H
def wU (M : wM) (a : Nat) (e : va_E) : wM := fun q => if q = a then some e else M q
theorem wU_s (M : wM) (a : Nat) (e : va_E) : wU M a e a = some e := by simp [wU]
theorem wU_n {M : wM} {a q : Nat} {e : va_E} (h : q ≠ a) : wU M a e q = M q := by simp [wU, h]
theorem PM.one {E : gE} {M : wM} {H : Heap} {a : Nat} {e : va_E} (h : PM E M H) (ha : M a = some e) : va_P E.1 E.2.1 [(a, e)] H := by
  intro k q hk
  match k, hk with
  | 0, hk => cases hk; exact h a e ha
  | k + 1, hk => simp at hk
theorem PM.lt {E : gE} {M : wM} {H : Heap} {a : Nat} {e : va_E} (h : PM E M H) (ha : M a = some e) : a < H.size := (h a e ha).lt
theorem PM.set {E : gE} {M : wM} {H H1 : Heap} {a : Nat} {e : va_E} (h : PM E M H) (he : va_at E.1 E.2.1 (a, e) H1) (oq : ∀ q : Nat, q ≠ a → H1[q]? = H[q]?) : PM E (wU M a e) H1 := by
  intro b e1 hb
  by_cases hq : b = a
  · subst hq
    rw [wU_s] at hb
    cases hb
    exact he
  · rw [wU_n hq] at hb
    exact (h b e1 hb).kept (oq b hq)
/-! the array classes that are known -/
def tysD (D : va_G) : List (ClassId × FieldType) := [(D.1 100, .int), (D.1 101, .char), (D.1 102, .byte), (D.1 103, .boolean), (D.1 104, .array .int), (D.1 105, .object "java/lang/Object"), (D.1 106, .object "java/lang/String")]
def cAr (E : gE) (t n : Nat) (f : Int → Int) : va_E := .inl (E.1.1 (100 + t), n, .inl (fun j => iI (f (j : Int))))
def cRf (E : gE) (t n : Nat) (f : Int → Option Nat) : va_E := .inl (E.1.1 (100 + t), n, .inr (.inr (.inr (.inr (fun j => f (j : Int))))))
def up {α : Type} (f : Int → α) (i : Int) (x : α) : Int → α := fun j => if j = i then x else f j
theorem up_s {α : Type} (f : Int → α) (i : Int) (x : α) : up f i x i = x := by simp [up]
theorem up_n {α : Type} {f : Int → α} {i j : Int} {x : α} (h : j ≠ i) : up f i x j = f j := by simp [up, h]
/-! the judgement -/
abbrev gC : Type := Program × Launch × Env × Room × State × MethodId × Array Value × List Frame × Method × Code × (State → Prop)
def lvp : Nat → List (Option Value) → List (Nat × Value)
  | _, [] => []
  | n, none :: l => lvp (n + 1) l
  | n, some v :: l => (n, v) :: lvp (n + 1) l
theorem lvp_mem {l : List (Option Value)} : ∀ {n : Nat} {q : Nat × Value}, q ∈ lvp n l ↔ ∃ j, q.1 = n + j ∧ l[j]? = some (some q.2) := by
  induction l with
  | nil => intro n q; simp [lvp]
  | cons x l ih =>
    intro n q
    cases x with
    | none =>
      simp only [lvp, ih]
      constructor
      · rintro ⟨j, h1, h2⟩
        exact ⟨j + 1, by omega, by simpa using h2⟩
      · rintro ⟨j, h1, h2⟩
        cases j with
        | zero => simp at h2
        | succ j => exact ⟨j, by omega, by simpa using h2⟩
    | some v =>
      simp only [lvp, List.mem_cons, ih]
      constructor
      · rintro (rfl | ⟨j, h1, h2⟩)
        · exact ⟨0, by simp, by simp⟩
        · exact ⟨j + 1, by omega, by simpa using h2⟩
      · rintro ⟨j, h1, h2⟩
        cases j with
        | zero =>
          simp at h2
          left
          obtain ⟨q1, q2⟩ := q
          simp at h1 h2
          rw [h1, h2]
        | succ j => exact Or.inr ⟨j, by omega, by simpa using h2⟩
theorem lvp_at {ls : Array Slot} {nL : Nat} {lv : List (Option Value)} (h : lv_has ls nL (lvp 0 lv)) {i : Nat} {v : Value} (hi : lv[i]? = some (some v)) : ls[i]? = some (.val v) := h.2.2 (i, v) (lvp_mem.mpr ⟨i, by simp, hi⟩)
/-- no value of two words stands just ahead of place i -/
def lvk (lv : List (Option Value)) (i : Nat) : Bool := match i with
  | 0 => true
  | j + 1 => match lv[j]? with
    | some (some w) => w.category == 1
    | _ => true
theorem lvp_set {ls : Array Slot} {nL i : Nat} {v : Value} {lv lv' : List (Option Value)} (hk : lvk lv i = true) (he : lv.set i (some v) = lv') (h : lv_has ls nL ((i, v) :: (lvp 0 lv).filter (fun q => !(q.1 == i) && !(q.1 + 1 == i && q.2.category == 2)))) : lv_has ls nL (lvp 0 lv') := by
  refine ⟨h.1, h.2.1, fun q hq => h.2.2 q ?_⟩
  subst he
  obtain ⟨j, h1, h2⟩ := lvp_mem.mp hq
  obtain ⟨q1, q2⟩ := q
  simp only [Nat.zero_add] at h1
  subst h1
  by_cases hj : q1 = i
  · subst hj
    rw [List.getElem?_set] at h2
    simp at h2
    rw [h2.2]
    exact List.mem_cons_self
  · rw [List.getElem?_set_ne (Ne.symm hj)] at h2
    refine List.mem_cons_of_mem _ (List.mem_filter.mpr ⟨lvp_mem.mpr ⟨q1, by simp, h2⟩, ?_⟩)
    simp only [Bool.and_eq_true, Bool.not_eq_true', beq_eq_false_iff_ne, ne_eq, Bool.and_eq_false_iff]
    refine ⟨hj, ?_⟩
    by_cases hj2 : q1 + 1 = i
    · right
      subst hj2
      simp only [lvk] at hk
      simp only at h2
      rw [h2] at hk
      simp at hk
      omega
    · exact Or.inl hj2
def gW (Γ : gC) (E : gE) (M : wM) (cells slots pc : Nat) (lv : List (Option Value)) (st : List Value) : Prop := ∀ (H : Heap) (locs : List Loc) (ls : Array Slot), PM E M H → va_S E.2.2 Γ.2.2.2.2.1.heap H locs → lv_has ls lv.length (lvp 0 lv) → W Γ.1 Γ.2.1 Γ.2.2.1 Γ.2.2.2.1 Γ.2.2.2.2.1 Γ.2.2.2.2.2.1 Γ.2.2.2.2.2.2.1 Γ.2.2.2.2.2.2.2.1 Γ.2.2.2.2.2.2.2.2.1 Γ.2.2.2.2.2.2.2.2.2.1 H locs cells slots Γ.2.2.2.2.2.2.2.2.2.2 (F0 Γ.2.2.2.2.2.1 pc ls st)
def rmd (d mc ms : Nat) : Room := { frames := d, cells := mc, slots := ms, locals := 64 * d }
def gQ (E : gE) (post : Option Value → wM → Prop) : Array Value → State → Outcome → State → Prop := fun _ st oc t => (∃ (v : Option Value) (M' : wM), oc = .returned v ∧ post v M' ∧ PM E M' t.heap) ∧ va_F E.2.2 st t
/-- further facts of a state that hold all through: they stay under a warmed VM, a heap that grows and changes in A alone, and a call -/
def gXK (A : Nat → Prop) (X : State → Prop) : Prop := (∀ (s U : State), s.WarmedH U.vm → s.heap.size ≤ U.heap.size → (∀ q : Nat, q < s.heap.size → ¬ A q → U.heap[q]? = s.heap[q]?) → X s → X U) ∧ ∀ (a : Array Value) (U : State) (g : JFrame) (mk : MethodId), X U → X (U.calling g mk a)
theorem gXK_T (A : Nat → Prop) : gXK A (fun _ => True) := ⟨fun _ _ _ _ _ _ => trivial, fun _ _ _ _ _ => trivial⟩
def gPc (E : gE) (X : State → Prop) (av : List Value) (M : wM) : Array Value → State → Prop := va_Pc av (fun U => va_K E.1 E.2.1 (tysD E.1) U ∧ X U ∧ PM E M U.heap)
/-- a contract: with the arguments av, in the world M: it returns, 'post answer world' -/
def Ct (l : Launch) (E : gE) (X : State → Prop) (y : MethodName) (cc : ByteArray) (nL : Nat) (ret : Option FieldType) (d mc ms : Nat) (av : List Value) (M : wM) (post : Option Value → wM → Prop) : Prop := Met l y (ws_ y cc nL ret) (rmd d mc ms) (gPc E X av M) (gQ E post) mc ms E.2.2
theorem wQ_mono {p : Program} {l : Launch} {e : Env} {R : Room} {s : State} {m : MethodId} {args : Array Value} {below : List Frame} {meth : Method} {c : Code} {H : Heap} {locs : List Loc} {cells slots : Nat} {Q Q' : State → Prop} {g : JFrame} (h : ∀ t, Q t → Q' t) (k : W p l e R s m args below meth c H locs cells slots Q g) : W p l e R s m args below meth c H locs cells slots Q' g := fun T hT X => by
  obtain ⟨t, a, b⟩ := k T hT X
  exact ⟨t, a, h t b⟩
abbrev gOK (l : Launch) (Γ : gC) (E : gE) (X : State → Prop) (y : MethodName) (cc : ByteArray) (nL : Nat) (ret : Option FieldType) (d mc ms : Nat) (post : Option Value → wM → Prop) : Prop :=
  Γ.1.tables.exec = Jvm.exec ∧ Γ.2.2.2.2.2.2.2.2.2.1.code = cc ∧ Γ.2.2.2.2.2.2.2.2.1.sig.returnType = ret ∧ Γ.2.2.2.2.2.2.2.2.1.locks = false ∧ Γ.2.2.2.2.2.2.2.2.2.1.maxLocals = nL ∧ Γ.2.2.2.2.1.vm.findClass y.cls = some Γ.2.2.2.2.2.1.cls ∧ (∀ w ∈ lw_all, w.before Γ.2.2.2.2.2.2.1 Γ.2.2.2.2.1 = true) ∧ va_K E.1 E.2.1 (tysD E.1) Γ.2.2.2.2.1 ∧ (gXK E.2.2 X ∧ X Γ.2.2.2.2.1) ∧ Γ.2.2.2.1 = rmd d mc ms ∧ (∀ t : State, MQ Γ.2.2.2.2.2.2.2.1 (gQ E post) Γ.2.2.2.2.2.2.1 Γ.2.2.2.2.1 mc ms E.2.2 t → Γ.2.2.2.2.2.2.2.2.2.2 t) ∧ Γ.2.1 = l ∧ Γ.2.2.2.2.2.2.2.2.1.name = y.name
theorem Ct.of {l : Launch} {E : gE} {X : State → Prop} {y : MethodName} {cc : ByteArray} {nL : Nat} {ret : Option FieldType} {d mc ms : Nat} {av : List Value} {M : wM} {post : Option Value → wM → Prop} (hXK : gXK E.2.2 X) (hy : plainName y.cls = true) (lv : List (Option Value)) (h0 : (lg_sl av).length ≤ nL) (h1 : lvp 0 lv = lv_args 0 av) (h2 : lv.length = nL) (body : ∀ Γ, gOK l Γ E X y cc nL ret d mc ms post → gW Γ E M 0 0 0 lv []) : Ct l E X y cc nL ret d mc ms av M post := by
  refine Met.ofW (cc := cc) (maxL := nL) (ret := ret) hy rfl ?_
  intro p e s m args below meth c s₁ B hml hv
  obtain ⟨rfl, hK, hX, hP⟩ := hv
  have hts := atoms_spec (ws := ws_ y cc nL ret) B.pre
  have hts : ∀ w ∈ lw_all, w.before _ s = true := fun w h => hts w (List.mem_cons_of_mem _ h)
  have hb := body (p, l, e, rmd d mc ms, s, m, av.toArray, below, meth, c, MQ below (gQ E post) av.toArray s mc ms E.2.2) ⟨B.exec, B.bytes, B.returns, B.notSynchronized, hml, findClass_of_methodNamed B.named, hts, hK, ⟨hXK, hX⟩, rfl, fun t h => h, rfl, (name_of_methodNamed B.named B.method).1⟩
  have hl := lv_entry av h0
  rw [lg_entry_eq]
  exact hb s.heap [] _ hP va_S.rf (by rw [h1, h2]; exact hl)
section GR
variable {l : Launch} {Γ : gC} {E : gE} {X : State → Prop} {y : MethodName} {cc : ByteArray} {nL : Nat} {ret : Option FieldType} {d mc ms : Nat} {post : Option Value → wM → Prop} {M : wM} {cells slots pc : Nat} {lv lv' : List (Option Value)} {st rest : List Value}
theorem g_iconst (hΓ : gOK l Γ E X y cc nL ret d mc ms post) {n : Int} (hd : decode cc pc = .ok (.iconst n, 1)) (k : gW Γ E M cells slots (pc + 1) lv (.int (iI n) :: rest)) : gW Γ E M cells slots pc lv (rest) := fun H locs ls hP hS hl => lv_iconst hΓ.1 hΓ.2.1 hd rfl (k H locs ls hP hS hl)
theorem g_bipush (hΓ : gOK l Γ E X y cc nL ret d mc ms post) {n : Int} (hn : (Int8.ofInt n).toInt32 = iI n) (hd : decode cc pc = .ok (.bipush n, 2)) (k : gW Γ E M cells slots (pc + 2) lv (.int (iI n) :: rest)) : gW Γ E M cells slots pc lv (rest) := fun H locs ls hP hS hl => lv_bipush hΓ.1 hΓ.2.1 hd hn (k H locs ls hP hS hl)
theorem g_sipush (hΓ : gOK l Γ E X y cc nL ret d mc ms post) {n : Int} (hn : (Int16.ofInt n).toInt32 = iI n) (hd : decode cc pc = .ok (.sipush n, 3)) (k : gW Γ E M cells slots (pc + 3) lv (.int (iI n) :: rest)) : gW Γ E M cells slots pc lv (rest) := fun H locs ls hP hS hl => lv_sipush hΓ.1 hΓ.2.1 hd hn (k H locs ls hP hS hl)
theorem g_ldc (hΓ : gOK l Γ E X y cc nL ret d mc ms post) {n : Int} {ix : Nat} {own : String} {v : Int32} (ho : own = y.cls) (hw : Cond.constant own ix v ∈ lw_all) (hn : v = iI n) (hd : decode cc pc = .ok (.ldc ix, 2)) (k : gW Γ E M cells slots (pc + 2) lv (.int (iI n) :: rest)) : gW Γ E M cells slots pc lv (rest) := fun H locs ls hP hS hl => lv_ldc hΓ.1 hΓ.2.1 (own := own) (by rw [ho]; exact hΓ.2.2.2.2.2.1) (hΓ.2.2.2.2.2.2.1 _ hw) hd (by rw [hn]; exact k H locs ls hP hS hl)
theorem g_ldcw (hΓ : gOK l Γ E X y cc nL ret d mc ms post) {n : Int} {ix : Nat} {own : String} {v : Int32} (ho : own = y.cls) (hw : Cond.constant own ix v ∈ lw_all) (hn : v = iI n) (hd : decode cc pc = .ok (.ldc_w ix, 3)) (k : gW Γ E M cells slots (pc + 3) lv (.int (iI n) :: rest)) : gW Γ E M cells slots pc lv (rest) := fun H locs ls hP hS hl => lv_ldcw hΓ.1 hΓ.2.1 (own := own) (by rw [ho]; exact hΓ.2.2.2.2.2.1) (hΓ.2.2.2.2.2.2.1 _ hw) hd (by rw [hn]; exact k H locs ls hP hS hl)
theorem g_ldc2 (hΓ : gOK l Γ E X y cc nL ret d mc ms post) {n : Int} {ix : Nat} {own : String} {v : Int64} (ho : own = y.cls) (hw : Cond.constantLong own ix v ∈ lw_all) (hn : v = lI n) (hd : decode cc pc = .ok (.ldc2_w ix, 3)) (k : gW Γ E M cells slots (pc + 3) lv (.long (lI n) :: rest)) : gW Γ E M cells slots pc lv (rest) := fun H locs ls hP hS hl => lv_ldc2 hΓ.1 hΓ.2.1 (own := own) (by rw [ho]; exact hΓ.2.2.2.2.2.1) (hΓ.2.2.2.2.2.2.1 _ hw) hd (by rw [hn]; exact k H locs ls hP hS hl)
theorem g_lconst (hΓ : gOK l Γ E X y cc nL ret d mc ms post) {n : Fin 2} {a : Int} (hn : Int64.ofNat (n : Nat) = lI a) (hd : decode cc pc = .ok (.lconst n, 1)) (k : gW Γ E M cells slots (pc + 1) lv (.long (lI a) :: rest)) : gW Γ E M cells slots pc lv (rest) := fun H locs ls hP hS hl => lv_lconst hΓ.1 hΓ.2.1 hd hn (k H locs ls hP hS hl)
theorem g_iload_n (hΓ : gOK l Γ E X y cc nL ret d mc ms post) {j : Fin 4} {x : Int32} (hl0 : lv[(j : Nat)]? = some (some (.int x))) (hd : decode cc pc = .ok (.iload_n j, 1)) (k : gW Γ E M cells slots (pc + 1) lv (.int x :: st)) : gW Γ E M cells slots pc lv (st) := fun H locs ls hP hS hl => lv_iload_n hΓ.1 hΓ.2.1 hd rfl (lvp_at hl hl0) (k H locs ls hP hS hl)
theorem g_iload (hΓ : gOK l Γ E X y cc nL ret d mc ms post) {i : Nat} {x : Int32} (hl0 : lv[i]? = some (some (.int x))) (hd : decode cc pc = .ok (.iload i, 2)) (k : gW Γ E M cells slots (pc + 2) lv (.int x :: st)) : gW Γ E M cells slots pc lv (st) := fun H locs ls hP hS hl => lv_iload hΓ.1 hΓ.2.1 hd (lvp_at hl hl0) (k H locs ls hP hS hl)
theorem g_aload_n (hΓ : gOK l Γ E X y cc nL ret d mc ms post) {j : Fin 4} {x : Nat} (hl0 : lv[(j : Nat)]? = some (some (.ref x))) (hd : decode cc pc = .ok (.aload_n j, 1)) (k : gW Γ E M cells slots (pc + 1) lv (.ref x :: st)) : gW Γ E M cells slots pc lv (st) := fun H locs ls hP hS hl => lv_aload_n hΓ.1 hΓ.2.1 hd rfl (lvp_at hl hl0) (k H locs ls hP hS hl)
theorem g_aload (hΓ : gOK l Γ E X y cc nL ret d mc ms post) {i : Nat} {x : Nat} (hl0 : lv[i]? = some (some (.ref x))) (hd : decode cc pc = .ok (.aload i, 2)) (k : gW Γ E M cells slots (pc + 2) lv (.ref x :: st)) : gW Γ E M cells slots pc lv (st) := fun H locs ls hP hS hl => lv_aload hΓ.1 hΓ.2.1 hd (lvp_at hl hl0) (k H locs ls hP hS hl)
theorem g_lload_n (hΓ : gOK l Γ E X y cc nL ret d mc ms post) {j : Fin 4} {x : Int64} (hl0 : lv[(j : Nat)]? = some (some (.long x))) (hd : decode cc pc = .ok (.lload_n j, 1)) (k : gW Γ E M cells slots (pc + 1) lv (.long x :: st)) : gW Γ E M cells slots pc lv (st) := fun H locs ls hP hS hl => lv_lload_n hΓ.1 hΓ.2.1 hd rfl (lvp_at hl hl0) (k H locs ls hP hS hl)
theorem g_lload (hΓ : gOK l Γ E X y cc nL ret d mc ms post) {i : Nat} {x : Int64} (hl0 : lv[i]? = some (some (.long x))) (hd : decode cc pc = .ok (.lload i, 2)) (k : gW Γ E M cells slots (pc + 2) lv (.long x :: st)) : gW Γ E M cells slots pc lv (st) := fun H locs ls hP hS hl => lv_lload hΓ.1 hΓ.2.1 hd (lvp_at hl hl0) (k H locs ls hP hS hl)
theorem g_istore_n (hΓ : gOK l Γ E X y cc nL ret d mc ms post) {j : Fin 4} {x : Int32} (hd : decode cc pc = .ok (.istore_n j, 1)) (hk : lvk lv (j : Nat) = true) (hi : (j : Nat) < lv.length) (he : lv.set (j : Nat) (some (.int x)) = lv') (k : gW Γ E M cells slots (pc + 1) lv' st) : gW Γ E M cells slots pc lv (.int x :: st) := fun H locs ls hP hS hl => lv_istore_n hΓ.1 hΓ.2.1 hd rfl hl hi rfl (fun ls' h => k H locs ls' hP hS (by have h2 := lvp_set hk he h; rw [← he, List.length_set]; rw [he]; exact h2))
theorem g_istore (hΓ : gOK l Γ E X y cc nL ret d mc ms post) {i : Nat} {x : Int32} (hd : decode cc pc = .ok (.istore i, 2)) (hk : lvk lv i = true) (hi : i < lv.length) (he : lv.set i (some (.int x)) = lv') (k : gW Γ E M cells slots (pc + 2) lv' st) : gW Γ E M cells slots pc lv (.int x :: st) := fun H locs ls hP hS hl => lv_istore hΓ.1 hΓ.2.1 hd hl hi rfl (fun ls' h => k H locs ls' hP hS (by have h2 := lvp_set hk he h; rw [← he, List.length_set]; rw [he]; exact h2))
theorem g_astore_n (hΓ : gOK l Γ E X y cc nL ret d mc ms post) {j : Fin 4} {x : Nat} (hd : decode cc pc = .ok (.astore_n j, 1)) (hk : lvk lv (j : Nat) = true) (hi : (j : Nat) < lv.length) (he : lv.set (j : Nat) (some (.ref x)) = lv') (k : gW Γ E M cells slots (pc + 1) lv' st) : gW Γ E M cells slots pc lv (.ref x :: st) := fun H locs ls hP hS hl => lv_astore_n hΓ.1 hΓ.2.1 hd rfl hl hi rfl (fun ls' h => k H locs ls' hP hS (by have h2 := lvp_set hk he h; rw [← he, List.length_set]; rw [he]; exact h2))
theorem g_astore (hΓ : gOK l Γ E X y cc nL ret d mc ms post) {i : Nat} {x : Nat} (hd : decode cc pc = .ok (.astore i, 2)) (hk : lvk lv i = true) (hi : i < lv.length) (he : lv.set i (some (.ref x)) = lv') (k : gW Γ E M cells slots (pc + 2) lv' st) : gW Γ E M cells slots pc lv (.ref x :: st) := fun H locs ls hP hS hl => lv_astore hΓ.1 hΓ.2.1 hd hl hi rfl (fun ls' h => k H locs ls' hP hS (by have h2 := lvp_set hk he h; rw [← he, List.length_set]; rw [he]; exact h2))
theorem g_iinc (hΓ : gOK l Γ E X y cc nL ret d mc ms post) {i : Nat} {n x : Int} (hd : decode cc pc = .ok (.iinc i n, 3)) (hl0 : lv[i]? = some (some (.int (iI x)))) (hk : lvk lv i = true) (he : lv.set i (some (.int (iI (x + n)))) = lv') (k : gW Γ E M cells slots (pc + 3) lv' st) : gW Γ E M cells slots pc lv st := fun H locs ls hP hS hl => by
  obtain ⟨k0, hk0⟩ := List.getElem?_of_mem (lvp_mem.mpr ⟨i, (Nat.zero_add i).symm, hl0⟩ : (i, Value.int (iI x)) ∈ lvp 0 lv)
  exact lv_iinc hΓ.1 hΓ.2.1 hd hl hk0 (iI_add x n) (List.getElem?_eq_some_iff.mp hl0).1 rfl (fun ls' h => k H locs ls' hP hS (by have h2 := lvp_set hk he h; rw [← he, List.length_set]; rw [he]; exact h2))
theorem g_aload_nN (hΓ : gOK l Γ E X y cc nL ret d mc ms post) {j : Fin 4} (hl0 : lv[(j : Nat)]? = some (some .null)) (hd : decode cc pc = .ok (.aload_n j, 1)) (k : gW Γ E M cells slots (pc + 1) lv (.null :: st)) : gW Γ E M cells slots pc lv (st) := fun H locs ls hP hS hl => lv_aload_nN hΓ.1 hΓ.2.1 hd rfl (lvp_at hl hl0) (k H locs ls hP hS hl)
theorem g_iadd (hΓ : gOK l Γ E X y cc nL ret d mc ms post) {a b : Int} (hd : decode cc pc = .ok (.iadd, 1)) (k : gW Γ E M cells slots (pc + 1) lv (.int (iI (a + b)) :: st)) : gW Γ E M cells slots pc lv (.int (iI b) :: .int (iI a) :: st) := fun H locs ls hP hS hl => lv_iadd hΓ.1 hΓ.2.1 hd (by rw [iI_add]; exact k H locs ls hP hS hl)
theorem g_isub (hΓ : gOK l Γ E X y cc nL ret d mc ms post) {a b : Int} (hd : decode cc pc = .ok (.isub, 1)) (k : gW Γ E M cells slots (pc + 1) lv (.int (iI (a - b)) :: st)) : gW Γ E M cells slots pc lv (.int (iI b) :: .int (iI a) :: st) := fun H locs ls hP hS hl => lv_isub hΓ.1 hΓ.2.1 hd (by rw [iI_sub]; exact k H locs ls hP hS hl)
theorem g_imul (hΓ : gOK l Γ E X y cc nL ret d mc ms post) {a b : Int} (hd : decode cc pc = .ok (.imul, 1)) (k : gW Γ E M cells slots (pc + 1) lv (.int (iI (a * b)) :: st)) : gW Γ E M cells slots pc lv (.int (iI b) :: .int (iI a) :: st) := fun H locs ls hP hS hl => lv_imul hΓ.1 hΓ.2.1 hd (by rw [iI_mul]; exact k H locs ls hP hS hl)
theorem g_ineg (hΓ : gOK l Γ E X y cc nL ret d mc ms post) {a : Int} (hd : decode cc pc = .ok (.ineg, 1)) (k : gW Γ E M cells slots (pc + 1) lv (.int (iI (-a)) :: st)) : gW Γ E M cells slots pc lv (.int (iI a) :: st) := fun H locs ls hP hS hl => lv_ineg hΓ.1 hΓ.2.1 hd (by rw [iI_neg]; exact k H locs ls hP hS hl)
theorem g_idiv (hΓ : gOK l Γ E X y cc nL ret d mc ms post) {a b : Int} (ha : r32 a) (hb : r32 b) (h0 : 0 < b) (hd : decode cc pc = .ok (.idiv, 1)) (k : gW Γ E M cells slots (pc + 1) lv (.int (iI (a.tdiv b)) :: st)) : gW Γ E M cells slots pc lv (.int (iI b) :: .int (iI a) :: st) := fun H locs ls hP hS hl => lv_idiv hΓ.1 hΓ.2.1 hd (fun h => by have := iI_inj hb ⟨by decide, by decide⟩ (h.trans iI_0.symm); omega) (by rw [iI_div ha hb (by omega)]; exact k H locs ls hP hS hl)
theorem g_irem (hΓ : gOK l Γ E X y cc nL ret d mc ms post) {a b : Int} (ha : r32 a) (hb : r32 b) (h0 : 0 < b) (hd : decode cc pc = .ok (.irem, 1)) (k : gW Γ E M cells slots (pc + 1) lv (.int (iI (a.tmod b)) :: st)) : gW Γ E M cells slots pc lv (.int (iI b) :: .int (iI a) :: st) := fun H locs ls hP hS hl => lv_irem hΓ.1 hΓ.2.1 hd (fun h => by have := iI_inj hb ⟨by decide, by decide⟩ (h.trans iI_0.symm); omega) (by rw [iI_rem ha hb (by omega)]; exact k H locs ls hP hS hl)
theorem g_ladd (hΓ : gOK l Γ E X y cc nL ret d mc ms post) {a b : Int} (hd : decode cc pc = .ok (.ladd, 1)) (k : gW Γ E M cells slots (pc + 1) lv (.long (lI (a + b)) :: st)) : gW Γ E M cells slots pc lv (.long (lI b) :: .long (lI a) :: st) := fun H locs ls hP hS hl => lv_ladd hΓ.1 hΓ.2.1 hd (by rw [lI_add]; exact k H locs ls hP hS hl)
theorem g_lsub (hΓ : gOK l Γ E X y cc nL ret d mc ms post) {a b : Int} (hd : decode cc pc = .ok (.lsub, 1)) (k : gW Γ E M cells slots (pc + 1) lv (.long (lI (a - b)) :: st)) : gW Γ E M cells slots pc lv (.long (lI b) :: .long (lI a) :: st) := fun H locs ls hP hS hl => lv_lsub hΓ.1 hΓ.2.1 hd (by rw [lI_sub]; exact k H locs ls hP hS hl)
theorem g_lmul (hΓ : gOK l Γ E X y cc nL ret d mc ms post) {a b : Int} (hd : decode cc pc = .ok (.lmul, 1)) (k : gW Γ E M cells slots (pc + 1) lv (.long (lI (a * b)) :: st)) : gW Γ E M cells slots pc lv (.long (lI b) :: .long (lI a) :: st) := fun H locs ls hP hS hl => lv_lmul hΓ.1 hΓ.2.1 hd (by rw [lI_mul]; exact k H locs ls hP hS hl)
theorem g_ldiv (hΓ : gOK l Γ E X y cc nL ret d mc ms post) {a b : Int} (ha : r64 a) (hb : r64 b) (h0 : 0 < b) (hd : decode cc pc = .ok (.ldiv, 1)) (k : gW Γ E M cells slots (pc + 1) lv (.long (lI (a.tdiv b)) :: st)) : gW Γ E M cells slots pc lv (.long (lI b) :: .long (lI a) :: st) := fun H locs ls hP hS hl => lv_ldiv hΓ.1 hΓ.2.1 hd (fun h => by have := (lI_eq (b := 0) hb ⟨by decide, by decide⟩).mp (h.trans (rfl : (0 : Int64) = lI 0)); omega) (by rw [lI_div ha hb h0]; exact k H locs ls hP hS hl)
theorem g_lrem (hΓ : gOK l Γ E X y cc nL ret d mc ms post) {a b : Int} (ha : r64 a) (hb : r64 b) (h0 : 0 < b) (hd : decode cc pc = .ok (.lrem, 1)) (k : gW Γ E M cells slots (pc + 1) lv (.long (lI (a.tmod b)) :: st)) : gW Γ E M cells slots pc lv (.long (lI b) :: .long (lI a) :: st) := fun H locs ls hP hS hl => lv_lrem hΓ.1 hΓ.2.1 hd (fun h => by have := (lI_eq (b := 0) hb ⟨by decide, by decide⟩).mp (h.trans (rfl : (0 : Int64) = lI 0)); omega) (by rw [lI_rem ha hb h0]; exact k H locs ls hP hS hl)
theorem g_i2l (hΓ : gOK l Γ E X y cc nL ret d mc ms post) {a : Int} (ha : r32 a) (hd : decode cc pc = .ok (.i2l, 1)) (k : gW Γ E M cells slots (pc + 1) lv (.long (lI a) :: st)) : gW Γ E M cells slots pc lv (.int (iI a) :: st) := fun H locs ls hP hS hl => lv_i2l hΓ.1 hΓ.2.1 hd (iI_l ha) (k H locs ls hP hS hl)
theorem g_l2i (hΓ : gOK l Γ E X y cc nL ret d mc ms post) {a : Int} (hd : decode cc pc = .ok (.l2i, 1)) (k : gW Γ E M cells slots (pc + 1) lv (.int (iI a) :: st)) : gW Γ E M cells slots pc lv (.long (lI a) :: st) := fun H locs ls hP hS hl => lv_l2i hΓ.1 hΓ.2.1 hd (lI_i a) (k H locs ls hP hS hl)
theorem g_ishl (hΓ : gOK l Γ E X y cc nL ret d mc ms post) {x z : Int32} {a : Int} (h : x <<< (z &&& 31) = iI a) (hd : decode cc pc = .ok (.ishl, 1)) (k : gW Γ E M cells slots (pc + 1) lv (.int (iI a) :: st)) : gW Γ E M cells slots pc lv (.int z :: .int x :: st) := fun H locs ls hP hS hl => lv_ishl hΓ.1 hΓ.2.1 hd (by rw [h]; exact k H locs ls hP hS hl)
theorem g_ishr (hΓ : gOK l Γ E X y cc nL ret d mc ms post) {x z : Int32} {a : Int} (h : x >>> (z &&& 31) = iI a) (hd : decode cc pc = .ok (.ishr, 1)) (k : gW Γ E M cells slots (pc + 1) lv (.int (iI a) :: st)) : gW Γ E M cells slots pc lv (.int z :: .int x :: st) := fun H locs ls hP hS hl => lv_ishr hΓ.1 hΓ.2.1 hd (by rw [h]; exact k H locs ls hP hS hl)
theorem g_iand (hΓ : gOK l Γ E X y cc nL ret d mc ms post) {x z : Int32} {a : Int} (h : x &&& z = iI a) (hd : decode cc pc = .ok (.iand, 1)) (k : gW Γ E M cells slots (pc + 1) lv (.int (iI a) :: st)) : gW Γ E M cells slots pc lv (.int z :: .int x :: st) := fun H locs ls hP hS hl => lv_iand hΓ.1 hΓ.2.1 hd (by rw [h]; exact k H locs ls hP hS hl)
theorem g_ior (hΓ : gOK l Γ E X y cc nL ret d mc ms post) {x z : Int32} {a : Int} (h : x ||| z = iI a) (hd : decode cc pc = .ok (.ior, 1)) (k : gW Γ E M cells slots (pc + 1) lv (.int (iI a) :: st)) : gW Γ E M cells slots pc lv (.int z :: .int x :: st) := fun H locs ls hP hS hl => lv_ior hΓ.1 hΓ.2.1 hd (by rw [h]; exact k H locs ls hP hS hl)
theorem g_ixor (hΓ : gOK l Γ E X y cc nL ret d mc ms post) {x z : Int32} {a : Int} (h : x ^^^ z = iI a) (hd : decode cc pc = .ok (.ixor, 1)) (k : gW Γ E M cells slots (pc + 1) lv (.int (iI a) :: st)) : gW Γ E M cells slots pc lv (.int z :: .int x :: st) := fun H locs ls hP hS hl => lv_ixor hΓ.1 hΓ.2.1 hd (by rw [h]; exact k H locs ls hP hS hl)
theorem g_i2c (hΓ : gOK l Γ E X y cc nL ret d mc ms post) {x : Int32} {a : Int} (h : (x.toUInt32 % 65536).toInt32 = iI a) (hd : decode cc pc = .ok (.i2c, 1)) (k : gW Γ E M cells slots (pc + 1) lv (.int (iI a) :: st)) : gW Γ E M cells slots pc lv (.int x :: st) := fun H locs ls hP hS hl => lv_i2c hΓ.1 hΓ.2.1 hd h (k H locs ls hP hS hl)
theorem g_dup (hΓ : gOK l Γ E X y cc nL ret d mc ms post) {v : Value} (hv : v.category = 1) (hd : decode cc pc = .ok (.dup, 1)) (k : gW Γ E M cells slots (pc + 1) lv (v :: v :: st)) : gW Γ E M cells slots pc lv (v :: st) := fun H locs ls hP hS hl => lv_dup hΓ.1 hΓ.2.1 hd hv (k H locs ls hP hS hl)
theorem g_pop (hΓ : gOK l Γ E X y cc nL ret d mc ms post) {v : Value} (hv : v.category = 1) (hd : decode cc pc = .ok (.pop, 1)) (k : gW Γ E M cells slots (pc + 1) lv (st)) : gW Γ E M cells slots pc lv (v :: st) := fun H locs ls hP hS hl => lv_pop hΓ.1 hΓ.2.1 hd hv (k H locs ls hP hS hl)
theorem g_dup_x1 (hΓ : gOK l Γ E X y cc nL ret d mc ms post) {v w : Value} (hv : v.category = 1) (hw : w.category = 1) (hd : decode cc pc = .ok (.dup_x1, 1)) (k : gW Γ E M cells slots (pc + 1) lv (v :: w :: v :: st)) : gW Γ E M cells slots pc lv (v :: w :: st) := fun H locs ls hP hS hl => lv_dup_x1 hΓ.1 hΓ.2.1 hd hv hw (k H locs ls hP hS hl)
theorem g_dup_x2 (hΓ : gOK l Γ E X y cc nL ret d mc ms post) {v w x : Value} (hv : v.category = 1) (hw : w.category = 1) (hx : x.category = 1) (hd : decode cc pc = .ok (.dup_x2, 1)) (k : gW Γ E M cells slots (pc + 1) lv (v :: w :: x :: v :: st)) : gW Γ E M cells slots pc lv (v :: w :: x :: st) := fun H locs ls hP hS hl => lv_dup_x2 hΓ.1 hΓ.2.1 hd hv hw hx (k H locs ls hP hS hl)
theorem g_dup2 (hΓ : gOK l Γ E X y cc nL ret d mc ms post) {v w : Value} (hv : v.category = 1) (hw : w.category = 1) (hd : decode cc pc = .ok (.dup2, 1)) (k : gW Γ E M cells slots (pc + 1) lv (v :: w :: v :: w :: st)) : gW Γ E M cells slots pc lv (v :: w :: st) := fun H locs ls hP hS hl => lv_dup2_11 hΓ.1 hΓ.2.1 hd hv hw (k H locs ls hP hS hl)
theorem g_icmp_eq (hΓ : gOK l Γ E X y cc nL ret d mc ms post) {a b : Int} {off : Int} {tgt : Nat} (ha : r32 a) (hb : r32 b) (hd : decode cc pc = .ok (.if_icmp .eq off, 3)) (ht : (pc : Int) + off = (tgt : Int)) (kt : a = b → gW Γ E M cells slots tgt lv st) (kf : ¬ (a = b) → gW Γ E M cells slots (pc + 3) lv st) : gW Γ E M cells slots pc lv (.int (iI b) :: .int (iI a) :: st) := fun H locs ls hP hS hl => lv_icmp_eq hΓ.1 hΓ.2.1 hd ht (fun h => kt (by first | exact (iI_eq ha hb).mp h | exact fun q => h ((iI_eq ha hb).mpr q) | exact (iI_lt ha hb).mp h | exact (iI_le hb ha).mp h | exact (iI_lt hb ha).mp h | exact (iI_le ha hb).mp h) H locs ls hP hS hl) (fun h => kf (by first | exact (iI_eq ha hb).mp h | exact fun q => h ((iI_eq ha hb).mpr q) | exact fun q => h (fun z => q ((iI_eq ha hb).mp z)) | exact fun q => h ((iI_lt ha hb).mpr q) | exact fun q => h ((iI_le hb ha).mpr q) | exact fun q => h ((iI_lt hb ha).mpr q) | exact fun q => h ((iI_le ha hb).mpr q)) H locs ls hP hS hl)
theorem g_if_eq (hΓ : gOK l Γ E X y cc nL ret d mc ms post) {a : Int} {off : Int} {tgt : Nat} (ha : r32 a) (hd : decode cc pc = .ok (.ifCond .eq off, 3)) (ht : (pc : Int) + off = (tgt : Int)) (kt : a = 0 → gW Γ E M cells slots tgt lv st) (kf : ¬ (a = 0) → gW Γ E M cells slots (pc + 3) lv st) : gW Γ E M cells slots pc lv (.int (iI a) :: st) := fun H locs ls hP hS hl => by
  have hb : r32 0 := ⟨by decide, by decide⟩
  exact lv_if_eq hΓ.1 hΓ.2.1 hd ht (fun h => kt (by first | exact (iI_eq ha hb).mp h | exact fun q => h ((iI_eq ha hb).mpr q) | exact (iI_lt ha hb).mp h | exact (iI_le hb ha).mp h | exact (iI_lt hb ha).mp h | exact (iI_le ha hb).mp h) H locs ls hP hS hl) (fun h => kf (by first | exact (iI_eq ha hb).mp h | exact fun q => h ((iI_eq ha hb).mpr q) | exact fun q => h (fun z => q ((iI_eq ha hb).mp z)) | exact fun q => h ((iI_lt ha hb).mpr q) | exact fun q => h ((iI_le hb ha).mpr q) | exact fun q => h ((iI_lt hb ha).mpr q) | exact fun q => h ((iI_le ha hb).mpr q)) H locs ls hP hS hl)
theorem g_icmp_ne (hΓ : gOK l Γ E X y cc nL ret d mc ms post) {a b : Int} {off : Int} {tgt : Nat} (ha : r32 a) (hb : r32 b) (hd : decode cc pc = .ok (.if_icmp .ne off, 3)) (ht : (pc : Int) + off = (tgt : Int)) (kt : a ≠ b → gW Γ E M cells slots tgt lv st) (kf : a = b → gW Γ E M cells slots (pc + 3) lv st) : gW Γ E M cells slots pc lv (.int (iI b) :: .int (iI a) :: st) := fun H locs ls hP hS hl => lv_icmp_ne hΓ.1 hΓ.2.1 hd ht (fun h => kt (by first | exact (iI_eq ha hb).mp h | exact fun q => h ((iI_eq ha hb).mpr q) | exact (iI_lt ha hb).mp h | exact (iI_le hb ha).mp h | exact (iI_lt hb ha).mp h | exact (iI_le ha hb).mp h) H locs ls hP hS hl) (fun h => kf (by first | exact (iI_eq ha hb).mp h | exact fun q => h ((iI_eq ha hb).mpr q) | exact fun q => h (fun z => q ((iI_eq ha hb).mp z)) | exact fun q => h ((iI_lt ha hb).mpr q) | exact fun q => h ((iI_le hb ha).mpr q) | exact fun q => h ((iI_lt hb ha).mpr q) | exact fun q => h ((iI_le ha hb).mpr q)) H locs ls hP hS hl)
theorem g_if_ne (hΓ : gOK l Γ E X y cc nL ret d mc ms post) {a : Int} {off : Int} {tgt : Nat} (ha : r32 a) (hd : decode cc pc = .ok (.ifCond .ne off, 3)) (ht : (pc : Int) + off = (tgt : Int)) (kt : a ≠ 0 → gW Γ E M cells slots tgt lv st) (kf : a = 0 → gW Γ E M cells slots (pc + 3) lv st) : gW Γ E M cells slots pc lv (.int (iI a) :: st) := fun H locs ls hP hS hl => by
  have hb : r32 0 := ⟨by decide, by decide⟩
  exact lv_if_ne hΓ.1 hΓ.2.1 hd ht (fun h => kt (by first | exact (iI_eq ha hb).mp h | exact fun q => h ((iI_eq ha hb).mpr q) | exact (iI_lt ha hb).mp h | exact (iI_le hb ha).mp h | exact (iI_lt hb ha).mp h | exact (iI_le ha hb).mp h) H locs ls hP hS hl) (fun h => kf (by first | exact (iI_eq ha hb).mp h | exact fun q => h ((iI_eq ha hb).mpr q) | exact fun q => h (fun z => q ((iI_eq ha hb).mp z)) | exact fun q => h ((iI_lt ha hb).mpr q) | exact fun q => h ((iI_le hb ha).mpr q) | exact fun q => h ((iI_lt hb ha).mpr q) | exact fun q => h ((iI_le ha hb).mpr q)) H locs ls hP hS hl)
theorem g_icmp_lt (hΓ : gOK l Γ E X y cc nL ret d mc ms post) {a b : Int} {off : Int} {tgt : Nat} (ha : r32 a) (hb : r32 b) (hd : decode cc pc = .ok (.if_icmp .lt off, 3)) (ht : (pc : Int) + off = (tgt : Int)) (kt : a < b → gW Γ E M cells slots tgt lv st) (kf : ¬ (a < b) → gW Γ E M cells slots (pc + 3) lv st) : gW Γ E M cells slots pc lv (.int (iI b) :: .int (iI a) :: st) := fun H locs ls hP hS hl => lv_icmp_lt hΓ.1 hΓ.2.1 hd ht (fun h => kt (by first | exact (iI_eq ha hb).mp h | exact fun q => h ((iI_eq ha hb).mpr q) | exact (iI_lt ha hb).mp h | exact (iI_le hb ha).mp h | exact (iI_lt hb ha).mp h | exact (iI_le ha hb).mp h) H locs ls hP hS hl) (fun h => kf (by first | exact (iI_eq ha hb).mp h | exact fun q => h ((iI_eq ha hb).mpr q) | exact fun q => h (fun z => q ((iI_eq ha hb).mp z)) | exact fun q => h ((iI_lt ha hb).mpr q) | exact fun q => h ((iI_le hb ha).mpr q) | exact fun q => h ((iI_lt hb ha).mpr q) | exact fun q => h ((iI_le ha hb).mpr q)) H locs ls hP hS hl)
theorem g_if_lt (hΓ : gOK l Γ E X y cc nL ret d mc ms post) {a : Int} {off : Int} {tgt : Nat} (ha : r32 a) (hd : decode cc pc = .ok (.ifCond .lt off, 3)) (ht : (pc : Int) + off = (tgt : Int)) (kt : a < 0 → gW Γ E M cells slots tgt lv st) (kf : ¬ (a < 0) → gW Γ E M cells slots (pc + 3) lv st) : gW Γ E M cells slots pc lv (.int (iI a) :: st) := fun H locs ls hP hS hl => by
  have hb : r32 0 := ⟨by decide, by decide⟩
  exact lv_if_lt hΓ.1 hΓ.2.1 hd ht (fun h => kt (by first | exact (iI_eq ha hb).mp h | exact fun q => h ((iI_eq ha hb).mpr q) | exact (iI_lt ha hb).mp h | exact (iI_le hb ha).mp h | exact (iI_lt hb ha).mp h | exact (iI_le ha hb).mp h) H locs ls hP hS hl) (fun h => kf (by first | exact (iI_eq ha hb).mp h | exact fun q => h ((iI_eq ha hb).mpr q) | exact fun q => h (fun z => q ((iI_eq ha hb).mp z)) | exact fun q => h ((iI_lt ha hb).mpr q) | exact fun q => h ((iI_le hb ha).mpr q) | exact fun q => h ((iI_lt hb ha).mpr q) | exact fun q => h ((iI_le ha hb).mpr q)) H locs ls hP hS hl)
theorem g_icmp_ge (hΓ : gOK l Γ E X y cc nL ret d mc ms post) {a b : Int} {off : Int} {tgt : Nat} (ha : r32 a) (hb : r32 b) (hd : decode cc pc = .ok (.if_icmp .ge off, 3)) (ht : (pc : Int) + off = (tgt : Int)) (kt : b ≤ a → gW Γ E M cells slots tgt lv st) (kf : ¬ (b ≤ a) → gW Γ E M cells slots (pc + 3) lv st) : gW Γ E M cells slots pc lv (.int (iI b) :: .int (iI a) :: st) := fun H locs ls hP hS hl => lv_icmp_ge hΓ.1 hΓ.2.1 hd ht (fun h => kt (by first | exact (iI_eq ha hb).mp h | exact fun q => h ((iI_eq ha hb).mpr q) | exact (iI_lt ha hb).mp h | exact (iI_le hb ha).mp h | exact (iI_lt hb ha).mp h | exact (iI_le ha hb).mp h) H locs ls hP hS hl) (fun h => kf (by first | exact (iI_eq ha hb).mp h | exact fun q => h ((iI_eq ha hb).mpr q) | exact fun q => h (fun z => q ((iI_eq ha hb).mp z)) | exact fun q => h ((iI_lt ha hb).mpr q) | exact fun q => h ((iI_le hb ha).mpr q) | exact fun q => h ((iI_lt hb ha).mpr q) | exact fun q => h ((iI_le ha hb).mpr q)) H locs ls hP hS hl)
theorem g_if_ge (hΓ : gOK l Γ E X y cc nL ret d mc ms post) {a : Int} {off : Int} {tgt : Nat} (ha : r32 a) (hd : decode cc pc = .ok (.ifCond .ge off, 3)) (ht : (pc : Int) + off = (tgt : Int)) (kt : 0 ≤ a → gW Γ E M cells slots tgt lv st) (kf : ¬ (0 ≤ a) → gW Γ E M cells slots (pc + 3) lv st) : gW Γ E M cells slots pc lv (.int (iI a) :: st) := fun H locs ls hP hS hl => by
  have hb : r32 0 := ⟨by decide, by decide⟩
  exact lv_if_ge hΓ.1 hΓ.2.1 hd ht (fun h => kt (by first | exact (iI_eq ha hb).mp h | exact fun q => h ((iI_eq ha hb).mpr q) | exact (iI_lt ha hb).mp h | exact (iI_le hb ha).mp h | exact (iI_lt hb ha).mp h | exact (iI_le ha hb).mp h) H locs ls hP hS hl) (fun h => kf (by first | exact (iI_eq ha hb).mp h | exact fun q => h ((iI_eq ha hb).mpr q) | exact fun q => h (fun z => q ((iI_eq ha hb).mp z)) | exact fun q => h ((iI_lt ha hb).mpr q) | exact fun q => h ((iI_le hb ha).mpr q) | exact fun q => h ((iI_lt hb ha).mpr q) | exact fun q => h ((iI_le ha hb).mpr q)) H locs ls hP hS hl)
theorem g_icmp_gt (hΓ : gOK l Γ E X y cc nL ret d mc ms post) {a b : Int} {off : Int} {tgt : Nat} (ha : r32 a) (hb : r32 b) (hd : decode cc pc = .ok (.if_icmp .gt off, 3)) (ht : (pc : Int) + off = (tgt : Int)) (kt : b < a → gW Γ E M cells slots tgt lv st) (kf : ¬ (b < a) → gW Γ E M cells slots (pc + 3) lv st) : gW Γ E M cells slots pc lv (.int (iI b) :: .int (iI a) :: st) := fun H locs ls hP hS hl => lv_icmp_gt hΓ.1 hΓ.2.1 hd ht (fun h => kt (by first | exact (iI_eq ha hb).mp h | exact fun q => h ((iI_eq ha hb).mpr q) | exact (iI_lt ha hb).mp h | exact (iI_le hb ha).mp h | exact (iI_lt hb ha).mp h | exact (iI_le ha hb).mp h) H locs ls hP hS hl) (fun h => kf (by first | exact (iI_eq ha hb).mp h | exact fun q => h ((iI_eq ha hb).mpr q) | exact fun q => h (fun z => q ((iI_eq ha hb).mp z)) | exact fun q => h ((iI_lt ha hb).mpr q) | exact fun q => h ((iI_le hb ha).mpr q) | exact fun q => h ((iI_lt hb ha).mpr q) | exact fun q => h ((iI_le ha hb).mpr q)) H locs ls hP hS hl)
theorem g_if_gt (hΓ : gOK l Γ E X y cc nL ret d mc ms post) {a : Int} {off : Int} {tgt : Nat} (ha : r32 a) (hd : decode cc pc = .ok (.ifCond .gt off, 3)) (ht : (pc : Int) + off = (tgt : Int)) (kt : 0 < a → gW Γ E M cells slots tgt lv st) (kf : ¬ (0 < a) → gW Γ E M cells slots (pc + 3) lv st) : gW Γ E M cells slots pc lv (.int (iI a) :: st) := fun H locs ls hP hS hl => by
  have hb : r32 0 := ⟨by decide, by decide⟩
  exact lv_if_gt hΓ.1 hΓ.2.1 hd ht (fun h => kt (by first | exact (iI_eq ha hb).mp h | exact fun q => h ((iI_eq ha hb).mpr q) | exact (iI_lt ha hb).mp h | exact (iI_le hb ha).mp h | exact (iI_lt hb ha).mp h | exact (iI_le ha hb).mp h) H locs ls hP hS hl) (fun h => kf (by first | exact (iI_eq ha hb).mp h | exact fun q => h ((iI_eq ha hb).mpr q) | exact fun q => h (fun z => q ((iI_eq ha hb).mp z)) | exact fun q => h ((iI_lt ha hb).mpr q) | exact fun q => h ((iI_le hb ha).mpr q) | exact fun q => h ((iI_lt hb ha).mpr q) | exact fun q => h ((iI_le ha hb).mpr q)) H locs ls hP hS hl)
theorem g_icmp_le (hΓ : gOK l Γ E X y cc nL ret d mc ms post) {a b : Int} {off : Int} {tgt : Nat} (ha : r32 a) (hb : r32 b) (hd : decode cc pc = .ok (.if_icmp .le off, 3)) (ht : (pc : Int) + off = (tgt : Int)) (kt : a ≤ b → gW Γ E M cells slots tgt lv st) (kf : ¬ (a ≤ b) → gW Γ E M cells slots (pc + 3) lv st) : gW Γ E M cells slots pc lv (.int (iI b) :: .int (iI a) :: st) := fun H locs ls hP hS hl => lv_icmp_le hΓ.1 hΓ.2.1 hd ht (fun h => kt (by first | exact (iI_eq ha hb).mp h | exact fun q => h ((iI_eq ha hb).mpr q) | exact (iI_lt ha hb).mp h | exact (iI_le hb ha).mp h | exact (iI_lt hb ha).mp h | exact (iI_le ha hb).mp h) H locs ls hP hS hl) (fun h => kf (by first | exact (iI_eq ha hb).mp h | exact fun q => h ((iI_eq ha hb).mpr q) | exact fun q => h (fun z => q ((iI_eq ha hb).mp z)) | exact fun q => h ((iI_lt ha hb).mpr q) | exact fun q => h ((iI_le hb ha).mpr q) | exact fun q => h ((iI_lt hb ha).mpr q) | exact fun q => h ((iI_le ha hb).mpr q)) H locs ls hP hS hl)
theorem g_if_le (hΓ : gOK l Γ E X y cc nL ret d mc ms post) {a : Int} {off : Int} {tgt : Nat} (ha : r32 a) (hd : decode cc pc = .ok (.ifCond .le off, 3)) (ht : (pc : Int) + off = (tgt : Int)) (kt : a ≤ 0 → gW Γ E M cells slots tgt lv st) (kf : ¬ (a ≤ 0) → gW Γ E M cells slots (pc + 3) lv st) : gW Γ E M cells slots pc lv (.int (iI a) :: st) := fun H locs ls hP hS hl => by
  have hb : r32 0 := ⟨by decide, by decide⟩
  exact lv_if_le hΓ.1 hΓ.2.1 hd ht (fun h => kt (by first | exact (iI_eq ha hb).mp h | exact fun q => h ((iI_eq ha hb).mpr q) | exact (iI_lt ha hb).mp h | exact (iI_le hb ha).mp h | exact (iI_lt hb ha).mp h | exact (iI_le ha hb).mp h) H locs ls hP hS hl) (fun h => kf (by first | exact (iI_eq ha hb).mp h | exact fun q => h ((iI_eq ha hb).mpr q) | exact fun q => h (fun z => q ((iI_eq ha hb).mp z)) | exact fun q => h ((iI_lt ha hb).mpr q) | exact fun q => h ((iI_le hb ha).mpr q) | exact fun q => h ((iI_lt hb ha).mpr q) | exact fun q => h ((iI_le ha hb).mpr q)) H locs ls hP hS hl)
theorem g_goto (hΓ : gOK l Γ E X y cc nL ret d mc ms post) {off : Int} {tgt : Nat} (hd : decode cc pc = .ok (.goto off, 3)) (ht : (pc : Int) + off = (tgt : Int)) (k : gW Γ E M cells slots tgt lv st) : gW Γ E M cells slots pc lv st := fun H locs ls hP hS hl => lv_goto hΓ.1 hΓ.2.1 hd ht (k H locs ls hP hS hl)
theorem g_ifB_eq (hΓ : gOK l Γ E X y cc nL ret d mc ms post) {P : Prop} [Decidable P] {off : Int} {tgt : Nat} (hd : decode cc pc = .ok (.ifCond .eq off, 3)) (ht : (pc : Int) + off = (tgt : Int)) (kt : ¬ P → gW Γ E M cells slots tgt lv st) (kf : P → gW Γ E M cells slots (pc + 3) lv st) : gW Γ E M cells slots pc lv (.int (iI (if P then 1 else 0)) :: st) := by
  by_cases hP : P
  · rw [if_pos hP]
    exact g_if_eq hΓ ⟨by decide, by decide⟩ hd ht (fun h => by first | exact absurd h (by decide) | exact kt hP) (fun h => by first | exact kf hP | exact absurd h (by decide))
  · rw [if_neg hP]
    exact g_if_eq hΓ ⟨by decide, by decide⟩ hd ht (fun h => by first | exact kt hP | exact absurd rfl h) (fun h => by first | exact kf hP | exact absurd rfl h)
theorem g_ifB_ne (hΓ : gOK l Γ E X y cc nL ret d mc ms post) {P : Prop} [Decidable P] {off : Int} {tgt : Nat} (hd : decode cc pc = .ok (.ifCond .ne off, 3)) (ht : (pc : Int) + off = (tgt : Int)) (kt : P → gW Γ E M cells slots tgt lv st) (kf : ¬ P → gW Γ E M cells slots (pc + 3) lv st) : gW Γ E M cells slots pc lv (.int (iI (if P then 1 else 0)) :: st) := by
  by_cases hP : P
  · rw [if_pos hP]
    exact g_if_ne hΓ ⟨by decide, by decide⟩ hd ht (fun h => by first | exact absurd h (by decide) | exact kt hP) (fun h => by first | exact kf hP | exact absurd h (by decide))
  · rw [if_neg hP]
    exact g_if_ne hΓ ⟨by decide, by decide⟩ hd ht (fun h => by first | exact kt hP | exact absurd rfl h) (fun h => by first | exact kf hP | exact absurd rfl h)
theorem g_idivN (hΓ : gOK l Γ E X y cc nL ret d mc ms post) {a b : Int} (ha : r32 a) (hb : r32 b) (h0 : 0 < b ∧ 0 ≤ a) (hd : decode cc pc = .ok (.idiv, 1)) (k : gW Γ E M cells slots (pc + 1) lv (.int (iI (a / b)) :: st)) : gW Γ E M cells slots pc lv (.int (iI b) :: .int (iI a) :: st) := fun H locs ls hP hS hl => by have h1 := h0.1; exact lv_idiv hΓ.1 hΓ.2.1 hd (fun h => by have := iI_inj hb ⟨by decide, by decide⟩ (h.trans iI_0.symm); omega) (by rw [iI_div ha hb (by omega), Int.tdiv_eq_ediv_of_nonneg h0.2]; exact k H locs ls hP hS hl)
theorem g_iremN (hΓ : gOK l Γ E X y cc nL ret d mc ms post) {a b : Int} (ha : r32 a) (hb : r32 b) (h0 : 0 < b ∧ 0 ≤ a) (hd : decode cc pc = .ok (.irem, 1)) (k : gW Γ E M cells slots (pc + 1) lv (.int (iI (a % b)) :: st)) : gW Γ E M cells slots pc lv (.int (iI b) :: .int (iI a) :: st) := fun H locs ls hP hS hl => by have h1 := h0.1; exact lv_irem hΓ.1 hΓ.2.1 hd (fun h => by have := iI_inj hb ⟨by decide, by decide⟩ (h.trans iI_0.symm); omega) (by rw [iI_rem ha hb (by omega), Int.tmod_eq_emod_of_nonneg h0.2]; exact k H locs ls hP hS hl)
theorem g_ldivN (hΓ : gOK l Γ E X y cc nL ret d mc ms post) {a b : Int} (ha : r64 a) (hb : r64 b) (h0 : 0 < b ∧ 0 ≤ a) (hd : decode cc pc = .ok (.ldiv, 1)) (k : gW Γ E M cells slots (pc + 1) lv (.long (lI (a / b)) :: st)) : gW Γ E M cells slots pc lv (.long (lI b) :: .long (lI a) :: st) := fun H locs ls hP hS hl => by have h1 := h0.1; exact lv_ldiv hΓ.1 hΓ.2.1 hd (fun h => by have := (lI_eq (b := 0) hb ⟨by decide, by decide⟩).mp (h.trans (rfl : (0 : Int64) = lI 0)); omega) (by rw [lI_div ha hb h1, Int.tdiv_eq_ediv_of_nonneg h0.2]; exact k H locs ls hP hS hl)
theorem g_lremN (hΓ : gOK l Γ E X y cc nL ret d mc ms post) {a b : Int} (ha : r64 a) (hb : r64 b) (h0 : 0 < b ∧ 0 ≤ a) (hd : decode cc pc = .ok (.lrem, 1)) (k : gW Γ E M cells slots (pc + 1) lv (.long (lI (a % b)) :: st)) : gW Γ E M cells slots pc lv (.long (lI b) :: .long (lI a) :: st) := fun H locs ls hP hS hl => by have h1 := h0.1; exact lv_lrem hΓ.1 hΓ.2.1 hd (fun h => by have := (lI_eq (b := 0) hb ⟨by decide, by decide⟩).mp (h.trans (rfl : (0 : Int64) = lI 0)); omega) (by rw [lI_rem ha hb h1, Int.tmod_eq_emod_of_nonneg h0.2]; exact k H locs ls hP hS hl)
theorem g_tswOut (hΓ : gOK l Γ E X y cc nL ret d mc ms post) {a dflt lo hi : Int} {offs : Array Int} {len tgt : Nat} (ha : r32 a) (hd : decode cc pc = .ok (.tableswitch dflt lo hi offs, len)) (h : a < lo ∨ hi < a) (ht : (pc : Int) + dflt = (tgt : Int)) (k : gW Γ E M cells slots tgt lv st) : gW Γ E M cells slots pc lv (.int (iI a) :: st) := fun H locs ls hP hS hl => lv_tableOut hΓ.1 hΓ.2.1 hd (by rw [iI_toInt ha]; exact h) ht (k H locs ls hP hS hl)
theorem g_tswIn (hΓ : gOK l Γ E X y cc nL ret d mc ms post) {a dflt lo hi off : Int} {offs : Array Int} {len tgt : Nat} (ha : r32 a) (i : Nat) (hd : decode cc pc = .ok (.tableswitch dflt lo hi offs, len)) (h : a = lo + i) (h2 : lo + i ≤ hi) (ho : offs[i]? = some off) (ht : (pc : Int) + off = (tgt : Int)) (k : gW Γ E M cells slots tgt lv st) : gW Γ E M cells slots pc lv (.int (iI a) :: st) := fun H locs ls hP hS hl => lv_tableIn hΓ.1 hΓ.2.1 hd (by rw [iI_toInt ha]; omega) (by rw [iI_toInt ha]; omega) (by rw [iI_toInt ha, h, show (lo + (i : Int) - lo).toNat = i by omega]; exact ho) ht (k H locs ls hP hS hl)
theorem g_iret (hΓ : gOK l Γ E X y cc nL (some .int) d mc ms post) {a : Int} (hd : decode cc pc = .ok (.ireturn, 1)) (hq : post (some (.int (iI a))) M) (hc : cells ≤ mc) (hs : slots ≤ ms) : gW Γ E M cells slots pc lv [.int (iI a)] := fun H locs ls hP hS hl => by
  exact W.widen hc hs (wQ_mono hΓ.2.2.2.2.2.2.2.2.2.2.1 (W.iret hΓ.1 hΓ.2.1 hΓ.2.2.1 (fun t ht hW => ⟨⟨_, M, rfl, hq, by rw [ht]; exact hP⟩, hS.F ht⟩) hS.2.2 hd hΓ.2.2.2.1))
theorem g_zret (hΓ : gOK l Γ E X y cc nL (some .boolean) d mc ms post) {a : Int} (ha : a = 0 ∨ a = 1) (hd : decode cc pc = .ok (.ireturn, 1)) (hq : post (some (.int (iI a))) M) (hc : cells ≤ mc) (hs : slots ≤ ms) : gW Γ E M cells slots pc lv [.int (iI a)] := fun H locs ls hP hS hl => by
  exact W.widen hc hs (wQ_mono hΓ.2.2.2.2.2.2.2.2.2.2.1 (W.zret hΓ.1 hΓ.2.1 hΓ.2.2.1 (by rcases ha with rfl | rfl <;> rfl) (fun t ht hW => ⟨⟨_, M, rfl, hq, by rw [ht]; exact hP⟩, hS.F ht⟩) hS.2.2 hd hΓ.2.2.2.1))
theorem g_vret (hΓ : gOK l Γ E X y cc nL none d mc ms post) (hd : decode cc pc = .ok (.return_, 1)) (hq : post none M) (hc : cells ≤ mc) (hs : slots ≤ ms) : gW Γ E M cells slots pc lv [] := fun H locs ls hP hS hl => by
  exact W.widen hc hs (wQ_mono hΓ.2.2.2.2.2.2.2.2.2.2.1 (W.vret hΓ.1 hΓ.2.1 hΓ.2.2.1 (fun t ht hW => ⟨⟨_, M, rfl, hq, by rw [ht]; exact hP⟩, hS.F ht⟩) hS.2.2 hd hΓ.2.2.2.1))
theorem g_aret {rt : FieldType} (hΓ : gOK l Γ E X y cc nL (some rt) d mc ms post) {v : Value} (hrt : (∃ n, rt = .object n) ∨ ∃ t, rt = .array t) (hv : v = .null ∨ ∃ a, v = .ref a) (hd : decode cc pc = .ok (.areturn, 1)) (hq : post (some v) M) (hc : cells ≤ mc) (hs : slots ≤ ms) : gW Γ E M cells slots pc lv [v] := fun H locs ls hP hS hl => by
  exact W.widen hc hs (wQ_mono hΓ.2.2.2.2.2.2.2.2.2.2.1 (W.aret hΓ.1 hΓ.2.1 hΓ.2.2.1 hrt hv (fun t ht hW => ⟨⟨_, M, rfl, hq, by rw [ht]; exact hP⟩, hS.F ht⟩) hS.2.2 hd hΓ.2.2.2.1))
theorem g_to {M' : wM} (h : M = M') (k : gW Γ E M' cells slots pc lv st) : gW Γ E M cells slots pc lv st := by rw [h]; exact k
theorem g_top {x : Int32} {a : Int} (h : x = iI a) (k : gW Γ E M cells slots pc lv (.int (iI a) :: st)) : gW Γ E M cells slots pc lv (.int x :: st) := by rw [h]; exact k
theorem g_topi {a a' : Int} (h : a = a') (k : gW Γ E M cells slots pc lv (.int (iI a') :: st)) : gW Γ E M cells slots pc lv (.int (iI a) :: st) := by rw [h]; exact k
theorem g_lv {lw : List (Option Value)} (h : lv = lw) (k : gW Γ E M cells slots pc lw st) : gW Γ E M cells slots pc lv st := by rw [h]; exact k
theorem g_wid {c' s' : Nat} (hc : cells ≤ c') (hs : slots ≤ s') (k : gW Γ E M c' s' pc lv st) : gW Γ E M cells slots pc lv st := fun H locs ls hP hS hl => W.widen hc hs (k H locs ls hP hS hl)
def lvle : List (Option Value) → List (Option Value) → Prop
  | [], [] => True
  | none :: a, _ :: b => lvle a b
  | some v :: a, some w :: b => v = w ∧ lvle a b
  | _, _ => False
theorem lvle_at : ∀ {a b : List (Option Value)}, lvle a b → a.length = b.length ∧ ∀ (i : Nat) (v : Value), a[i]? = some (some v) → b[i]? = some (some v)
  | [], [], _ => ⟨rfl, fun i v h => by simp at h⟩
  | [], _ :: _, h => by simp [lvle] at h
  | none :: a, [], h => by simp [lvle] at h
  | some _ :: a, [], h => by simp [lvle] at h
  | some _ :: a, none :: b, h => by simp [lvle] at h
  | none :: a, x :: b, h => by
    have h1 := lvle_at (a := a) (b := b) (by simpa [lvle] using h)
    refine ⟨by simp [h1.1], fun i v hv => ?_⟩
    cases i with
    | zero => simp at hv
    | succ i => simpa using h1.2 i v (by simpa using hv)
  | some v :: a, some w :: b, h => by
    have h0 : v = w ∧ lvle a b := by simpa [lvle] using h
    have h1 := lvle_at h0.2
    refine ⟨by simp [h1.1], fun i v' hv => ?_⟩
    cases i with
    | zero => rw [← h0.1]; simpa using hv
    | succ i => simpa using h1.2 i v' (by simpa using hv)
theorem g_lvw (h : lvle lv' lv) (k : gW Γ E M cells slots pc lv' st) : gW Γ E M cells slots pc lv st := fun H locs ls hP hS hl => k H locs ls hP hS ⟨by rw [(lvle_at h).1]; exact hl.1, hl.2.1, fun q hq => by
    obtain ⟨j, h1, h2⟩ := lvp_mem.mp hq
    exact hl.2.2 q (lvp_mem.mpr ⟨j, h1, (lvle_at h).2 j q.2 h2⟩)⟩
theorem g_getf (hΓ : gOK l Γ E X y cc nL ret d mc ms post) {C ref : String} {T : u_T} {N ci ix a : Nat} {fs : List Value} {v : Value} (hin : ∀ w ∈ u_ws C T N, w ∈ lw_all) (hM : M a = some (.inr (ci, fs))) (hc : E.2.1[ci]? = some (C, T, N)) (k : Nat) (hk : k < N) {own : String} (ho : own = y.cls) (hlink : Cond.fieldLink own ix ref (T k).2.1 (T k).2.2.1 ∈ lw_all) (hsame : ref = (T k).1) (hv : fs[k]? = some v) (hd : decode cc pc = .ok (.getfield ix, 3)) (kk : gW Γ E M cells slots (pc + 3) lv (v :: st)) : gW Γ E M cells slots pc lv (.ref a :: st) := fun H locs ls hP hS hl => va_get hΓ.1 hΓ.2.1 (own := own) hΓ.2.2.2.2.2.2.1 hin (by rw [ho]; exact hΓ.2.2.2.2.2.1) hΓ.2.2.2.2.2.2.2.1 (hP.one hM) 0 rfl hc k hk (hΓ.2.2.2.2.2.2.1 _ hlink) (fun x hx => by rw [hsame]; exact hx) hv hd (kk H locs ls hP hS hl)
theorem g_putf (hΓ : gOK l Γ E X y cc nL ret d mc ms post) {C ref : String} {T : u_T} {N ci ix a : Nat} {fs : List Value} {v : Value} (hin : ∀ w ∈ u_ws C T N, w ∈ lw_all) (ty0 : Nat → FieldType) (hty : ∀ k, k < N → parseFieldDescriptor (T k).2.2.1 = some (ty0 k)) (hnm : ∀ a, a < N → ∀ b, b < N → a ≠ b → (T a).2.1 ≠ (T b).2.1) (hM : M a = some (.inr (ci, fs))) (hc : E.2.1[ci]? = some (C, T, N)) (hA : E.2.2 a) (k : Nat) (hk : k < N) {own : String} (ho : own = y.cls) (hlink : Cond.fieldLink own ix ref (T k).2.1 (T k).2.2.1 ∈ lw_all) (hsame : ref = (T k).1) (hfin : (T k).2.2.2 = false) {ty : FieldType} (hdsc : parseFieldDescriptor (T k).2.2.1 = some ty) (hn : narrow ty v = v) (hfit : fits ty v = true) (hlen : k < fs.length) (hd : decode cc pc = .ok (.putfield ix, 3)) (kk : gW Γ E (wU M a (.inr (ci, fs.set k v))) cells slots (pc + 3) lv st) : gW Γ E M cells slots pc lv (v :: .ref a :: st) := by
  intro H locs ls hP hS hl
  have hK := hΓ.2.2.2.2.2.2.2.1
  have hts := hΓ.2.2.2.2.2.2.1
  have hown : Γ.2.2.2.2.1.vm.findClass own = some Γ.2.2.2.2.2.1.cls := by rw [ho]; exact hΓ.2.2.2.2.2.1
  have hap := va_apart (own := own) hts hin ty0 hty hnm hK hc
  obtain ⟨r, h1, cell, q1, q2, q3, q4⟩ := hP a _ hM
  have hr : r = (C, T, N) := Option.some.inj (h1.symm.trans hc)
  subst hr
  obtain ⟨hSl, hfc, kC, hkC, hkind⟩ := hK.1 ci _ hc
  obtain ⟨cf, kf, fi, f, hi, hsl⟩ := hSl k hk
  have hlay := hts _ (hin _ (u_in_lay hk))
  unfold u_lay at hlay
  have hst := (u_facts hfc hkC (u_lays hts hin hk) hi).1
  rw [if_neg (by rw [hfin]; decide)] at hlay
  have h6 := u_store hfc hkC hkind hlay hi hdsc hn hfit
  subst hsame
  refine W.putK hΓ.1 hΓ.2.1 (f := f) ⟨hown, hts _ hlink, ⟨_, _, _, hi⟩, hst⟩ (by rw [q2]; exact h6) q1 q3 (by rw [hsl]; exact k2_hasslot (q4 k hk)) rfl rfl hd fun H' e1 e2 e3 => ?_
  rw [hsl] at e1 ⊢
  exact kk H' _ ls (hP.set ⟨_, hc, t_OB.to (V := updV (vp_V fs) k v) ⟨_, e1, q2, q3, t_set q4 hap hk v⟩ (fun j _ => vp_updV_set hlen v j)⟩ e3) (hS.put e2 e3 hA) hl
theorem g_putF (hΓ : gOK l Γ E X y cc nL ret d mc ms post) {C ref : String} {T : u_T} {N ci ix a : Nat} {fs : List Value} {v : Value} (hin : ∀ w ∈ u_ws C T N, w ∈ lw_all) (ty0 : Nat → FieldType) (hty : ∀ k, k < N → parseFieldDescriptor (T k).2.2.1 = some (ty0 k)) (hnm : ∀ a, a < N → ∀ b, b < N → a ≠ b → (T a).2.1 ≠ (T b).2.1) (hM : M a = some (.inr (ci, fs))) (hc : E.2.1[ci]? = some (C, T, N)) (hA : E.2.2 a) (k : Nat) (hk : k < N) {own : String} (ho : own = y.cls) (hlink : Cond.fieldLink own ix ref (T k).2.1 (T k).2.2.1 ∈ lw_all) (hsame : ref = (T k).1) (hfin : (T k).2.2.2 = true) (hin2 : y.name = "<init>") (hdecl : (T k).1 = own) {ty : FieldType} (hdsc : parseFieldDescriptor (T k).2.2.1 = some ty) (hn : narrow ty v = v) (hfit : fits ty v = true) (hlen : k < fs.length) (hd : decode cc pc = .ok (.putfield ix, 3)) (kk : gW Γ E (wU M a (.inr (ci, fs.set k v))) cells slots (pc + 3) lv st) : gW Γ E M cells slots pc lv (v :: .ref a :: st) := by
  intro H locs ls hP hS hl
  have hK := hΓ.2.2.2.2.2.2.2.1
  have hts := hΓ.2.2.2.2.2.2.1
  have hown : Γ.2.2.2.2.1.vm.findClass own = some Γ.2.2.2.2.2.1.cls := by rw [ho]; exact hΓ.2.2.2.2.2.1
  have hap := va_apart (own := own) hts hin ty0 hty hnm hK hc
  obtain ⟨r, h1, cell, q1, q2, q3, q4⟩ := hP a _ hM
  have hr : r = (C, T, N) := Option.some.inj (h1.symm.trans hc)
  subst hr
  obtain ⟨hSl, hfc, kC, hkC, hkind⟩ := hK.1 ci _ hc
  obtain ⟨cf, kf, fi, f, hi, hsl⟩ := hSl k hk
  have hlay := hts _ (hin _ (u_in_lay hk))
  unfold u_lay at hlay
  have hst := (u_facts hfc hkC (u_lays hts hin hk) hi).1
  rw [if_pos hfin] at hlay
  have hcf : Γ.2.2.2.2.2.1.cls = cf := by
    obtain ⟨_, _, c', _, _, _, -, -, hf', -, -, -, hown2, -⟩ := Cond.laysFinal_spec hlay
    have e1 : c' = cf := by have := hi.symm.trans hf'; simp at this; exact this.1.symm
    rw [hdecl] at hown2
    rw [← e1]; exact Option.some.inj (hown.symm.trans hown2)
  have h6 := u_fits hfc hkC hkind (Or.inr hlay) hi hdsc hn hfit
  subst hsame
  refine W.putFinK hΓ.1 hΓ.2.1 hown (hts _ hlink) hi hst hcf (hΓ.2.2.2.2.2.2.2.2.2.2.2.2.trans hin2) (by rw [q2]; exact h6) q1 q3 (by rw [hsl]; exact k2_hasslot (q4 k hk)) rfl rfl hd fun H' e1 e2 e3 => ?_
  rw [hsl] at e1 ⊢
  exact kk H' _ ls (hP.set ⟨_, hc, t_OB.to (V := updV (vp_V fs) k v) ⟨_, e1, q2, q3, t_set q4 hap hk v⟩ (fun j _ => vp_updV_set hlen v j)⟩ e3) (hS.put e2 e3 hA) hl
theorem iI_in {i : Int} {n : Nat} (h0 : 0 ≤ i) (h1 : i < (n : Int)) (h2 : i < 2147483648) : vp_in (iI i) n := by
  rw [vp_in_iff, iI_toInt ⟨by omega, h2⟩]
  exact ⟨h0, h1⟩
theorem iI_cl {i : Int} (h0 : 0 ≤ i) (h2 : i < 2147483648) : ((iI i).toNatClampNeg : Int) = i := by
  rw [Int32.toNatClampNeg, iI_toInt ⟨by omega, h2⟩]
  exact Int.toNat_of_nonneg h0
theorem iI_fold {i : Int} (h0 : 0 ≤ i) (h2 : i < 2147483648) (f : Int → Int) : iI (f ((iI i).toNatClampNeg : Int)) = iI (f i) := by rw [iI_cl h0 h2]
theorem g_iald (hΓ : gOK l Γ E X y cc nL ret d mc ms post) {a n : Nat} {f : Int → Int} {i : Int} (hM : M a = some (cAr E 0 n f)) (h0 : 0 ≤ i) (h1 : i < (n : Int)) (h2 : i < 2147483648) (hd : decode cc pc = .ok (.iaload, 1)) (k : gW Γ E M cells slots (pc + 1) lv (.int (iI (f i)) :: st)) : gW Γ E M cells slots pc lv (.int (iI i) :: .ref a :: st) := fun H locs ls hP hS hl => va_iald hΓ.1 hΓ.2.1 hΓ.2.2.2.2.2.2.2.1 (hP.one hM) 0 0 rfl rfl (iI_in h0 h1 h2) hd (by rw [iI_fold h0 h2]; exact k H locs ls hP hS hl)
theorem g_cald (hΓ : gOK l Γ E X y cc nL ret d mc ms post) {a n : Nat} {f : Int → Int} {i : Int} (hM : M a = some (cAr E 1 n f)) (h0 : 0 ≤ i) (h1 : i < (n : Int)) (h2 : i < 2147483648) (hd : decode cc pc = .ok (.caload, 1)) (k : gW Γ E M cells slots (pc + 1) lv (.int (iI (f i)) :: st)) : gW Γ E M cells slots pc lv (.int (iI i) :: .ref a :: st) := fun H locs ls hP hS hl => va_cald hΓ.1 hΓ.2.1 hΓ.2.2.2.2.2.2.2.1 (hP.one hM) 0 1 rfl rfl (iI_in h0 h1 h2) hd (by rw [iI_fold h0 h2]; exact k H locs ls hP hS hl)
theorem g_bald (hΓ : gOK l Γ E X y cc nL ret d mc ms post) {a n : Nat} {f : Int → Int} {i : Int} (hM : M a = some (cAr E 2 n f)) (h0 : 0 ≤ i) (h1 : i < (n : Int)) (h2 : i < 2147483648) (hd : decode cc pc = .ok (.baload, 1)) (k : gW Γ E M cells slots (pc + 1) lv (.int (iI (f i)) :: st)) : gW Γ E M cells slots pc lv (.int (iI i) :: .ref a :: st) := fun H locs ls hP hS hl => va_bald hΓ.1 hΓ.2.1 hΓ.2.2.2.2.2.2.2.1 (hP.one hM) 0 2 rfl rfl (iI_in h0 h1 h2) hd (by rw [iI_fold h0 h2]; exact k H locs ls hP hS hl)
theorem g_zald (hΓ : gOK l Γ E X y cc nL ret d mc ms post) {a n : Nat} {f : Int → Int} {i : Int} (hM : M a = some (cAr E 3 n f)) (h0 : 0 ≤ i) (h1 : i < (n : Int)) (h2 : i < 2147483648) (hd : decode cc pc = .ok (.baload, 1)) (k : gW Γ E M cells slots (pc + 1) lv (.int (iI (f i)) :: st)) : gW Γ E M cells slots pc lv (.int (iI i) :: .ref a :: st) := fun H locs ls hP hS hl => va_zald hΓ.1 hΓ.2.1 hΓ.2.2.2.2.2.2.2.1 (hP.one hM) 0 3 rfl rfl (iI_in h0 h1 h2) hd (by rw [iI_fold h0 h2]; exact k H locs ls hP hS hl)
theorem g_iast (hΓ : gOK l Γ E X y cc nL ret d mc ms post) {a n : Nat} {f : Int → Int} {i x : Int} (hM : M a = some (cAr E 0 n f)) (hA : E.2.2 a) (h0 : 0 ≤ i) (h1 : i < (n : Int)) (h2 : i < 2147483648) (hd : decode cc pc = .ok (.iastore, 1)) (k : gW Γ E (wU M a (cAr E 0 n (up f i x))) cells slots (pc + 1) lv st) : gW Γ E M cells slots pc lv (.int (iI x) :: .int (iI i) :: .ref a :: st) := by
  intro H locs ls hP hS hl
  refine W.iast hΓ.1 hΓ.2.1 (hP a _ hM) ((hΓ.2.2.2.2.2.2.2.1.2 0 _ rfl).1 n (fun j => .int (iI (f (j : Int))))) (fun q => by cases q) (by show ¬ ((iI i) < 0 ∨ (arrV _ _ _).slots.size ≤ _); rw [arrV_size]; exact iI_in h0 h1 h2) rfl rfl hd fun H1 e z oq => ?_
  refine k H1 _ ls (hP.set ?_ oq) (hS.put z oq hA) hl
  show H1[a]? = some (vp_cell _ _)
  rw [e]
  rw [vp_cell_i, vp_cell_i, arrV_store]
  congr 2
  funext q
  have hcl := iI_cl h0 h2
  by_cases hq : q = (iI i).toNatClampNeg
  · subst hq
    simp only [updV, up, hcl, if_true]
  · have hq2 : ¬ ((q : Int) = i) := fun z => hq (by omega)
    simp only [updV, up, hq, hq2, if_false]
theorem g_cast (hΓ : gOK l Γ E X y cc nL ret d mc ms post) {a n : Nat} {f : Int → Int} {i x : Int} (hM : M a = some (cAr E 1 n f)) (hA : E.2.2 a) (h0 : 0 ≤ i) (h1 : i < (n : Int)) (h2 : i < 2147483648) (hn : vp_nar .char (iI x) = iI x) (hd : decode cc pc = .ok (.castore, 1)) (k : gW Γ E (wU M a (cAr E 1 n (up f i x))) cells slots (pc + 1) lv st) : gW Γ E M cells slots pc lv (.int (iI x) :: .int (iI i) :: .ref a :: st) := by
  intro H locs ls hP hS hl
  refine W.cast hΓ.1 hΓ.2.1 (hP a _ hM) ((hΓ.2.2.2.2.2.2.2.1.2 1 _ rfl).1 n (fun j => .int (iI (f (j : Int))))) (fun q => by cases q) (by show ¬ ((iI i) < 0 ∨ (arrV _ _ _).slots.size ≤ _); rw [arrV_size]; exact iI_in h0 h1 h2) rfl rfl hd fun H1 e z oq => ?_
  refine k H1 _ ls (hP.set ?_ oq) (hS.put z oq hA) hl
  show H1[a]? = some (vp_cell _ _)
  rw [e]
  rw [vp_cell_i, vp_cell_i, arrV_store]
  congr 2
  funext q
  have hcl := iI_cl h0 h2
  by_cases hq : q = (iI i).toNatClampNeg
  · subst hq
    simp only [updV, up, hcl, if_true]
    first | exact hn | (show narrow _ _ = _; simp only [vp_nar] at hn; first | rw [hn] | (simp [narrow] at hn ⊢; exact hn))
  · have hq2 : ¬ ((q : Int) = i) := fun z => hq (by omega)
    simp only [updV, up, hq, hq2, if_false]
theorem g_bast (hΓ : gOK l Γ E X y cc nL ret d mc ms post) {a n : Nat} {f : Int → Int} {i x : Int} (hM : M a = some (cAr E 2 n f)) (hA : E.2.2 a) (h0 : 0 ≤ i) (h1 : i < (n : Int)) (h2 : i < 2147483648) (hn : vp_nar .byte (iI x) = iI x) (hd : decode cc pc = .ok (.bastore, 1)) (k : gW Γ E (wU M a (cAr E 2 n (up f i x))) cells slots (pc + 1) lv st) : gW Γ E M cells slots pc lv (.int (iI x) :: .int (iI i) :: .ref a :: st) := by
  intro H locs ls hP hS hl
  refine W.bast hΓ.1 hΓ.2.1 (hP a _ hM) ((hΓ.2.2.2.2.2.2.2.1.2 2 _ rfl).1 n (fun j => .int (iI (f (j : Int))))) (fun q => by cases q) (by show ¬ ((iI i) < 0 ∨ (arrV _ _ _).slots.size ≤ _); rw [arrV_size]; exact iI_in h0 h1 h2) rfl rfl hd fun H1 e z oq => ?_
  refine k H1 _ ls (hP.set ?_ oq) (hS.put z oq hA) hl
  show H1[a]? = some (vp_cell _ _)
  rw [e]
  rw [vp_cell_i, vp_cell_i, arrV_store]
  congr 2
  funext q
  have hcl := iI_cl h0 h2
  by_cases hq : q = (iI i).toNatClampNeg
  · subst hq
    simp only [updV, up, hcl, if_true]
    first | exact hn | (show narrow _ _ = _; simp only [vp_nar] at hn; first | rw [hn] | (simp [narrow] at hn ⊢; exact hn))
  · have hq2 : ¬ ((q : Int) = i) := fun z => hq (by omega)
    simp only [updV, up, hq, hq2, if_false]
theorem g_zast (hΓ : gOK l Γ E X y cc nL ret d mc ms post) {a n : Nat} {f : Int → Int} {i x : Int} (hM : M a = some (cAr E 3 n f)) (hA : E.2.2 a) (h0 : 0 ≤ i) (h1 : i < (n : Int)) (h2 : i < 2147483648) (hn : vp_nar .boolean (iI x) = iI x) (hd : decode cc pc = .ok (.bastore, 1)) (k : gW Γ E (wU M a (cAr E 3 n (up f i x))) cells slots (pc + 1) lv st) : gW Γ E M cells slots pc lv (.int (iI x) :: .int (iI i) :: .ref a :: st) := by
  intro H locs ls hP hS hl
  refine W.zast hΓ.1 hΓ.2.1 (hP a _ hM) ((hΓ.2.2.2.2.2.2.2.1.2 3 _ rfl).1 n (fun j => .int (iI (f (j : Int))))) (fun q => by cases q) (by show ¬ ((iI i) < 0 ∨ (arrV _ _ _).slots.size ≤ _); rw [arrV_size]; exact iI_in h0 h1 h2) rfl rfl hd fun H1 e z oq => ?_
  refine k H1 _ ls (hP.set ?_ oq) (hS.put z oq hA) hl
  show H1[a]? = some (vp_cell _ _)
  rw [e]
  rw [vp_cell_i, vp_cell_i, arrV_store]
  congr 2
  funext q
  have hcl := iI_cl h0 h2
  by_cases hq : q = (iI i).toNatClampNeg
  · subst hq
    simp only [updV, up, hcl, if_true]
    first | exact hn | (show narrow _ _ = _; simp only [vp_nar] at hn; first | rw [hn] | (simp [narrow] at hn ⊢; exact hn))
  · have hq2 : ¬ ((q : Int) = i) := fun z => hq (by omega)
    simp only [updV, up, hq, hq2, if_false]
theorem g_alen (hΓ : gOK l Γ E X y cc nL ret d mc ms post) {a n t : Nat} {f : Int → Int} (hM : M a = some (cAr E t n f)) (ht : t < 4) (hd : decode cc pc = .ok (.arraylength, 1)) (k : gW Γ E M cells slots (pc + 1) lv (.int (iI (n : Int)) :: st)) : gW Γ E M cells slots pc lv (.ref a :: st) := fun H locs ls hP hS hl => by
  have hv : Int32.ofNat n = iI (n : Int) := by rw [iI, Int32.ofInt_eq_ofNat]
  match t, ht with
  | 0, _ => exact va_alen hΓ.1 hΓ.2.1 hΓ.2.2.2.2.2.2.2.1 (hP.one hM) 0 0 rfl rfl hv hd (k H locs ls hP hS hl)
  | 1, _ => exact va_alen hΓ.1 hΓ.2.1 hΓ.2.2.2.2.2.2.2.1 (hP.one hM) 0 1 rfl rfl hv hd (k H locs ls hP hS hl)
  | 2, _ => exact va_alen hΓ.1 hΓ.2.1 hΓ.2.2.2.2.2.2.2.1 (hP.one hM) 0 2 rfl rfl hv hd (k H locs ls hP hS hl)
  | 3, _ => exact va_alen hΓ.1 hΓ.2.1 hΓ.2.2.2.2.2.2.2.1 (hP.one hM) 0 3 rfl rfl hv hd (k H locs ls hP hS hl)
theorem g_blind {av : List Value} (hXK : gXK E.2.2 X) : FrameBlind (gPc E X av M) := fun a U g mk q => ⟨q.1, va_K.moved (u := U) (U := U.calling g mk a) (Vm.Alike.refl U.vm) q.2.1, hXK.2 a U g mk q.2.2.1, q.2.2.2⟩
theorem g_pre (hΓ : gOK l Γ E X y cc nL ret d mc ms post) {H : Heap} {locs : List Loc} {av : List Value} (hP : PM E M H) (hS : va_S E.2.2 Γ.2.2.2.2.1.heap H locs) : ∀ U : State, U.heap = H → Γ.2.2.2.2.1.WarmedH U.vm → gPc E X av M av.toArray U := fun U hU hW => ⟨rfl, va_K.moved hW.alike hΓ.2.2.2.2.2.2.2.1, hΓ.2.2.2.2.2.2.2.2.1.1.1 _ U hW (by rw [hU]; exact hS.1) (fun q h1 h2 => by rw [hU]; exact hS.2.1 q h1 h2) hΓ.2.2.2.2.2.2.2.2.1.2, by rw [hU]; exact hP⟩
theorem g_call (hΓ : gOK l Γ E X y cc nL ret d mc ms post) {mc' ms' : Nat} {post' : Option Value → wM → Prop} {a : Array Value} (hr : ∀ (H : Heap) (locs : List Loc) (ls : Array Slot), PM E M H → va_S E.2.2 Γ.2.2.2.2.1.heap H locs → lv_has ls lv.length (lvp 0 lv) → va_Run Γ.1 Γ.2.1 Γ.2.2.1 Γ.2.2.2.1 Γ.2.2.2.2.1 Γ.2.2.2.2.2.1 Γ.2.2.2.2.2.2.1 Γ.2.2.2.2.2.2.2.1 Γ.2.2.2.2.2.2.2.2.1 Γ.2.2.2.2.2.2.2.2.2.1 H locs cells slots mc' ms' (F0 Γ.2.2.2.2.2.1 pc ls st) rest (gQ E post' a) E.2.2) (kk : ∀ (v : Option Value) (M' : wM), post' v M' → gW Γ E M' (cells + mc') (slots + ms') (pc + 3) lv (v.toList ++ rest)) : gW Γ E M cells slots pc lv st := by
  intro H locs ls hP hS hl T hT X'
  obtain ⟨v, st₀, t, T', L, h0, X2, hL, e1, e2, ⟨⟨v', M', hv, hp, hP'⟩, hz, hk⟩, stp⟩ := hr H locs ls hP hS hl T hT X'
  cases hv
  rw [h0] at hz hk
  obtain ⟨t2, a1, b1⟩ := kk v M' hp T'.heap (locs ++ L) ls (by rw [e1]; exact hP') ⟨Nat.le_trans hS.1 (by rw [e1]; exact hz), fun q h1 h2 => by rw [e1, hk q (Nat.lt_of_lt_of_le h1 hS.1) h2]; exact hS.2.1 q h1 h2, fun q hq => by
      rcases List.mem_append.mp hq with h | h
      · exact hS.2.2 q h
      · exact hL q h⟩ hl T' rfl X2
  exact ⟨t2, stp t2 a1, b1⟩
theorem g_callV (hΓ : gOK l Γ E X y cc nL ret d mc ms post) {y' : MethodName} {cc' : ByteArray} {nL' d' mc' ms' ix : Nat} {ret' : Option FieldType} {b : Nat} {As : List Value} {post' : Option Value → wM → Prop} (hC : Ct l E X y' cc' nL' ret' d' mc' ms' (.ref b :: As) M post') {own : String} (ho : own = y.cls) (h1 : Cond.methodLink own ix y' ∈ lw_all) (h2 : Cond.instanceMethod y' ∈ lw_all) (h3 : Cond.selects y'.cls y' y' ∈ lw_all) (h4 : Cond.initialized y'.cls ∈ lw_all) (h5 : Cond.code y' cc' nL' ret' ∈ lw_all) {n : Nat} (h6 : y'.cls ≠ "java/lang/invoke/MethodHandle" ∧ y'.cls ≠ "java/lang/invoke/VarHandle" ∧ (parseMethodDescriptor y'.desc).map (fun d => d.parameters.length) = some n) (hn : As.length = n) (hdd : d' + 1 ≤ d) (hnl : nL' ≤ 40) (hmc : cells + mc' ≤ mc) (hms : slots + ms' ≤ ms) {ci N : Nat} {fs : List Value} {T : u_T} (hM : M b = some (.inr (ci, fs))) (hc : E.2.1[ci]? = some (y'.cls, T, N)) (hst : st = As.reverse ++ .ref b :: rest) (hrm : (rest.map fun v => v.category).sum ≤ 8) (hd : decode cc pc = .ok (.invokevirtual ix, 3)) (hlv : lv.length = nL) (kk : ∀ (v : Option Value) (M' : wM), post' v M' → gW Γ E M' (cells + mc') (slots + ms') (pc + 3) lv (v.toList ++ rest)) : gW Γ E M cells slots pc lv st := by
  subst hst
  refine g_call (a := (Value.ref b :: As).toArray) hΓ (fun H locs ls hP hS hl => ?_) kk
  have hl9 := hΓ.2.2.2.2.2.2.2.2.2.2.2.1
  have hC' : Ct Γ.2.1 E X y' cc' nL' ret' d' mc' ms' (.ref b :: As) M post' := by rw [hl9]; exact hC
  exact va_runV (As := As) ⟨hΓ.1, hΓ.2.1, hΓ.2.2.2.2.1, by rw [ho]; exact hΓ.2.2.2.2.2.1, hΓ.2.2.2.2.2.2.1⟩ hC' (cwV n hΓ.2.2.2.2.2.2.1 (lw_V h1 h2 h3 h4 h5) rfl rfl rfl ⟨rfl, h6⟩ ⟨by rw [hΓ.2.2.2.2.2.2.2.2.2.1]; exact hdd, by rw [hΓ.2.2.2.2.2.2.2.2.2.1]; show 8 + (nL' + 11) + 64 * d' ≤ 64 * d; omega⟩) ⟨g_blind hΓ.2.2.2.2.2.2.2.2.1.1, va_recv hΓ.2.2.2.2.2.2.2.1 (hP.one hM) hc (q0 := 0) rfl, g_pre hΓ hP hS⟩ rfl hn (hl.1.trans hlv) rfl (lv_room hrm) hd ⟨by rw [hΓ.2.2.2.2.2.2.2.2.2.1]; exact hmc, by rw [hΓ.2.2.2.2.2.2.2.2.2.1]; exact hms⟩
theorem g_callS (hΓ : gOK l Γ E X y cc nL ret d mc ms post) {y' : MethodName} {cc' : ByteArray} {nL' d' mc' ms' ix : Nat} {ret' : Option FieldType} {As : List Value} {post' : Option Value → wM → Prop} (hC : Ct l E X y' cc' nL' ret' d' mc' ms' As M post') {own : String} (ho : own = y.cls) (h1 : Cond.methodLink own ix y' ∈ lw_all) (h2 : Cond.static y' ∈ lw_all) (h4 : Cond.initialized y'.cls ∈ lw_all) (h5 : Cond.code y' cc' nL' ret' ∈ lw_all) {n : Nat} (h6 : y'.cls ≠ "java/lang/invoke/MethodHandle" ∧ y'.cls ≠ "java/lang/invoke/VarHandle" ∧ (parseMethodDescriptor y'.desc).map (fun d => d.parameters.length) = some n) (hn : As.length = n) (hdd : d' + 1 ≤ d) (hnl : nL' ≤ 40) (hmc : cells + mc' ≤ mc) (hms : slots + ms' ≤ ms) (hst : st = As.reverse ++ rest) (hrm : (rest.map fun v => v.category).sum ≤ 8) (hd : decode cc pc = .ok (.invokestatic ix, 3)) (hlv : lv.length = nL) (kk : ∀ (v : Option Value) (M' : wM), post' v M' → gW Γ E M' (cells + mc') (slots + ms') (pc + 3) lv (v.toList ++ rest)) : gW Γ E M cells slots pc lv st := by
  subst hst
  refine g_call (a := As.toArray) hΓ (fun H locs ls hP hS hl => ?_) kk
  have hl9 := hΓ.2.2.2.2.2.2.2.2.2.2.2.1
  have hC' : Ct Γ.2.1 E X y' cc' nL' ret' d' mc' ms' As M post' := by rw [hl9]; exact hC
  exact va_runS (As := As) ⟨hΓ.1, hΓ.2.1, hΓ.2.2.2.2.1, by rw [ho]; exact hΓ.2.2.2.2.2.1, hΓ.2.2.2.2.2.2.1⟩ hC' (va_cwS n hΓ.2.2.2.2.2.2.1 (lw_S h1 h2 h4 h5) rfl rfl rfl h6 ⟨by rw [hΓ.2.2.2.2.2.2.2.2.2.1]; exact hdd, by rw [hΓ.2.2.2.2.2.2.2.2.2.1]; show 8 + (nL' + 11) + 64 * d' ≤ 64 * d; omega⟩) ⟨g_blind hΓ.2.2.2.2.2.2.2.2.1.1, g_pre hΓ hP hS⟩ rfl hn (hl.1.trans hlv) rfl (lv_room hrm) hd ⟨by rw [hΓ.2.2.2.2.2.2.2.2.2.1]; exact hmc, by rw [hΓ.2.2.2.2.2.2.2.2.2.1]; exact hms⟩
theorem g_callI (hΓ : gOK l Γ E X y cc nL ret d mc ms post) {y' : MethodName} {cc' : ByteArray} {nL' d' mc' ms' ix : Nat} {b : Nat} {As : List Value} {post' : Option Value → wM → Prop} (hC : Ct l E X y' cc' nL' none d' mc' ms' (.ref b :: As) M post') {own : String} (ho : own = y.cls) (h1 : Cond.methodLink own ix y' ∈ lw_all) (h2 : Cond.instanceMethod y' ∈ lw_all) (h4 : Cond.initialized y'.cls ∈ lw_all) (h5 : Cond.code y' cc' nL' none ∈ lw_all) {n : Nat} (h6 : y'.cls ≠ "java/lang/invoke/MethodHandle" ∧ y'.cls ≠ "java/lang/invoke/VarHandle" ∧ (parseMethodDescriptor y'.desc).map (fun d => d.parameters.length) = some n) (h7 : y'.name = "<init>") (hn : As.length = n) (hdd : d' + 1 ≤ d) (hnl : nL' ≤ 40) (hmc : cells + mc' ≤ mc) (hms : slots + ms' ≤ ms) (hst : st = As.reverse ++ .ref b :: rest) (hrm : (rest.map fun v => v.category).sum ≤ 8) (hd : decode cc pc = .ok (.invokespecial ix, 3)) (hlv : lv.length = nL) (kk : ∀ (v : Option Value) (M' : wM), post' v M' → gW Γ E M' (cells + mc') (slots + ms') (pc + 3) lv (v.toList ++ rest)) : gW Γ E M cells slots pc lv st := by
  subst hst
  refine g_call (a := (Value.ref b :: As).toArray) hΓ (fun H locs ls hP hS hl => ?_) kk
  have hl9 := hΓ.2.2.2.2.2.2.2.2.2.2.2.1
  have hC' : Ct Γ.2.1 E X y' cc' nL' none d' mc' ms' (.ref b :: As) M post' := by rw [hl9]; exact hC
  exact va_runI (own := own) (As := As) ⟨hΓ.1, hΓ.2.1, hΓ.2.2.2.2.1, by rw [ho]; exact hΓ.2.2.2.2.2.1, hΓ.2.2.2.2.2.2.1⟩ hC' (cwI n hΓ.2.2.2.2.2.2.1 (lw_meth h5) rfl rfl rfl (hΓ.2.2.2.2.2.2.1 _ h4) (by first | exact hΓ.2.2.2.2.2.2.1 _ h1) (hΓ.2.2.2.2.2.2.1 _ h2) h7 h6 ⟨by rw [hΓ.2.2.2.2.2.2.2.2.2.1]; exact hdd, by rw [hΓ.2.2.2.2.2.2.2.2.2.1]; show 8 + (nL' + 11) + 64 * d' ≤ 64 * d; omega⟩) ⟨g_blind hΓ.2.2.2.2.2.2.2.2.1.1, g_pre hΓ hP hS⟩ rfl hn (hl.1.trans hlv) rfl (lv_room hrm) hd ⟨by rw [hΓ.2.2.2.2.2.2.2.2.2.1]; exact hmc, by rw [hΓ.2.2.2.2.2.2.2.2.2.1]; exact hms⟩
end GR
