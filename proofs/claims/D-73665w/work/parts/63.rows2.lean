set_option maxRecDepth 100000
/-! ROWS, 2: cells are made; references; statics; nest mates; casts; copies -/
theorem PM.add {E : gE} {M : wM} {H H1 : Heap} {a : Nat} {e : va_E} (h : PM E M H) (he : va_at E.1 E.2.1 (a, e) H1) (o : ∀ q : Nat, q < H.size → H1[q]? = H[q]?) : PM E (wU M a e) H1 := by
  intro b e1 hb
  by_cases hq : b = a
  · subst hq
    rw [wU_s] at hb
    cases hb
    exact he
  · rw [wU_n hq] at hb
    exact (h b e1 hb).kept (o b (h.lt hb))
theorem PM.fresh {E : gE} {M : wM} {H : Heap} (h : PM E M H) {q : Nat} (hq : H.size ≤ q) : M q = none := by
  cases hm : M q with
  | none => rfl
  | some e => exact absurd (h.lt hm) (by omega)
theorem va_S.new {A : Nat → Prop} {H0 H H1 : Heap} {locs : List Loc} (hS : va_S A H0 H locs) (z : H.size ≤ H1.size) (o : ∀ q : Nat, q < H.size → H1[q]? = H[q]?) : va_S A H0 H1 locs := ⟨Nat.le_trans hS.1 z, fun x h1 h2 => (o x (Nat.lt_of_lt_of_le h1 hS.1)).trans (hS.2.1 x h1 h2), hS.2.2⟩
theorem iI_nn {n : Int} (h0 : 0 ≤ n) (h2 : n < 2147483648) : ¬ iI n < 0 := by
  rw [show (0 : Int32) = iI 0 from rfl, iI_lt ⟨by omega, h2⟩ ⟨by decide, by decide⟩]
  omega
theorem iI_clN {n : Int} (h0 : 0 ≤ n) (h2 : n < 2147483648) : (iI n).toNatClampNeg = n.toNat := by
  have := iI_cl h0 h2
  omega
/-- all new addresses may be written -/
abbrev xNew (E : gE) (X : State → Prop) : Prop := ∀ U, X U → ∀ q, U.heap.size ≤ q → E.2.2 q
section GR2
variable {l : Launch} {Γ : gC} {E : gE} {X : State → Prop} {y : MethodName} {cc : ByteArray} {nL : Nat} {ret : Option FieldType} {d mc ms : Nat} {post : Option Value → wM → Prop} {M : wM} {cells slots pc : Nat} {lv lv' : List (Option Value)} {st rest : List Value}
theorem g_null (hΓ : gOK l Γ E X y cc nL ret d mc ms post)  (hd : decode cc pc = .ok (.aconst_null, 1)) (k : gW Γ E M cells slots (pc + 1) lv (.null :: rest)) : gW Γ E M cells slots pc lv (rest) := fun H locs ls hP hS hl => lv_null hΓ.1 hΓ.2.1 hd (k H locs ls hP hS hl)
theorem g_aloadN (hΓ : gOK l Γ E X y cc nL ret d mc ms post) {i : Nat} (hl0 : lv[i]? = some (some .null)) (hd : decode cc pc = .ok (.aload i, 2)) (k : gW Γ E M cells slots (pc + 2) lv (.null :: st)) : gW Γ E M cells slots pc lv (st) := fun H locs ls hP hS hl => lv_aloadN hΓ.1 hΓ.2.1 hd (lvp_at hl hl0) (k H locs ls hP hS hl)
theorem g_astore_nN (hΓ : gOK l Γ E X y cc nL ret d mc ms post) {j : Fin 4} (hd : decode cc pc = .ok (.astore_n j, 1)) (hk : lvk lv (j : Nat) = true) (hi : (j : Nat) < lv.length) (he : lv.set (j : Nat) (some .null) = lv') (k : gW Γ E M cells slots (pc + 1) lv' st) : gW Γ E M cells slots pc lv (.null :: st) := fun H locs ls hP hS hl => lv_astore_nN hΓ.1 hΓ.2.1 hd rfl hl hi rfl (fun ls' h => k H locs ls' hP hS (by have h2 := lvp_set hk he h; rw [← he, List.length_set]; rw [he]; exact h2))
theorem g_astoreN (hΓ : gOK l Γ E X y cc nL ret d mc ms post) {i : Nat} (hd : decode cc pc = .ok (.astore i, 2)) (hk : lvk lv i = true) (hi : i < lv.length) (he : lv.set i (some .null) = lv') (k : gW Γ E M cells slots (pc + 2) lv' st) : gW Γ E M cells slots pc lv (.null :: st) := fun H locs ls hP hS hl => lv_astoreN hΓ.1 hΓ.2.1 hd hl hi rfl (fun ls' h => k H locs ls' hP hS (by have h2 := lvp_set hk he h; rw [← he, List.length_set]; rw [he]; exact h2))
theorem g_iushr (hΓ : gOK l Γ E X y cc nL ret d mc ms post) {x z : Int32} {a : Int} (h : (x.toUInt32 >>> (z.toUInt32 &&& Int32.toUInt32 31)).toInt32 = iI a) (hd : decode cc pc = .ok (.iushr, 1)) (k : gW Γ E M cells slots (pc + 1) lv (.int (iI a) :: st)) : gW Γ E M cells slots pc lv (.int z :: .int x :: st) := fun H locs ls hP hS hl => lv_iushr hΓ.1 hΓ.2.1 hd h (k H locs ls hP hS hl)
theorem g_i2b (hΓ : gOK l Γ E X y cc nL ret d mc ms post) {x : Int32} {a : Int} (h : x.toInt8.toInt32 = iI a) (hd : decode cc pc = .ok (.i2b, 1)) (k : gW Γ E M cells slots (pc + 1) lv (.int (iI a) :: st)) : gW Γ E M cells slots pc lv (.int x :: st) := fun H locs ls hP hS hl => lv_i2b hΓ.1 hΓ.2.1 hd h (k H locs ls hP hS hl)
theorem g_lcmp (hΓ : gOK l Γ E X y cc nL ret d mc ms post) {a b : Int} (ha : r64 a) (hb : r64 b) (hd : decode cc pc = .ok (.lcmp, 1)) (k : gW Γ E M cells slots (pc + 1) lv (.int (iI (if b < a then 1 else if a = b then 0 else -1)) :: st)) : gW Γ E M cells slots pc lv (.long (lI b) :: .long (lI a) :: st) := fun H locs ls hP hS hl => W.lcmp hΓ.1 hΓ.2.1 hd (by have e : lg_cmp (lI a) (lI b) = iI (if b < a then 1 else if a = b then 0 else -1) := (by simp only [lg_cmp, lI_lt hb ha, lI_eq ha hb]; split <;> first | rfl | (split <;> rfl)); rw [e]; exact k H locs ls hP hS hl)
theorem g_ifnull (hΓ : gOK l Γ E X y cc nL ret d mc ms post) {x : Nat} {off : Int} (hd : decode cc pc = .ok (.ifnull off, 3)) (k : gW Γ E M cells slots (pc + 3) lv st) : gW Γ E M cells slots pc lv (.ref x :: st) := fun H locs ls hP hS hl => lv_ifnull hΓ.1 hΓ.2.1 hd (k H locs ls hP hS hl)
theorem g_ifnonnull (hΓ : gOK l Γ E X y cc nL ret d mc ms post) {x : Nat} {off : Int} {tgt : Nat} (hd : decode cc pc = .ok (.ifnonnull off, 3)) (ht : (pc : Int) + off = (tgt : Int)) (k : gW Γ E M cells slots tgt lv st) : gW Γ E M cells slots pc lv (.ref x :: st) := fun H locs ls hP hS hl => lv_ifnonnull hΓ.1 hΓ.2.1 hd ht (k H locs ls hP hS hl)
theorem g_ifnullN (hΓ : gOK l Γ E X y cc nL ret d mc ms post) {off : Int} {tgt : Nat} (hd : decode cc pc = .ok (.ifnull off, 3)) (ht : (pc : Int) + off = (tgt : Int)) (k : gW Γ E M cells slots tgt lv st) : gW Γ E M cells slots pc lv (.null :: st) := fun H locs ls hP hS hl => lv_ifnullN hΓ.1 hΓ.2.1 hd ht (k H locs ls hP hS hl)
theorem g_ifnonnullN (hΓ : gOK l Γ E X y cc nL ret d mc ms post) {off : Int} (hd : decode cc pc = .ok (.ifnonnull off, 3)) (k : gW Γ E M cells slots (pc + 3) lv st) : gW Γ E M cells slots pc lv (.null :: st) := fun H locs ls hP hS hl => lv_ifnonnullN hΓ.1 hΓ.2.1 hd (k H locs ls hP hS hl)
theorem g_acmp_eq (hΓ : gOK l Γ E X y cc nL ret d mc ms post) {a b : Nat} {off : Int} {tgt : Nat} (hd : decode cc pc = .ok (.if_acmp .eq off, 3)) (ht : (pc : Int) + off = (tgt : Int)) (kt : a = b → gW Γ E M cells slots tgt lv st) (kf : a ≠ b → gW Γ E M cells slots (pc + 3) lv st) : gW Γ E M cells slots pc lv (.ref b :: .ref a :: st) := fun H locs ls hP hS hl => lv_acmp_eq (rx := some a) (ry := some b) hΓ.1 hΓ.2.1 hd ht (fun h => kt (by simpa using h) H locs ls hP hS hl) (fun h => kf (by simpa using h) H locs ls hP hS hl)
theorem g_acmp_ne (hΓ : gOK l Γ E X y cc nL ret d mc ms post) {a b : Nat} {off : Int} {tgt : Nat} (hd : decode cc pc = .ok (.if_acmp .ne off, 3)) (ht : (pc : Int) + off = (tgt : Int)) (kt : a ≠ b → gW Γ E M cells slots tgt lv st) (kf : a = b → gW Γ E M cells slots (pc + 3) lv st) : gW Γ E M cells slots pc lv (.ref b :: .ref a :: st) := fun H locs ls hP hS hl => lv_acmp_ne (rx := some a) (ry := some b) hΓ.1 hΓ.2.1 hd ht (fun h => kt (by simpa using h) H locs ls hP hS hl) (fun h => kf (by simpa using h) H locs ls hP hS hl)
theorem g_new (hΓ : gOK l Γ E X y cc nL ret d mc ms post) (hA : xNew E X) {own C : String} {T : u_T} {N ci ix : Nat} (hin : ∀ w ∈ u_ws C T N, w ∈ lw_all) (ty : Nat → FieldType) (hty : ∀ k, k < N → parseFieldDescriptor (T k).2.2.1 = some (ty k)) (ho : own = y.cls) (hcl : Cond.classLink own ix C ∈ lw_all) (hinst : Cond.instantiable C N ∈ lw_all) (hini : Cond.initialized C ∈ lw_all) (hc : E.2.1[ci]? = some (C, T, N)) {fs : List Value} (hfs : ∀ j, j < N → defaultValue (ty j) = vp_V fs j) (hcells : cells + 1 ≤ mc) (hslots : slots + N ≤ ms) (hd : decode cc pc = .ok (.new ix, 3)) (kk : ∀ q : Nat, M q = none → E.2.2 q → gW Γ E (wU M q (.inr (ci, fs))) (cells + 1) (slots + N) (pc + 3) lv (.ref q :: st)) : gW Γ E M cells slots pc lv st := fun H locs ls hP hS hl => by
  have hKn := hΓ.2.2.2.2.2.2.2.1.1 ci _ hc
  refine W.newcK hΓ.1 hΓ.2.1 (by rw [ho]; exact hΓ.2.2.2.2.2.1) (hΓ.2.2.2.2.2.2.1 _ hcl) (hΓ.2.2.2.2.2.2.1 _ hinst) (hΓ.2.2.2.2.2.2.1 _ hini) rfl hd (by rw [hΓ.2.2.2.2.2.2.2.2.2.1]; exact hcells) (by rw [hΓ.2.2.2.2.2.2.2.2.2.1]; exact hslots) hKn.2.1 rfl fun H1 kC hkC e1 z1 o1 => ?_
  exact kk H.size (hP.fresh (Nat.le_refl _)) (hA _ hΓ.2.2.2.2.2.2.2.2.1.2 _ hS.1) H1 locs ls (hP.add ⟨_, hc, (u_born ty hΓ.2.2.2.2.2.2.1 hin hKn hkC e1 hty).to hfs⟩ o1) (hS.new (by omega) o1) hl
theorem g_newi (hΓ : gOK l Γ E X y cc nL ret d mc ms post) (hA : xNew E X) (harr : Cond.arrayClass .int ∈ lw_all) {n : Int} (h0 : 0 ≤ n ∧ n ≤ 100000) (hcells : cells + 1 ≤ mc) (hslots : slots + n.toNat ≤ ms) (hd : decode cc pc = .ok (.newarray .int, 2)) (kk : ∀ q : Nat, M q = none → E.2.2 q → gW Γ E (wU M q (cAr E 0 n.toNat (fun _ => 0))) (cells + 1) (slots + n.toNat) (pc + 2) lv (.ref q :: st)) : gW Γ E M cells slots pc lv (.int (iI n) :: st) := fun H locs ls hP hS hl => by
  refine va_newaK (atype := .int) hΓ.1 hΓ.2.1 (hΓ.2.2.2.2.2.2.1 _ harr) rfl hd rfl (iI_nn h0.1 (by omega)) (iI_clN h0.1 (by omega)) (show n.toNat * componentBytes .int ≤ 536870912 from (by simp only [componentBytes]; omega)) (by rw [hΓ.2.2.2.2.2.2.2.2.2.1]; exact hcells) (by rw [hΓ.2.2.2.2.2.2.2.2.2.1]; exact hslots) rfl fun H1 cA e1 z1 o1 hAr hNm => ?_
  have hRA : Γ.2.2.2.2.1.vm.findClass ("[" ++ (FieldType.int).toString) = some (E.1.1 (100 + 0)) := (hΓ.2.2.2.2.2.2.2.1.2 0 _ rfl).2
  have hcA : E.1.1 (100 + 0) = cA := Option.some.inj (hRA.symm.trans hNm)
  refine kk H.size (hP.fresh (Nat.le_refl _)) (hA _ hΓ.2.2.2.2.2.2.2.2.1.2 _ hS.1) H1 locs ls (hP.add ?_ o1) (hS.new (by omega) o1) hl
  show H1[H.size]? = some (vp_cell _ _)
  rw [vp_cell_i, hcA]
  exact e1
theorem g_newc (hΓ : gOK l Γ E X y cc nL ret d mc ms post) (hA : xNew E X) (harr : Cond.arrayClass .char ∈ lw_all) {n : Int} (h0 : 0 ≤ n ∧ n ≤ 100000) (hcells : cells + 1 ≤ mc) (hslots : slots + n.toNat ≤ ms) (hd : decode cc pc = .ok (.newarray .char, 2)) (kk : ∀ q : Nat, M q = none → E.2.2 q → gW Γ E (wU M q (cAr E 1 n.toNat (fun _ => 0))) (cells + 1) (slots + n.toNat) (pc + 2) lv (.ref q :: st)) : gW Γ E M cells slots pc lv (.int (iI n) :: st) := fun H locs ls hP hS hl => by
  refine va_newaK (atype := .char) hΓ.1 hΓ.2.1 (hΓ.2.2.2.2.2.2.1 _ harr) rfl hd rfl (iI_nn h0.1 (by omega)) (iI_clN h0.1 (by omega)) (show n.toNat * componentBytes .char ≤ 536870912 from (by simp only [componentBytes]; omega)) (by rw [hΓ.2.2.2.2.2.2.2.2.2.1]; exact hcells) (by rw [hΓ.2.2.2.2.2.2.2.2.2.1]; exact hslots) rfl fun H1 cA e1 z1 o1 hAr hNm => ?_
  have hRA : Γ.2.2.2.2.1.vm.findClass ("[" ++ (FieldType.char).toString) = some (E.1.1 (100 + 1)) := (hΓ.2.2.2.2.2.2.2.1.2 1 _ rfl).2
  have hcA : E.1.1 (100 + 1) = cA := Option.some.inj (hRA.symm.trans hNm)
  refine kk H.size (hP.fresh (Nat.le_refl _)) (hA _ hΓ.2.2.2.2.2.2.2.2.1.2 _ hS.1) H1 locs ls (hP.add ?_ o1) (hS.new (by omega) o1) hl
  show H1[H.size]? = some (vp_cell _ _)
  rw [vp_cell_i, hcA]
  exact e1
theorem g_newb (hΓ : gOK l Γ E X y cc nL ret d mc ms post) (hA : xNew E X) (harr : Cond.arrayClass .byte ∈ lw_all) {n : Int} (h0 : 0 ≤ n ∧ n ≤ 100000) (hcells : cells + 1 ≤ mc) (hslots : slots + n.toNat ≤ ms) (hd : decode cc pc = .ok (.newarray .byte, 2)) (kk : ∀ q : Nat, M q = none → E.2.2 q → gW Γ E (wU M q (cAr E 2 n.toNat (fun _ => 0))) (cells + 1) (slots + n.toNat) (pc + 2) lv (.ref q :: st)) : gW Γ E M cells slots pc lv (.int (iI n) :: st) := fun H locs ls hP hS hl => by
  refine va_newaK (atype := .byte) hΓ.1 hΓ.2.1 (hΓ.2.2.2.2.2.2.1 _ harr) rfl hd rfl (iI_nn h0.1 (by omega)) (iI_clN h0.1 (by omega)) (show n.toNat * componentBytes .byte ≤ 536870912 from (by simp only [componentBytes]; omega)) (by rw [hΓ.2.2.2.2.2.2.2.2.2.1]; exact hcells) (by rw [hΓ.2.2.2.2.2.2.2.2.2.1]; exact hslots) rfl fun H1 cA e1 z1 o1 hAr hNm => ?_
  have hRA : Γ.2.2.2.2.1.vm.findClass ("[" ++ (FieldType.byte).toString) = some (E.1.1 (100 + 2)) := (hΓ.2.2.2.2.2.2.2.1.2 2 _ rfl).2
  have hcA : E.1.1 (100 + 2) = cA := Option.some.inj (hRA.symm.trans hNm)
  refine kk H.size (hP.fresh (Nat.le_refl _)) (hA _ hΓ.2.2.2.2.2.2.2.2.1.2 _ hS.1) H1 locs ls (hP.add ?_ o1) (hS.new (by omega) o1) hl
  show H1[H.size]? = some (vp_cell _ _)
  rw [vp_cell_i, hcA]
  exact e1
theorem g_newz (hΓ : gOK l Γ E X y cc nL ret d mc ms post) (hA : xNew E X) (harr : Cond.arrayClass .boolean ∈ lw_all) {n : Int} (h0 : 0 ≤ n ∧ n ≤ 100000) (hcells : cells + 1 ≤ mc) (hslots : slots + n.toNat ≤ ms) (hd : decode cc pc = .ok (.newarray .boolean, 2)) (kk : ∀ q : Nat, M q = none → E.2.2 q → gW Γ E (wU M q (cAr E 3 n.toNat (fun _ => 0))) (cells + 1) (slots + n.toNat) (pc + 2) lv (.ref q :: st)) : gW Γ E M cells slots pc lv (.int (iI n) :: st) := fun H locs ls hP hS hl => by
  refine va_newaK (atype := .boolean) hΓ.1 hΓ.2.1 (hΓ.2.2.2.2.2.2.1 _ harr) rfl hd rfl (iI_nn h0.1 (by omega)) (iI_clN h0.1 (by omega)) (show n.toNat * componentBytes .boolean ≤ 536870912 from (by simp only [componentBytes]; omega)) (by rw [hΓ.2.2.2.2.2.2.2.2.2.1]; exact hcells) (by rw [hΓ.2.2.2.2.2.2.2.2.2.1]; exact hslots) rfl fun H1 cA e1 z1 o1 hAr hNm => ?_
  have hRA : Γ.2.2.2.2.1.vm.findClass ("[" ++ (FieldType.boolean).toString) = some (E.1.1 (100 + 3)) := (hΓ.2.2.2.2.2.2.2.1.2 3 _ rfl).2
  have hcA : E.1.1 (100 + 3) = cA := Option.some.inj (hRA.symm.trans hNm)
  refine kk H.size (hP.fresh (Nat.le_refl _)) (hA _ hΓ.2.2.2.2.2.2.2.2.1.2 _ hS.1) H1 locs ls (hP.add ?_ o1) (hS.new (by omega) o1) hl
  show H1[H.size]? = some (vp_cell _ _)
  rw [vp_cell_i, hcA]
  exact e1
theorem g_anewO (hΓ : gOK l Γ E X y cc nL ret d mc ms post) (hA : xNew E X) (hAO : ∀ U, X U → va_AO "java/lang/Object" U) {own : String} {ix : Nat} (ho : own = y.cls) (hcl : Cond.classLink own ix "java/lang/Object" ∈ lw_all) {n : Int} (h0 : 0 ≤ n ∧ n ≤ 100000) (hcells : cells + 1 ≤ mc) (hslots : slots + n.toNat ≤ ms) (hd : decode cc pc = .ok (.anewarray ix, 3)) (kk : ∀ q : Nat, M q = none → E.2.2 q → gW Γ E (wU M q (cRf E 5 n.toNat (fun _ => none))) (cells + 1) (slots + n.toNat) (pc + 3) lv (.ref q :: st)) : gW Γ E M cells slots pc lv (.int (iI n) :: st) := fun H locs ls hP hS hl => by
  have hcn := iI_clN h0.1 (show n < 2147483648 by omega)
  refine W.anew hΓ.1 hΓ.2.1 (by rw [ho]; exact hΓ.2.2.2.2.2.1) (hΓ.2.2.2.2.2.2.1 _ hcl) (va_AO.use (hAO _ hΓ.2.2.2.2.2.2.2.2.1.2)) rfl hd rfl (iI_nn h0.1 (by omega)) (by rw [hcn]; omega) (by rw [hΓ.2.2.2.2.2.2.2.2.2.1]; exact hcells) (by rw [hΓ.2.2.2.2.2.2.2.2.2.1, hcn]; exact hslots) fun cA kA comp f1 f2 f3 f4 => ?_
  rw [hcn]
  generalize hH1 : H.push ({ cls := cA, slots := Array.replicate n.toNat .null, vm := .none } : Cell) = H1
  have z1 : H1.size = H.size + 1 := by rw [← hH1, Array.size_push]
  have e1 : H1[H.size]? = some (arrV cA n.toNat (fun _ => .null)) := by rw [← hH1, Array.getElem?_push_size, ← arrV_new]
  have o1 : ∀ q : Nat, q < H.size → H1[q]? = H[q]? := fun q hq => by rw [← hH1, Array.getElem?_push, if_neg (Nat.ne_of_lt hq)]
  obtain ⟨kA', comp', -, -, -, hRA⟩ := (hΓ.2.2.2.2.2.2.2.1.2 5 _ rfl).2
  have hcA : E.1.1 (100 + 5) = cA := Option.some.inj (hRA.symm.trans f1)
  refine kk H.size (hP.fresh (Nat.le_refl _)) (hA _ hΓ.2.2.2.2.2.2.2.2.1.2 _ hS.1) H1 locs ls (hP.add ?_ o1) (hS.new (by omega) o1) hl
  show H1[H.size]? = some (vp_cell _ _)
  rw [vp_cell_q, hcA]
  exact e1
theorem g_aaldG (hΓ : gOK l Γ E X y cc nL ret d mc ms post) {a n : Nat} {f : Int → Option Nat} {i : Int} {r : Option Nat} (hM : M a = some (cRf E 4 n f)) (h0 : 0 ≤ i) (h1 : i < (n : Int)) (h2 : i < 2147483648) (hf : f i = r) (hd : decode cc pc = .ok (.aaload, 1)) (k : gW Γ E M cells slots (pc + 1) lv (va_rf r :: st)) : gW Γ E M cells slots pc lv (.int (iI i) :: .ref a :: st) := fun H locs ls hP hS hl => by
  have hin := iI_in h0 h1 h2
  have hlt : (iI i).toNatClampNeg < n := Nat.not_le.mp fun q => hin (Or.inr q)
  refine W.aald (v := va_rf r) (ty := .array .int) hΓ.1 hΓ.2.1 (hP a _ hM) ((hΓ.2.2.2.2.2.2.2.1.2 4 _ rfl).1 n (fun j => va_rf (f (j : Int)))) rfl (fun q => by cases q) (by show ¬ (iI i < 0 ∨ (arrV _ _ _).slots.size ≤ _); rw [arrV_size]; exact hin) (by show (arrV _ _ _).slots[_]? = _; rw [arrV_read _ _ hlt]; show some (va_rf (f (((iI i).toNatClampNeg : Nat) : Int))) = _; rw [iI_cl h0 h2, hf]) rfl rfl hd (k H locs ls hP hS hl)
theorem g_aaldO (hΓ : gOK l Γ E X y cc nL ret d mc ms post) {a n : Nat} {f : Int → Option Nat} {i : Int} {r : Option Nat} (hM : M a = some (cRf E 5 n f)) (h0 : 0 ≤ i) (h1 : i < (n : Int)) (h2 : i < 2147483648) (hf : f i = r) (hd : decode cc pc = .ok (.aaload, 1)) (k : gW Γ E M cells slots (pc + 1) lv (va_rf r :: st)) : gW Γ E M cells slots pc lv (.int (iI i) :: .ref a :: st) := fun H locs ls hP hS hl => by
  have hin := iI_in h0 h1 h2
  have hlt : (iI i).toNatClampNeg < n := Nat.not_le.mp fun q => hin (Or.inr q)
  refine W.aald (v := va_rf r) (ty := .object "java/lang/Object") hΓ.1 hΓ.2.1 (hP a _ hM) ((hΓ.2.2.2.2.2.2.2.1.2 5 _ rfl).1 n (fun j => va_rf (f (j : Int)))) rfl (fun q => by cases q) (by show ¬ (iI i < 0 ∨ (arrV _ _ _).slots.size ≤ _); rw [arrV_size]; exact hin) (by show (arrV _ _ _).slots[_]? = _; rw [arrV_read _ _ hlt]; show some (va_rf (f (((iI i).toNatClampNeg : Nat) : Int))) = _; rw [iI_cl h0 h2, hf]) rfl rfl hd (k H locs ls hP hS hl)
theorem g_aaldS (hΓ : gOK l Γ E X y cc nL ret d mc ms post) {a n : Nat} {f : Int → Option Nat} {i : Int} {r : Option Nat} (hM : M a = some (cRf E 6 n f)) (h0 : 0 ≤ i) (h1 : i < (n : Int)) (h2 : i < 2147483648) (hf : f i = r) (hd : decode cc pc = .ok (.aaload, 1)) (k : gW Γ E M cells slots (pc + 1) lv (va_rf r :: st)) : gW Γ E M cells slots pc lv (.int (iI i) :: .ref a :: st) := fun H locs ls hP hS hl => by
  have hin := iI_in h0 h1 h2
  have hlt : (iI i).toNatClampNeg < n := Nat.not_le.mp fun q => hin (Or.inr q)
  refine W.aald (v := va_rf r) (ty := .object "java/lang/String") hΓ.1 hΓ.2.1 (hP a _ hM) ((hΓ.2.2.2.2.2.2.2.1.2 6 _ rfl).1 n (fun j => va_rf (f (j : Int)))) rfl (fun q => by cases q) (by show ¬ (iI i < 0 ∨ (arrV _ _ _).slots.size ≤ _); rw [arrV_size]; exact hin) (by show (arrV _ _ _).slots[_]? = _; rw [arrV_read _ _ hlt]; show some (va_rf (f (((iI i).toNatClampNeg : Nat) : Int))) = _; rw [iI_cl h0 h2, hf]) rfl rfl hd (k H locs ls hP hS hl)
theorem g_alenR (hΓ : gOK l Γ E X y cc nL ret d mc ms post) {a n t : Nat} {f : Int → Option Nat} (hM : M a = some (cRf E t n f)) (ht : t = 4 ∨ t = 5 ∨ t = 6) (hd : decode cc pc = .ok (.arraylength, 1)) (k : gW Γ E M cells slots (pc + 1) lv (.int (iI (n : Int)) :: st)) : gW Γ E M cells slots pc lv (.ref a :: st) := fun H locs ls hP hS hl => by
  have hv : Int32.ofNat n = iI (n : Int) := by rw [iI, Int32.ofInt_eq_ofNat]
  rcases ht with rfl | rfl | rfl
  · exact va_alen hΓ.1 hΓ.2.1 hΓ.2.2.2.2.2.2.2.1 (hP.one hM) 0 4 rfl rfl hv hd (k H locs ls hP hS hl)
  · exact va_alen hΓ.1 hΓ.2.1 hΓ.2.2.2.2.2.2.2.1 (hP.one hM) 0 5 rfl rfl hv hd (k H locs ls hP hS hl)
  · exact va_alen hΓ.1 hΓ.2.1 hΓ.2.2.2.2.2.2.2.1 (hP.one hM) 0 6 rfl rfl hv hd (k H locs ls hP hS hl)
theorem g_aastO (hΓ : gOK l Γ E X y cc nL ret d mc ms post) {a n v ci : Nat} {r : vw_C} {vs : List Value} {f : Int → Option Nat} {i : Int} (hM : M a = some (cRf E 5 n f)) (hA : E.2.2 a) (hV : M v = some (.inr (ci, vs))) (hc : E.2.1[ci]? = some r) (hca : ∀ U, X U → va_Nw (.castable r.1 "java/lang/Object") U) (h0 : 0 ≤ i) (h1 : i < (n : Int)) (h2 : i < 2147483648) (hd : decode cc pc = .ok (.aastore, 1)) (k : gW Γ E (wU M a (cRf E 5 n (up f i (some v)))) cells slots (pc + 1) lv st) : gW Γ E M cells slots pc lv (.ref v :: .int (iI i) :: .ref a :: st) := by
  intro H locs ls hP hS hl
  have hin := iI_in h0 h1 h2
  have hlt : (iI i).toNatClampNeg < n := Nat.not_le.mp fun q => hin (Or.inr q)
  have h0' : ¬ iI i < 0 := fun q => hin (Or.inl q)
  obtain ⟨r', hr', cellV, g1, g2, g3, -⟩ := hP v _ hV
  have hcls := (hΓ.2.2.2.2.2.2.2.1.1 ci r hc).2
  obtain ⟨kA, comp, k1, k2, k3, -⟩ := (hΓ.2.2.2.2.2.2.2.1.2 5 _ rfl).2
  obtain ⟨kE, hkE, -⟩ := Vm.findClass_spec k3
  obtain ⟨c0, t1, f1, f2, f3⟩ := Cond.castable_spec (va_Nw.use (A := Γ.2.2.2.2.2.2.1) rfl (hca _ hΓ.2.2.2.2.2.2.2.2.1.2))
  cases hcls.1.symm.trans f1
  cases k3.symm.trans f2
  obtain ⟨kC, hkC, -⟩ := hcls.2
  refine W.aast hΓ.1 hΓ.2.1 (hP a _ hM) (fun q h => by cases h) (fun h => by cases h) k1 k2 rfl hkE ⟨h0', by show _ < (arrV _ _ _).slots.size; rw [arrV_size]; exact hlt⟩ g1 (fun q h => by rw [g3] at h; cases h) (by rw [g2]; exact hkC) (by rw [g2]; exact f3) rfl rfl hd fun H1 e z oq => ?_
  refine k H1 _ ls (hP.set ?_ oq) (hS.put z oq hA) hl
  show H1[a]? = some (vp_cell _ _)
  rw [e]
  rw [vp_cell_q, vp_cell_q, arrV_store]
  congr 2
  funext q
  have hcl := iI_cl h0 h2
  by_cases hq : q = (iI i).toNatClampNeg
  · subst hq
    simp only [updV, up, hcl, if_true]
    rfl
  · have hq2 : ¬ ((q : Int) = i) := fun z => hq (by omega)
    simp only [updV, up, hq, hq2, if_false]
theorem g_aastN (hΓ : gOK l Γ E X y cc nL ret d mc ms post) {a n : Nat} {f : Int → Option Nat} {i : Int} (hM : M a = some (cRf E 5 n f)) (hA : E.2.2 a) (h0 : 0 ≤ i) (h1 : i < (n : Int)) (h2 : i < 2147483648) (hd : decode cc pc = .ok (.aastore, 1)) (k : gW Γ E (wU M a (cRf E 5 n (up f i none))) cells slots (pc + 1) lv st) : gW Γ E M cells slots pc lv (.null :: .int (iI i) :: .ref a :: st) := by
  intro H locs ls hP hS hl
  have hin := iI_in h0 h1 h2
  refine va_WaastN (C := "java/lang/Object") hΓ.1 hΓ.2.1 (hP a _ hM) ((hΓ.2.2.2.2.2.2.2.1.2 5 _ rfl).1 n (fun j => va_rf (f (j : Int)))) (fun h => by cases h) (by show ¬ (iI i < 0 ∨ (arrV _ _ _).slots.size ≤ _); rw [arrV_size]; exact hin) rfl rfl hd fun H1 e z oq => ?_
  refine k H1 _ ls (hP.set ?_ oq) (hS.put z oq hA) hl
  show H1[a]? = some (vp_cell _ _)
  rw [e]
  rw [vp_cell_q, vp_cell_q, arrV_store]
  congr 2
  funext q
  have hcl := iI_cl h0 h2
  by_cases hq : q = (iI i).toNatClampNeg
  · subst hq
    simp only [updV, up, hcl, if_true]
    rfl
  · have hq2 : ¬ ((q : Int) = i) := fun z => hq (by omega)
    simp only [updV, up, hq, hq2, if_false]
theorem g_getfS (hΓ : gOK l Γ E X y cc nL ret d mc ms post) {C ref : String} {T : u_T} {N ci ix a : Nat} {fs : List Value} {v : Value} (hin : ∀ w ∈ u_ws C T N, w ∈ lw_all) (hM : M a = some (.inr (ci, fs))) (hc : E.2.1[ci]? = some (C, T, N)) (k : Nat) (hk : k < N) {own : String} (ho : own = y.cls) (hlink : Cond.fieldLink own ix ref (T k).2.1 (T k).2.2.1 ∈ lw_all) (hsame : Cond.sameField ref (T k).1 (T k).2.1 (T k).2.2.1 ∈ lw_all) (hv : fs[k]? = some v) (hd : decode cc pc = .ok (.getfield ix, 3)) (kk : gW Γ E M cells slots (pc + 3) lv (v :: st)) : gW Γ E M cells slots pc lv (.ref a :: st) := fun H locs ls hP hS hl => va_get hΓ.1 hΓ.2.1 (own := own) hΓ.2.2.2.2.2.2.1 hin (by rw [ho]; exact hΓ.2.2.2.2.2.1) hΓ.2.2.2.2.2.2.2.1 (hP.one hM) 0 rfl hc k hk (hΓ.2.2.2.2.2.2.1 _ hlink) (fun x hx => u_same (hΓ.2.2.2.2.2.2.1 _ hsame) x hx) hv hd (kk H locs ls hP hS hl)
theorem g_getN (hΓ : gOK l Γ E X y cc nL ret d mc ms post) {C ref host : String} {T : u_T} {N ci ix a : Nat} {fs : List Value} {v : Value} (hin : ∀ w ∈ u_ws C T N, w ∈ lw_all) (hM : M a = some (.inr (ci, fs))) (hc : E.2.1[ci]? = some (C, T, N)) (k : Nat) (hk : k < N) {own : String} (ho : own = y.cls) (hlink : ∀ U, X U → va_Nw (.fieldLinkNest own ix ref (T k).2.1 (T k).2.2.1 host) U) (hsame : ref = (T k).1) (hv : fs[k]? = some v) (hd : decode cc pc = .ok (.getfield ix, 3)) (kk : gW Γ E M cells slots (pc + 3) lv (v :: st)) : gW Γ E M cells slots pc lv (.ref a :: st) := fun H locs ls hP hS hl => va_getN hΓ.1 hΓ.2.1 (own := own) hΓ.2.2.2.2.2.2.1 hin (by rw [ho]; exact hΓ.2.2.2.2.2.1) hΓ.2.2.2.2.2.2.2.1 (hP.one hM) 0 rfl hc k hk (va_Nw.use rfl (hlink _ hΓ.2.2.2.2.2.2.2.2.1.2)) (fun x hx => by rw [hsame]; exact hx) hv hd (kk H locs ls hP hS hl)
theorem g_putfS (hΓ : gOK l Γ E X y cc nL ret d mc ms post) {C ref : String} {T : u_T} {N ci ix a : Nat} {fs : List Value} {v : Value} (hin : ∀ w ∈ u_ws C T N, w ∈ lw_all) (ty0 : Nat → FieldType) (hty : ∀ k, k < N → parseFieldDescriptor (T k).2.2.1 = some (ty0 k)) (hnm : ∀ a, a < N → ∀ b, b < N → a ≠ b → (T a).2.1 ≠ (T b).2.1) (hM : M a = some (.inr (ci, fs))) (hc : E.2.1[ci]? = some (C, T, N)) (hA : E.2.2 a) (k : Nat) (hk : k < N) {own : String} (ho : own = y.cls) (hlink : Cond.fieldLink own ix ref (T k).2.1 (T k).2.2.1 ∈ lw_all) (hsame : ref = (T k).1 ∨ Cond.sameField ref (T k).1 (T k).2.1 (T k).2.2.1 ∈ lw_all) (hfin : (T k).2.2.2 = false) {ty : FieldType} (hdsc : parseFieldDescriptor (T k).2.2.1 = some ty) (hn : narrow ty v = v) (hfit : fits ty v = true) (hlen : k < fs.length) (hd : decode cc pc = .ok (.putfield ix, 3)) (kk : gW Γ E (wU M a (.inr (ci, fs.set k v))) cells slots (pc + 3) lv st) : gW Γ E M cells slots pc lv (v :: .ref a :: st) := by
  intro H locs ls hP hS hl
  have hK := hΓ.2.2.2.2.2.2.2.1
  have hts := hΓ.2.2.2.2.2.2.1
  have hown : Γ.2.2.2.2.1.vm.findClass own = some Γ.2.2.2.2.2.1.cls := (by rw [ho]; exact hΓ.2.2.2.2.2.1)
  have hap := va_apart (own := own) hts hin ty0 hty hnm hK hc
  obtain ⟨r, h1, cell, q1, q2, q3, q4⟩ := hP a _ hM
  have hr : r = (C, T, N) := Option.some.inj (h1.symm.trans hc)
  subst hr
  obtain ⟨hSl, hfc, kC, hkC, hkind⟩ := hK.1 ci _ hc
  obtain ⟨cf, kf, fi, f, hi, hsl⟩ := hSl k hk
  have hlay := hts _ (hin _ (u_in_lay hk))
  unfold u_lay at hlay
  have hst := (u_facts hfc hkC (u_lays hts hin hk) hi).1
  rw [if_neg (by rw [hfin]; decide)] at hlay
  have h6 := u_store hfc hkC hkind hlay hi hdsc hn hfit
  have hi2 : Γ.2.2.2.2.1.fieldFound? ref (T k).2.1 (T k).2.2.1 = some (cf, kf, fi, f) := by
    rcases hsame with e | hs
    · rw [e]; exact hi
    · exact u_same (hts _ hs) _ hi
  refine W.putK hΓ.1 hΓ.2.1 (f := f) ⟨hown, hts _ hlink, ⟨_, _, _, hi2⟩, hst⟩ (by rw [q2]; exact h6) q1 q3 (by rw [hsl]; exact k2_hasslot (q4 k hk)) rfl rfl hd fun H' e1 e2 e3 => ?_
  rw [hsl] at e1 ⊢
  exact kk H' _ ls (hP.set ⟨_, hc, t_OB.to (V := updV (vp_V fs) k v) ⟨_, e1, q2, q3, t_set q4 hap hk v⟩ (fun j _ => vp_updV_set hlen v j)⟩ e3) (hS.put e2 e3 hA) hl
theorem g_gets (hΓ : gOK l Γ E X y cc nL ret d mc ms post) {C n ds own : String} {v : Value} {ix : Nat} (ho : own = y.cls) (hZ : ∀ U, X U → va_Z C n ds v E.2.2 U U.heap) (hlink : Cond.fieldLink own ix C n ds ∈ lw_all) (hd : decode cc pc = .ok (.getstatic ix, 3)) (k : gW Γ E M cells slots (pc + 3) lv (v :: st)) : gW Γ E M cells slots pc lv st := fun H locs ls hP hS hl => va_gets hΓ.1 hΓ.2.1 (hZ _ hΓ.2.2.2.2.2.2.2.2.1.2) hS (own := own) (by rw [ho]; exact hΓ.2.2.2.2.2.1) (hΓ.2.2.2.2.2.2.1 _ hlink) (fun x hx => hx) hd (k H locs ls hP hS hl)
theorem g_getsN (hΓ : gOK l Γ E X y cc nL ret d mc ms post) {C n ds own host : String} {v : Value} {ix : Nat} (ho : own = y.cls) (hZ : ∀ U, X U → va_Z C n ds v E.2.2 U U.heap) (hlink : ∀ U, X U → va_Nw (.fieldLinkNest own ix C n ds host) U) (hd : decode cc pc = .ok (.getstatic ix, 3)) (k : gW Γ E M cells slots (pc + 3) lv (v :: st)) : gW Γ E M cells slots pc lv st := fun H locs ls hP hS hl => va_getsN hΓ.1 hΓ.2.1 (hZ _ hΓ.2.2.2.2.2.2.2.2.1.2) hS (own := own) (by rw [ho]; exact hΓ.2.2.2.2.2.1) (va_Nw.use rfl (hlink _ hΓ.2.2.2.2.2.2.2.2.1.2)) (fun x hx => hx) hd (k H locs ls hP hS hl)
theorem g_ldcS (hΓ : gOK l Γ E X y cc nL ret d mc ms post) {own tx : String} {ix q : Nat} (ho : own = y.cls) (hZ : ∀ U, X U → vk_R own ix tx q U) (hd : decode cc pc = .ok (.ldc ix, 2)) (k : gW Γ E M cells slots (pc + 2) lv (.ref q :: st)) : gW Γ E M cells slots pc lv st := fun H locs ls hP hS hl => va_ldcS hΓ.1 hΓ.2.1 (own := own) (by rw [ho]; exact hΓ.2.2.2.2.2.1) (hZ _ hΓ.2.2.2.2.2.2.2.2.1.2) hd (k H locs ls hP hS hl)
theorem g_objInit (hΓ : gOK l Γ E X y cc nL ret d mc ms post) {own : String} {ix a : Nat} (ho : own = y.cls) (h1 : Cond.methodLink own ix Lib.objectInit ∈ lw_all) (h2 : Cond.instanceMethod Lib.objectInit ∈ lw_all) (h3 : Cond.code Lib.objectInit ⟨#[0xb1]⟩ 1 none ∈ lw_all) (hdd : 1 ≤ d) (hrm : (st.map fun v => v.category).sum ≤ 8) (hlv : lv.length = nL) (hd : decode cc pc = .ok (.invokespecial ix, 3)) (k : gW Γ E M cells slots (pc + 3) lv st) : gW Γ E M cells slots pc lv (.ref a :: st) := fun H locs ls hP hS hl => W.objInit hΓ.1 hΓ.2.1 (own := own) (by rw [ho]; exact hΓ.2.2.2.2.2.1) (hΓ.2.2.2.2.2.2.1 _ h1) (hΓ.2.2.2.2.2.2.1 _ h2) (hΓ.2.2.2.2.2.2.1 _ h3) rfl (by show ls.size = _; rw [hΓ.2.2.2.2.1]; exact hl.1.trans hlv) rfl hd (by rw [hΓ.2.2.2.2.2.2.2.2.2.1]; exact hdd) (by rw [hΓ.2.2.2.2.2.2.2.2.2.1]; show 2 * 0 + (st.map fun v => v.category).sum + 12 ≤ 64 * d; omega) (k H locs ls hP hS hl)
theorem g_castS (hΓ : gOK l Γ E X y cc nL ret d mc ms post) {own nm : String} {ix a ci N : Nat} {T : u_T} {fs : List Value} (ho : own = y.cls) (hlink : Cond.classLink own ix nm ∈ lw_all) (hM : M a = some (.inr (ci, fs))) (hc : E.2.1[ci]? = some (nm, T, N)) (hd : decode cc pc = .ok (.checkcast ix, 3)) (k : gW Γ E M cells slots (pc + 3) lv (.ref a :: st)) : gW Γ E M cells slots pc lv (.ref a :: st) := fun H locs ls hP hS hl => va_castS hΓ.1 hΓ.2.1 (own := own) (by rw [ho]; exact hΓ.2.2.2.2.2.1) (hΓ.2.2.2.2.2.2.1 _ hlink) (cC := E.1.1 ci) (hΓ.2.2.2.2.2.2.2.1.1 ci _ hc).2 (va_recv hΓ.2.2.2.2.2.2.2.1 (hP.one hM) hc (q0 := 0) rfl) hd (k H locs ls hP hS hl)
theorem g_instS (hΓ : gOK l Γ E X y cc nL ret d mc ms post) {own nm : String} {ix a ci N : Nat} {T : u_T} {fs : List Value} (ho : own = y.cls) (hlink : Cond.classLink own ix nm ∈ lw_all) (hM : M a = some (.inr (ci, fs))) (hc : E.2.1[ci]? = some (nm, T, N)) (hd : decode cc pc = .ok (.instanceof ix, 3)) (k : gW Γ E M cells slots (pc + 3) lv (.int (iI 1) :: st)) : gW Γ E M cells slots pc lv (.ref a :: st) := fun H locs ls hP hS hl => va_instS hΓ.1 hΓ.2.1 (own := own) (by rw [ho]; exact hΓ.2.2.2.2.2.1) (hΓ.2.2.2.2.2.2.1 _ hlink) (cC := E.1.1 ci) (hΓ.2.2.2.2.2.2.2.1.1 ci _ hc).2 (va_recv hΓ.2.2.2.2.2.2.2.1 (hP.one hM) hc (q0 := 0) rfl) hd (k H locs ls hP hS hl)
theorem g_castN (hΓ : gOK l Γ E X y cc nL ret d mc ms post) {ix : Nat} (hd : decode cc pc = .ok (.checkcast ix, 3)) (k : gW Γ E M cells slots (pc + 3) lv (.null :: st)) : gW Γ E M cells slots pc lv (.null :: st) := fun H locs ls hP hS hl => lv_castN hΓ.1 hΓ.2.1 hd (k H locs ls hP hS hl)
theorem g_ldcM (hΓ : gOK l Γ E X y cc nL ret d mc ms post) {own C : String} {ix mi : Nat} (ho : own = y.cls) (hlink : Cond.classLink own ix C ∈ lw_all) (hM : ∀ U, X U → va_Mi C mi U) (hd : decode cc pc = .ok (.ldc ix, 2)) (k : gW Γ E M cells slots (pc + 2) lv (.ref mi :: st)) : gW Γ E M cells slots pc lv st := fun H locs ls hP hS hl => va_ldcM hΓ.1 hΓ.2.1 (own := own) (by rw [ho]; exact hΓ.2.2.2.2.2.1) (hΓ.2.2.2.2.2.2.1 _ hlink) (hM _ hΓ.2.2.2.2.2.2.2.2.1.2) hd (k H locs ls hP hS hl)
abbrev yGetC : MethodName := ⟨"java/lang/Object", "getClass", "()Ljava/lang/Class;"⟩
theorem g_getC (hΓ : gOK l Γ E X y cc nL ret d mc ms post) {own : String} {ix mi a n : Nat} {f : Int → Option Nat} (ho : own = y.cls) (h1 : Cond.methodLink own ix yGetC ∈ lw_all) (h2 : ∀ U, X U → va_Dc U) (h3 : Cond.selects "[Ljava/lang/Object;" yGetC yGetC ∈ lw_all) (h4 : Cond.instanceMethod yGetC ∈ lw_all) (h5 : Cond.native yGetC ∈ lw_all) (hM : ∀ U, X U → va_Mi "[Ljava/lang/Object;" mi U) (hMa : M a = some (cRf E 5 n f)) (hdd : 1 ≤ d) (hrm : (st.map fun v => v.category).sum ≤ 8) (hlv : lv.length = nL) (hd : decode cc pc = .ok (.invokevirtual ix, 3)) (k : gW Γ E M cells slots (pc + 3) lv (.ref mi :: st)) : gW Γ E M cells slots pc lv (.ref a :: st) := fun H locs ls hP hS hl => by
  obtain ⟨-, -, -, -, -, hnm⟩ := (hΓ.2.2.2.2.2.2.2.1.2 5 _ rfl).2
  exact va_getC hΓ.1 hΓ.2.1 (by rw [hΓ.2.2.2.2.1]; exact (hl.1.trans hlv).symm) (own := own) (by rw [ho]; exact hΓ.2.2.2.2.2.1) (hΓ.2.2.2.2.2.2.1 _ h1) (va_Dc.use (h2 _ hΓ.2.2.2.2.2.2.2.2.1.2)) (hΓ.2.2.2.2.2.2.1 _ h3) (hΓ.2.2.2.2.2.2.1 _ h4) (hΓ.2.2.2.2.2.2.1 _ h5) (hM _ hΓ.2.2.2.2.2.2.2.2.1.2) ⟨_, hP a _ hMa, rfl, hnm⟩ (by rw [hΓ.2.2.2.2.2.2.2.2.2.1]; exact hdd) (by rw [hΓ.2.2.2.2.2.2.2.2.2.1]; show (st.map fun v => v.category).sum + 14 ≤ 64 * d; omega) hd (k H locs ls hP hS hl)
end GR2
/-! the writable part of a world as a list: for rows that speak of lists -/
noncomputable def wsA (E : gE) (M : wM) (n : Nat) : va_W := (List.range n).filterMap (fun b => @ite (Option (Nat × va_E)) (E.2.2 b) (Classical.propDecidable (E.2.2 b)) ((M b).map (fun e => (b, e))) none)
theorem wsA_f {E : gE} {M : wM} {b : Nat} {p : Nat × va_E} (h : @ite (Option (Nat × va_E)) (E.2.2 b) (Classical.propDecidable (E.2.2 b)) ((M b).map (fun e => (b, e))) none = some p) : p.1 = b ∧ E.2.2 b ∧ M b = some p.2 := by
  by_cases hA : E.2.2 b
  · rw [if_pos hA] at h
    cases hM : M b with
    | none => rw [hM] at h; cases h
    | some e => rw [hM] at h; cases h; exact ⟨rfl, hA, rfl⟩
  · rw [if_neg hA] at h; cases h
theorem wsA_mem {E : gE} {M : wM} {n b : Nat} {e : va_E} : (b, e) ∈ wsA E M n ↔ b < n ∧ E.2.2 b ∧ M b = some e := by
  constructor
  · intro h
    obtain ⟨c, hc, h⟩ := List.mem_filterMap.mp h
    obtain ⟨h1, h2, h3⟩ := wsA_f h
    have h1 : b = c := h1
    subst h1
    exact ⟨List.mem_range.mp hc, h2, h3⟩
  · rintro ⟨h1, h2, h3⟩
    exact List.mem_filterMap.mpr ⟨b, List.mem_range.mpr h1, by rw [if_pos h2, h3]; rfl⟩
theorem wsA_pw (E : gE) (M : wM) (n : Nat) : (wsA E M n).Pairwise (fun p q => p.1 < q.1) := by
  refine List.Pairwise.filterMap _ ?_ List.pairwise_lt_range
  intro a a' haa b hb b' hb'
  have h1 := (wsA_f (Option.mem_def.mp hb)).1
  have h2 := (wsA_f (Option.mem_def.mp hb')).1
  omega
theorem wsA_D (E : gE) (M : wM) (n : Nat) : va_D E.2.2 (wsA E M n) := by
  refine ⟨fun i j p q hi hj h => ?_, fun k q hk => (wsA_mem.mp (List.mem_of_getElem? (i := k) (show (wsA E M n)[k]? = some (q.1, q.2) from hk))).2.1⟩
  have hp := List.pairwise_iff_getElem.mp (wsA_pw E M n)
  obtain ⟨i1, i2⟩ := List.getElem?_eq_some_iff.mp hi
  obtain ⟨j1, j2⟩ := List.getElem?_eq_some_iff.mp hj
  rcases Nat.lt_trichotomy i j with z | z | z
  · have := hp i j i1 j1 z
    rw [i2, j2] at this
    omega
  · exact z
  · have := hp j i j1 i1 z
    rw [i2, j2] at this
    omega
theorem PM.wsP {E : gE} {M : wM} {H : Heap} (h : PM E M H) : va_P E.1 E.2.1 (wsA E M H.size) H := fun k q hk => h q.1 q.2 (wsA_mem.mp (List.mem_of_getElem? (i := k) (show (wsA E M H.size)[k]? = some (q.1, q.2) from hk))).2.2
theorem wsA_at {E : gE} {M : wM} {H : Heap} (h : PM E M H) {a : Nat} {e : va_E} (hA : E.2.2 a) (hM : M a = some e) : ∃ k : Nat, (wsA E M H.size)[k]? = some (a, e) := List.getElem?_of_mem (wsA_mem.mpr ⟨h.lt hM, hA, hM⟩)
theorem PM.back {E : gE} {M : wM} {H H1 H0 : Heap} {locs locs1 : List Loc} {k a : Nat} {e e' : va_E} (hP : PM E M H) (hnew : ∀ q, H0.size ≤ q → E.2.2 q) (hS : va_S E.2.2 H0 H locs) (hk : (wsA E M H.size)[k]? = some (a, e)) (hP1 : va_P E.1 E.2.1 ((wsA E M H.size).set k (a, e')) H1) (hS1 : va_S E.2.2 H0 H1 locs1) : PM E (wU M a e') H1 := by
  intro b e1 hb
  by_cases hq : b = a
  · subst hq
    rw [wU_s] at hb
    cases hb
    exact hP1 k (b, e') (List.getElem?_set_self (List.getElem?_eq_some_iff.mp hk).1)
  · rw [wU_n hq] at hb
    by_cases hA : E.2.2 b
    · obtain ⟨j, hj⟩ := wsA_at hP hA hb
      have hjk : k ≠ j := by
        rintro rfl
        rw [hk] at hj
        cases hj
        exact hq rfl
      exact hP1 j (b, e1) (by rw [List.getElem?_set_ne hjk]; exact hj)
    · have hlt : b < H0.size := Nat.lt_of_not_le fun z => hA (hnew b z)
      exact (hP b e1 hb).kept (by rw [hS1.2.1 b hlt hA, hS.2.1 b hlt hA])
def cpI {α : Type} (f g : Int → α) (sp dp n : Int) : Int → α := fun j => if dp ≤ j ∧ j < dp + n then f (sp + (j - dp)) else g j
theorem cpI_cpy {α β : Type} (h : α → β) (f g : Int → α) {sp dp n : Int} (h1 : 0 ≤ sp) (h2 : 0 ≤ dp) (h3 : 0 ≤ n) : va_cpy (fun j : Nat => h (f (j : Int))) (fun j : Nat => h (g (j : Int))) sp.toNat dp.toNat n.toNat = fun j : Nat => h (cpI f g sp dp n (j : Int)) := by
  funext j
  simp only [va_cpy, cpI]
  by_cases c : dp ≤ (j : Int) ∧ (j : Int) < dp + n
  · rw [if_pos c, if_pos (by omega)]
    congr 2
    omega
  · rw [if_neg c, if_neg (by omega)]
section GR3
variable {l : Launch} {Γ : gC} {E : gE} {X : State → Prop} {y : MethodName} {cc : ByteArray} {nL : Nat} {ret : Option FieldType} {d mc ms : Nat} {post : Option Value → wM → Prop} {M : wM} {cells slots pc : Nat} {lv lv' : List (Option Value)} {st rest : List Value}
theorem g_copyi (hΓ : gOK l Γ E X y cc nL ret d mc ms post) (hA : xNew E X) {own : String} {ix : Nat} (ho : own = y.cls) (h1 : Cond.methodLink own ix arraycopyName ∈ lw_all) (h2 : Cond.native arraycopyName ∈ lw_all) (h3 : Cond.static arraycopyName ∈ lw_all) (h4 : Cond.initialized "java/lang/System" ∈ lw_all) {a0 a n0 n1 : Nat} {f g : Int → Int} {sp dp n : Int} (hM0 : M a0 = some (cAr E 0 n0 f)) (hA0 : E.2.2 a0) (hM1 : M a = some (cAr E 0 n1 g)) (hA1 : E.2.2 a) (b : 0 ≤ sp ∧ 0 ≤ dp ∧ 0 ≤ n ∧ sp + n ≤ (n0 : Int) ∧ dp + n ≤ (n1 : Int) ∧ (n0 : Int) < 2147483648 ∧ (n1 : Int) < 2147483648) (hdd : 1 ≤ d) (hrm : (st.map fun v => v.category).sum ≤ 8) (hlv : lv.length = nL) (hd : decode cc pc = .ok (.invokestatic ix, 3)) (k : gW Γ E (wU M a (cAr E 0 n1 (cpI f g sp dp n))) cells slots (pc + 3) lv st) : gW Γ E M cells slots pc lv (.int (iI n) :: .int (iI dp) :: .ref a :: .int (iI sp) :: .ref a0 :: st) := fun H locs ls hP hS hl => by
  obtain ⟨b1, b2, b3, b4, b5, b6, b7⟩ := b
  have e1 := iI_clN b1 (show sp < 2147483648 by omega)
  have e2 := iI_clN b2 (show dp < 2147483648 by omega)
  have e3 := iI_clN b3 (show n < 2147483648 by omega)
  have hml : Γ.2.2.2.2.2.2.2.2.2.1.maxLocals = ls.size := by rw [hΓ.2.2.2.2.1]; exact (hl.1.trans hlv).symm
  have hfr : 1 ≤ Γ.2.2.2.1.frames := by rw [hΓ.2.2.2.2.2.2.2.2.2.1]; exact hdd
  have hlo : (st.map fun v => v.category).sum + (nativeFrameWords "java/lang/System" "arraycopy" 5 + 11) ≤ Γ.2.2.2.1.locals := by
    rw [hΓ.2.2.2.2.2.2.2.2.2.1]
    have hw : nativeFrameWords "java/lang/System" "arraycopy" 5 = 7 := by decide
    show _ ≤ 64 * d
    omega
  obtain ⟨k0, hk0⟩ := wsA_at hP hA0 hM0
  obtain ⟨k1, hk1⟩ := wsA_at hP hA1 hM1
  refine va_copyi (H0 := Γ.2.2.2.2.1.heap) hΓ.1 hΓ.2.1 hml (own := own) (by rw [ho]; exact hΓ.2.2.2.2.2.1) (hΓ.2.2.2.2.2.2.1 _ h1) (hΓ.2.2.2.2.2.2.1 _ h2) (hΓ.2.2.2.2.2.2.1 _ h3) (hΓ.2.2.2.2.2.2.1 _ h4) hΓ.2.2.2.2.2.2.2.1 hP.wsP (wsA_D E M H.size) hS k0 k1 0 0 hk0 hk1 rfl rfl rfl (iI_nn b1 (by omega)) (iI_nn b2 (by omega)) (iI_nn b3 (by omega)) (by rw [e1, e3]; omega) (by rw [e2, e3]; omega) (fun _ _ => rfl) hfr hlo hd fun H1 locs1 p1 d1 s1 => ?_
  rw [e1, e2, e3, cpI_cpy iI f g b1 b2 b3] at p1
  exact k H1 locs1 ls (hP.back (hA _ hΓ.2.2.2.2.2.2.2.2.1.2) hS hk1 p1 s1) s1 hl
theorem g_copyx (hΓ : gOK l Γ E X y cc nL ret d mc ms post) (hA : xNew E X) {own : String} {ix : Nat} (ho : own = y.cls) (h1 : Cond.methodLink own ix arraycopyName ∈ lw_all) (h2 : Cond.native arraycopyName ∈ lw_all) (h3 : Cond.static arraycopyName ∈ lw_all) (h4 : Cond.initialized "java/lang/System" ∈ lw_all) {a0 a n0 n1 : Nat} {f g : Int → Int} {sp dp n : Int} (hM0 : M a0 = some (cAr E 0 n0 f)) (hA0 : ¬ E.2.2 a0) (hM1 : M a = some (cAr E 0 n1 g)) (hA1 : E.2.2 a) (b : 0 ≤ sp ∧ 0 ≤ dp ∧ 0 ≤ n ∧ sp + n ≤ (n0 : Int) ∧ dp + n ≤ (n1 : Int) ∧ (n0 : Int) < 2147483648 ∧ (n1 : Int) < 2147483648) (hdd : 1 ≤ d) (hrm : (st.map fun v => v.category).sum ≤ 8) (hlv : lv.length = nL) (hd : decode cc pc = .ok (.invokestatic ix, 3)) (k : gW Γ E (wU M a (cAr E 0 n1 (cpI f g sp dp n))) cells slots (pc + 3) lv st) : gW Γ E M cells slots pc lv (.int (iI n) :: .int (iI dp) :: .ref a :: .int (iI sp) :: .ref a0 :: st) := fun H locs ls hP hS hl => by
  obtain ⟨b1, b2, b3, b4, b5, b6, b7⟩ := b
  have e1 := iI_clN b1 (show sp < 2147483648 by omega)
  have e2 := iI_clN b2 (show dp < 2147483648 by omega)
  have e3 := iI_clN b3 (show n < 2147483648 by omega)
  have hml : Γ.2.2.2.2.2.2.2.2.2.1.maxLocals = ls.size := by rw [hΓ.2.2.2.2.1]; exact (hl.1.trans hlv).symm
  have hfr : 1 ≤ Γ.2.2.2.1.frames := by rw [hΓ.2.2.2.2.2.2.2.2.2.1]; exact hdd
  have hlo : (st.map fun v => v.category).sum + (nativeFrameWords "java/lang/System" "arraycopy" 5 + 11) ≤ Γ.2.2.2.1.locals := by
    rw [hΓ.2.2.2.2.2.2.2.2.2.1]
    have hw : nativeFrameWords "java/lang/System" "arraycopy" 5 = 7 := by decide
    show _ ≤ 64 * d
    omega
  obtain ⟨k1, hk1⟩ := wsA_at hP hA1 hM1
  have hlt : a0 < Γ.2.2.2.2.1.heap.size := Nat.lt_of_not_le fun z => hA0 (hA _ hΓ.2.2.2.2.2.2.2.2.1.2 a0 z)
  have hc0 : Γ.2.2.2.2.1.heap[a0]? = some (vp_cell _ _) := (hS.2.1 a0 hlt hA0).symm.trans (hP a0 _ hM0)
  have hX0 : va_X a0 n0 (fun j => iI (f (j : Int))) Γ.2.2.2.2.1 Γ.2.2.2.2.1.heap := ⟨_, hc0, (hΓ.2.2.2.2.2.2.2.1.2 0 _ rfl).1 n0 (fun j => .int (iI (f (j : Int)))), (fun q => by cases q), by rw [vp_cell_i, arrV_size], fun j hj => by rw [vp_cell_i, arrV_read _ _ hj]⟩
  refine va_copyx hΓ.1 hΓ.2.1 hml (own := own) (by rw [ho]; exact hΓ.2.2.2.2.2.1) (hΓ.2.2.2.2.2.2.1 _ h1) (hΓ.2.2.2.2.2.2.1 _ h2) (hΓ.2.2.2.2.2.2.1 _ h3) (hΓ.2.2.2.2.2.2.1 _ h4) hΓ.2.2.2.2.2.2.2.1 hP.wsP (wsA_D E M H.size) hS hX0 hlt hA0 k1 0 hk1 rfl (iI_nn b1 (by omega)) (iI_nn b2 (by omega)) (iI_nn b3 (by omega)) (by rw [e1, e3]; omega) (by rw [e2, e3]; omega) hfr hlo hd fun H1 locs1 p1 d1 s1 => ?_
  rw [e1, e2, e3, cpI_cpy iI f g b1 b2 b3] at p1
  exact k H1 locs1 ls (hP.back (hA _ hΓ.2.2.2.2.2.2.2.2.1.2) hS hk1 p1 s1) s1 hl
theorem g_copyr (hΓ : gOK l Γ E X y cc nL ret d mc ms post) (hA : xNew E X) {own : String} {ix : Nat} (ho : own = y.cls) (h1 : Cond.methodLink own ix arraycopyName ∈ lw_all) (h2 : Cond.native arraycopyName ∈ lw_all) (h3 : Cond.static arraycopyName ∈ lw_all) (h4 : Cond.initialized "java/lang/System" ∈ lw_all) {a0 a n0 n1 : Nat} {f g : Int → Option Nat} {sp dp n : Int} (hM0 : M a0 = some (cRf E 5 n0 f)) (hA0 : E.2.2 a0) (hM1 : M a = some (cRf E 5 n1 g)) (hA1 : E.2.2 a) (hel : ∀ i : Int, sp ≤ i → i < sp + n → ∀ q : Nat, f i = some q → ∃ (ci : Nat) (fs : List Value) (r : vw_C), M q = some (.inr (ci, fs)) ∧ E.2.1[ci]? = some r ∧ ∀ U, X U → va_Nw (.castable r.1 "java/lang/Object") U) (b : 0 ≤ sp ∧ 0 ≤ dp ∧ 0 ≤ n ∧ sp + n ≤ (n0 : Int) ∧ dp + n ≤ (n1 : Int) ∧ (n0 : Int) < 2147483648 ∧ (n1 : Int) < 2147483648) (hdd : 1 ≤ d) (hrm : (st.map fun v => v.category).sum ≤ 8) (hlv : lv.length = nL) (hd : decode cc pc = .ok (.invokestatic ix, 3)) (k : gW Γ E (wU M a (cRf E 5 n1 (cpI f g sp dp n))) cells slots (pc + 3) lv st) : gW Γ E M cells slots pc lv (.int (iI n) :: .int (iI dp) :: .ref a :: .int (iI sp) :: .ref a0 :: st) := fun H locs ls hP hS hl => by
  obtain ⟨b1, b2, b3, b4, b5, b6, b7⟩ := b
  have e1 := iI_clN b1 (show sp < 2147483648 by omega)
  have e2 := iI_clN b2 (show dp < 2147483648 by omega)
  have e3 := iI_clN b3 (show n < 2147483648 by omega)
  have hml : Γ.2.2.2.2.2.2.2.2.2.1.maxLocals = ls.size := by rw [hΓ.2.2.2.2.1]; exact (hl.1.trans hlv).symm
  have hfr : 1 ≤ Γ.2.2.2.1.frames := by rw [hΓ.2.2.2.2.2.2.2.2.2.1]; exact hdd
  have hlo : (st.map fun v => v.category).sum + (nativeFrameWords "java/lang/System" "arraycopy" 5 + 11) ≤ Γ.2.2.2.1.locals := by
    rw [hΓ.2.2.2.2.2.2.2.2.2.1]
    have hw : nativeFrameWords "java/lang/System" "arraycopy" 5 = 7 := by decide
    show _ ≤ 64 * d
    omega
  obtain ⟨k0, hk0⟩ := wsA_at hP hA0 hM0
  obtain ⟨k1, hk1⟩ := wsA_at hP hA1 hM1
  refine va_copyM (H0 := Γ.2.2.2.2.1.heap) (E0 := "java/lang/Object") (E1 := "java/lang/Object") hΓ.1 hΓ.2.1 hml (own := own) (by rw [ho]; exact hΓ.2.2.2.2.2.1) (hΓ.2.2.2.2.2.2.1 _ h1) (hΓ.2.2.2.2.2.2.1 _ h2) (hΓ.2.2.2.2.2.2.1 _ h3) (hΓ.2.2.2.2.2.2.1 _ h4) hΓ.2.2.2.2.2.2.2.1 hP.wsP (wsA_D E M H.size) hS k0 k1 5 5 hk0 hk1 rfl rfl (iI_nn b1 (by omega)) (iI_nn b2 (by omega)) (iI_nn b3 (by omega)) (by rw [e1, e3]; omega) (by rw [e2, e3]; omega) (fun i hi q hq => ?_) hfr hlo hd fun H1 locs1 p1 d1 s1 => ?_
  · rw [e3] at hi
    rw [e1] at hq
    obtain ⟨ci, fs, r, q1, q2, q3⟩ := hel (sp + i) (by omega) (by omega) q (by rw [← hq]; congr 1; omega)
    refine va_rAny hΓ.2.2.2.2.2.2.2.1 (hP.one q1) (q0 := 0) rfl q2 (fun comp c0 g1 g2 => ?_)
    obtain ⟨c2, t2, f1, f2, f3⟩ := Cond.castable_spec (va_Nw.use (A := Γ.2.2.2.2.2.2.1) rfl (q3 _ hΓ.2.2.2.2.2.2.2.2.1.2))
    cases g1.symm.trans f2
    cases g2.symm.trans f1
    exact f3
  · rw [e1, e2, e3, cpI_cpy (fun z => z) f g b1 b2 b3] at p1
    exact k H1 locs1 ls (hP.back (hA _ hΓ.2.2.2.2.2.2.2.2.1.2) hS hk1 p1 s1) s1 hl
theorem g_callSN (hΓ : gOK l Γ E X y cc nL ret d mc ms post) {y' : MethodName} {cc' : ByteArray} {nL' d' mc' ms' ix : Nat} {ret' : Option FieldType} {As : List Value} {post' : Option Value → wM → Prop} (hC : Ct l E X y' cc' nL' ret' d' mc' ms' As M post') {own host : String} (ho : own = y.cls) (hlk : ∀ U, X U → va_Nw (.methodLinkNest own ix y' host) U) (h2 : Cond.static y' ∈ lw_all) (h4 : Cond.initialized y'.cls ∈ lw_all) (h5 : Cond.code y' cc' nL' ret' ∈ lw_all) {n : Nat} (h6 : y'.cls ≠ "java/lang/invoke/MethodHandle" ∧ y'.cls ≠ "java/lang/invoke/VarHandle" ∧ (parseMethodDescriptor y'.desc).map (fun d => d.parameters.length) = some n) (hn : As.length = n) (hdd : d' + 1 ≤ d) (hnl : nL' ≤ 40) (hmc : cells + mc' ≤ mc) (hms : slots + ms' ≤ ms) (hst : st = As.reverse ++ rest) (hrm : (rest.map fun v => v.category).sum ≤ 8) (hd : decode cc pc = .ok (.invokestatic ix, 3)) (hlv : lv.length = nL) (kk : ∀ (v : Option Value) (M' : wM), post' v M' → gW Γ E M' (cells + mc') (slots + ms') (pc + 3) lv (v.toList ++ rest)) : gW Γ E M cells slots pc lv st := by
  subst hst
  refine g_call (a := As.toArray) hΓ (fun H locs ls hP hS hl => ?_) kk
  have hl9 := hΓ.2.2.2.2.2.2.2.2.2.2.2.1
  have hC' : Ct Γ.2.1 E X y' cc' nL' ret' d' mc' ms' As M post' := by rw [hl9]; exact hC
  exact va_runSN (own := own) (As := As) ⟨hΓ.1, hΓ.2.1, hΓ.2.2.2.2.1, (by rw [ho]; exact hΓ.2.2.2.2.2.1), hΓ.2.2.2.2.2.2.1⟩ hC' ⟨va_cnB n hΓ.2.2.2.2.2.2.1 (lw_meth h5) rfl rfl rfl (hlk _ hΓ.2.2.2.2.2.2.2.2.1.2) (hΓ.2.2.2.2.2.2.1 _ h4) h6 ⟨by rw [hΓ.2.2.2.2.2.2.2.2.2.1]; exact hdd, by rw [hΓ.2.2.2.2.2.2.2.2.2.1]; show 8 + (nL' + 11) + 64 * d' ≤ 64 * d; omega⟩, hΓ.2.2.2.2.2.2.1 _ h2, trivial⟩ ⟨g_blind hΓ.2.2.2.2.2.2.2.2.1.1, g_pre hΓ hP hS⟩ rfl hn (hl.1.trans hlv) rfl (lv_room hrm) hd ⟨by rw [hΓ.2.2.2.2.2.2.2.2.2.1]; exact hmc, by rw [hΓ.2.2.2.2.2.2.2.2.2.1]; exact hms⟩
theorem g_callIN (hΓ : gOK l Γ E X y cc nL ret d mc ms post) {y' : MethodName} {cc' : ByteArray} {nL' d' mc' ms' ix : Nat} {b : Nat} {As : List Value} {post' : Option Value → wM → Prop} (hC : Ct l E X y' cc' nL' none d' mc' ms' (.ref b :: As) M post') {own host : String} (ho : own = y.cls) (hlk : ∀ U, X U → va_Nw (.methodLinkNest own ix y' host) U) (h2 : Cond.instanceMethod y' ∈ lw_all) (h4 : Cond.initialized y'.cls ∈ lw_all) (h5 : Cond.code y' cc' nL' none ∈ lw_all) {n : Nat} (h6 : y'.cls ≠ "java/lang/invoke/MethodHandle" ∧ y'.cls ≠ "java/lang/invoke/VarHandle" ∧ (parseMethodDescriptor y'.desc).map (fun d => d.parameters.length) = some n) (h7 : y'.name = "<init>") (hn : As.length = n) (hdd : d' + 1 ≤ d) (hnl : nL' ≤ 40) (hmc : cells + mc' ≤ mc) (hms : slots + ms' ≤ ms) (hst : st = As.reverse ++ .ref b :: rest) (hrm : (rest.map fun v => v.category).sum ≤ 8) (hd : decode cc pc = .ok (.invokespecial ix, 3)) (hlv : lv.length = nL) (kk : ∀ (v : Option Value) (M' : wM), post' v M' → gW Γ E M' (cells + mc') (slots + ms') (pc + 3) lv (v.toList ++ rest)) : gW Γ E M cells slots pc lv st := by
  subst hst
  refine g_call (a := (Value.ref b :: As).toArray) hΓ (fun H locs ls hP hS hl => ?_) kk
  have hl9 := hΓ.2.2.2.2.2.2.2.2.2.2.2.1
  have hC' : Ct Γ.2.1 E X y' cc' nL' none d' mc' ms' (.ref b :: As) M post' := by rw [hl9]; exact hC
  exact va_runIN (own := own) (As := As) ⟨hΓ.1, hΓ.2.1, hΓ.2.2.2.2.1, (by rw [ho]; exact hΓ.2.2.2.2.2.1), hΓ.2.2.2.2.2.2.1⟩ hC' ⟨va_cnB n hΓ.2.2.2.2.2.2.1 (lw_meth h5) rfl rfl rfl (hlk _ hΓ.2.2.2.2.2.2.2.2.1.2) (hΓ.2.2.2.2.2.2.1 _ h4) h6 ⟨by rw [hΓ.2.2.2.2.2.2.2.2.2.1]; exact hdd, by rw [hΓ.2.2.2.2.2.2.2.2.2.1]; show 8 + (nL' + 11) + 64 * d' ≤ 64 * d; omega⟩, h7, hΓ.2.2.2.2.2.2.1 _ h2⟩ ⟨g_blind hΓ.2.2.2.2.2.2.2.2.1.1, g_pre hΓ hP hS⟩ rfl hn (hl.1.trans hlv) rfl (lv_room hrm) hd ⟨by rw [hΓ.2.2.2.2.2.2.2.2.2.1]; exact hmc, by rw [hΓ.2.2.2.2.2.2.2.2.2.1]; exact hms⟩
end GR3
