set_option maxRecDepth 100000
/-! METHODS THAT MAY THROW -/
def gXC (E : gE) (px : Addr → wM → Prop) : String → Addr → State → State → Prop := fun cls q st t => cls = "LetterPen$Fault" ∧ (∃ M' : wM, px q M' ∧ PM E M' t.heap) ∧ va_F E.2.2 st t
/-- a contract of a method that returns or throws -/
def CtX (l : Launch) (E : gE) (X : State → Prop) (y : MethodName) (cc : ByteArray) (nL : Nat) (ret : Option FieldType) (d mc ms : Nat) (av : List Value) (M : wM) (post : Option Value → wM → Prop) (px : Addr → wM → Prop) : Prop := wx_Met l y (ws_ y cc nL ret) (rmd d mc ms) (gPc E X av M) (gQ E post) (gXC E px) mc ms E.2.2
abbrev gXQ (Γ : gC) (E : gE) (mc ms : Nat) (post : Option Value → wM → Prop) (px : Addr → wM → Prop) : Prop := Γ.2.2.2.2.2.2.2.2.2.2 = wx_MQ Γ.2.2.2.2.2.2.2.1 (gQ E post) (gXC E px) Γ.2.2.2.2.2.2.1 Γ.2.2.2.2.1 mc ms E.2.2 ∧ ∀ x ∈ Γ.2.2.2.2.2.2.2.2.2.1.exceptionTable.toList, False
/-- q is thrown here -/
def gWX (Γ : gC) (E : gE) (M : wM) (cells slots pc : Nat) (lv : List (Option Value)) (st : List Value) (q : Addr) : Prop := ∀ (H : Heap) (locs : List Loc) (ls : Array Slot), PM E M H → va_S E.2.2 Γ.2.2.2.2.1.heap H locs → lv_has ls lv.length (lvp 0 lv) → (∃ ce : Cell, H[q]? = some ce ∧ ce.vm = .none ∧ Γ.2.2.2.2.1.vm.findClass "LetterPen$Fault" = some ce.cls) → wx_W Γ.1 Γ.2.1 Γ.2.2.1 Γ.2.2.2.1 Γ.2.2.2.2.1 Γ.2.2.2.2.2.1 Γ.2.2.2.2.2.2.1 Γ.2.2.2.2.2.2.2.1 Γ.2.2.2.2.2.2.2.2.1 Γ.2.2.2.2.2.2.2.2.2.1 H locs cells slots Γ.2.2.2.2.2.2.2.2.2.2 (F0 Γ.2.2.2.2.2.1 pc ls st) q
theorem CtX.of {l : Launch} {E : gE} {X : State → Prop} {y : MethodName} {cc : ByteArray} {nL : Nat} {ret : Option FieldType} {d mc ms : Nat} {av : List Value} {M : wM} {post : Option Value → wM → Prop} {px : Addr → wM → Prop} (hXK : gXK E.2.2 X) (hy : plainName y.cls = true) (lv : List (Option Value)) (h0 : (lg_sl av).length ≤ nL) (h1 : lvp 0 lv = lv_args 0 av) (h2 : lv.length = nL) (body : ∀ Γ, gOK l Γ E X y cc nL ret d mc ms post → gXQ Γ E mc ms post px → gW Γ E M 0 0 0 lv []) : CtX l E X y cc nL ret d mc ms av M post px := by
  refine wx_ofW (cc := cc) (maxL := nL) (ret := ret) hy rfl ?_
  intro p e s m args below meth c s₁ B hml ht hv
  obtain ⟨rfl, hK, hX, hP⟩ := hv
  have hts := atoms_spec (ws := ws_ y cc nL ret) B.pre
  have hts : ∀ w ∈ lw_all, w.before _ s = true := fun w h => hts w (List.mem_cons_of_mem _ h)
  have hb := body (p, l, e, rmd d mc ms, s, m, av.toArray, below, meth, c, wx_MQ below (gQ E post) (gXC E px) av.toArray s mc ms E.2.2) ⟨B.exec, B.bytes, B.returns, B.notSynchronized, hml, findClass_of_methodNamed B.named, hts, hK, ⟨hXK, hX⟩, rfl, fun t h => by
    obtain ⟨o, b1, b2, b3, b4⟩ := h
    exact ⟨o, b1, b2, Or.inl ⟨b3, b4⟩⟩, rfl, (name_of_methodNamed B.named B.method).1⟩ ⟨rfl, ht⟩
  have hl := lv_entry av h0
  rw [lg_entry_eq]
  exact hb s.heap [] _ hP va_S.rf (by rw [h1, h2]; exact hl)
section GX
variable {l : Launch} {Γ : gC} {E : gE} {X : State → Prop} {y : MethodName} {cc : ByteArray} {nL : Nat} {ret : Option FieldType} {d mc ms : Nat} {post : Option Value → wM → Prop} {px : Addr → wM → Prop} {M : wM} {cells slots pc : Nat} {lv : List (Option Value)} {st rest : List Value} {S : xS} {D : xD} {R : xR}
theorem g_athrow (hΓ : gOK l Γ E X y cc nL ret d mc ms post) {q ci N : Nat} {fs : List Value} {T : u_T} (hM : M q = some (.inr (ci, fs))) (hc : E.2.1[ci]? = some ("LetterPen$Fault", T, N)) (hd : decode cc pc = .ok (.athrow, 1)) (k : gWX Γ E M cells slots pc lv rest q) : gW Γ E M cells slots pc lv (.ref q :: rest) := fun H locs ls hP hS hl => by
  refine wx_athrow hΓ.1 hΓ.2.1 hd (k H locs ls hP hS hl ?_)
  obtain ⟨q', h1, cell, g1, g2, g3, -⟩ := hP q _ hM
  exact ⟨cell, g1, g3, by rw [g2]; exact (hΓ.2.2.2.2.2.2.2.1.1 ci _ hc).2.1⟩
/-- it leaves the method -/
theorem gx_out (hΓ : gOK l Γ E X y cc nL ret d mc ms post) (hQ : gXQ Γ E mc ms post px) {q : Addr} (hx : px q M) (hc : cells ≤ mc) (hs : slots ≤ ms) : gWX Γ E M cells slots pc lv rest q := fun H locs ls hP hS hl hce => by
  obtain ⟨ce, h1, h2, h3⟩ := hce
  rw [hQ.1]
  exact wx_out (E := "LetterPen$Fault") (fun x h => absurd (hQ.2 x h) (fun z => z)) hΓ.2.2.2.1 h1 h2 h3 (fun t ht _ => ⟨rfl, ⟨M, hx, by rw [ht]; exact hP⟩, hS.F ht⟩) hS.2.2 hc hs
theorem g_callX (hΓ : gOK l Γ E X y cc nL ret d mc ms post) {mc' ms' : Nat} {post' : Option Value → wM → Prop} {px' : Addr → wM → Prop} {a : Array Value} (hr : ∀ (H : Heap) (locs : List Loc) (ls : Array Slot), PM E M H → va_S E.2.2 Γ.2.2.2.2.1.heap H locs → lv_has ls lv.length (lvp 0 lv) → wx_Run Γ.1 Γ.2.1 Γ.2.2.1 Γ.2.2.2.1 Γ.2.2.2.2.1 Γ.2.2.2.2.2.1 Γ.2.2.2.2.2.2.1 Γ.2.2.2.2.2.2.2.1 Γ.2.2.2.2.2.2.2.2.1 Γ.2.2.2.2.2.2.2.2.2.1 H locs cells slots mc' ms' (F0 Γ.2.2.2.2.2.1 pc ls st) rest (gQ E post' a) (gXC E px') E.2.2) (kk : ∀ (v : Option Value) (M' : wM), post' v M' → gW Γ E M' (cells + mc') (slots + ms') (pc + 3) lv (v.toList ++ rest)) (kx : ∀ (q : Addr) (M' : wM), px' q M' → gWX Γ E M' (cells + mc') (slots + ms') pc lv rest q) : gW Γ E M cells slots pc lv st := by
  intro H locs ls hP hS hl T hT X'
  rcases hr H locs ls hP hS hl T hT X' with ⟨v, st₀, t, T', L, h0, X2, hL, e1, e2, ⟨⟨v', M', hv, hp, hP'⟩, hz, hk⟩, stp⟩ | ⟨q, st₀, t, T', L, En, ce, h0, X2, hL, e1, e2, ⟨hEn, ⟨M', hp, hP'⟩, hz, hk⟩, hce, hcv, hcl, stp⟩
  · cases hv
    rw [h0] at hz hk
    obtain ⟨t2, a1, b1⟩ := kk v M' hp T'.heap (locs ++ L) ls (by rw [e1]; exact hP') ⟨Nat.le_trans hS.1 (by rw [e1]; exact hz), fun q h1 h2 => by rw [e1, hk q (Nat.lt_of_lt_of_le h1 hS.1) h2]; exact hS.2.1 q h1 h2, fun q hq => by
      rcases List.mem_append.mp hq with h | h
      · exact hS.2.2 q h
      · exact hL q h⟩ hl T' rfl X2
    exact ⟨t2, stp t2 a1, b1⟩
  · rw [h0] at hz hk
    obtain ⟨t2, a1, b1⟩ := kx q M' hp T'.heap (locs ++ L) ls (by rw [e1]; exact hP') ⟨Nat.le_trans hS.1 (by rw [e1]; exact hz), fun q h1 h2 => by rw [e1, hk q (Nat.lt_of_lt_of_le h1 hS.1) h2]; exact hS.2.1 q h1 h2, fun q hq => by
      rcases List.mem_append.mp hq with h | h
      · exact hS.2.2 q h
      · exact hL q h⟩ hl ⟨ce, by rw [e1]; exact hce, hcv, by rw [← hEn]; exact hcl⟩ T' rfl X2
    exact ⟨t2, stp.trans a1, b1⟩
theorem g_callVX (hΓ : gOK l Γ E X y cc nL ret d mc ms post) {y' : MethodName} {cc' : ByteArray} {nL' d' mc' ms' ix : Nat} {ret' : Option FieldType} {b : Nat} {As : List Value} {post' : Option Value → wM → Prop} {px' : Addr → wM → Prop} (hC : CtX l E X y' cc' nL' ret' d' mc' ms' (.ref b :: As) M post' px') {own : String} (ho : own = y.cls) (h1 : Cond.methodLink own ix y' ∈ lw_all) (h2 : Cond.instanceMethod y' ∈ lw_all) (h3 : Cond.selects y'.cls y' y' ∈ lw_all) (h4 : Cond.initialized y'.cls ∈ lw_all) (h5 : Cond.code y' cc' nL' ret' ∈ lw_all) {n : Nat} (h6 : y'.cls ≠ "java/lang/invoke/MethodHandle" ∧ y'.cls ≠ "java/lang/invoke/VarHandle" ∧ (parseMethodDescriptor y'.desc).map (fun d => d.parameters.length) = some n) (hn : As.length = n) (hdd : d' + 1 ≤ d) (hnl : nL' ≤ 40) (hmc : cells + mc' ≤ mc) (hms : slots + ms' ≤ ms) {ci N : Nat} {fs : List Value} {T : u_T} (hM : M b = some (.inr (ci, fs))) (hc : E.2.1[ci]? = some (y'.cls, T, N)) (hst : st = As.reverse ++ .ref b :: rest) (hrm : (rest.map fun v => v.category).sum ≤ 8) (hd : decode cc pc = .ok (.invokevirtual ix, 3)) (hlv : lv.length = nL) (kk : ∀ (v : Option Value) (M' : wM), post' v M' → gW Γ E M' (cells + mc') (slots + ms') (pc + 3) lv (v.toList ++ rest)) (kx : ∀ (q : Addr) (M' : wM), px' q M' → gWX Γ E M' (cells + mc') (slots + ms') pc lv rest q) : gW Γ E M cells slots pc lv st := by
  subst hst
  refine g_callX (a := (Value.ref b :: As).toArray) hΓ (fun H locs ls hP hS hl => ?_) kk kx
  have hl9 := hΓ.2.2.2.2.2.2.2.2.2.2.2.1
  have hC' : CtX Γ.2.1 E X y' cc' nL' ret' d' mc' ms' (.ref b :: As) M post' px' := by rw [hl9]; exact hC
  exact wx_runV (As := As) ⟨hΓ.1, hΓ.2.1, hΓ.2.2.2.2.1, by rw [ho]; exact hΓ.2.2.2.2.2.1, hΓ.2.2.2.2.2.2.1⟩ hC' (cwV n hΓ.2.2.2.2.2.2.1 (lw_V h1 h2 h3 h4 h5) rfl rfl rfl ⟨rfl, h6⟩ ⟨by rw [hΓ.2.2.2.2.2.2.2.2.2.1]; exact hdd, by rw [hΓ.2.2.2.2.2.2.2.2.2.1]; show 8 + (nL' + 11) + 64 * d' ≤ 64 * d; omega⟩) ⟨g_blind hΓ.2.2.2.2.2.2.2.2.1.1, va_recv hΓ.2.2.2.2.2.2.2.1 (hP.one hM) hc (q0 := 0) rfl, g_pre hΓ hP hS⟩ rfl hn (hl.1.trans hlv) rfl (lv_room hrm) hd ⟨by rw [hΓ.2.2.2.2.2.2.2.2.2.1]; exact hmc, by rw [hΓ.2.2.2.2.2.2.2.2.2.1]; exact hms⟩
/-- .. over the worlds S, D, R -/
def xPX (E : gE) (px : Addr → xS → xD → xR → Prop) : Addr → wM → Prop := fun q M' => ∃ S' D' R', M' = xM E S' D' R' ∧ px q S' D' R'
def xCX (l : Launch) (E : gE) (X : State → Prop) (y : MethodName) (cc : ByteArray) (nL : Nat) (ret : Option FieldType) (d mc ms : Nat) (av : List Value) (S : xS) (D : xD) (R : xR) (post : Option Value → xS → xD → xR → Prop) (px : Addr → xS → xD → xR → Prop) : Prop := CtX l E X y cc nL ret d mc ms av (xM E S D R) (xP E post) (xPX E px)
theorem xCX.of {av : List Value} {post : Option Value → xS → xD → xR → Prop} {px : Addr → xS → xD → xR → Prop} (hXK : gXK E.2.2 X) (hy : plainName y.cls = true) (lv : List (Option Value)) (h0 : (lg_sl av).length ≤ nL) (h1 : lvp 0 lv = lv_args 0 av) (h2 : lv.length = nL) (body : ∀ Γ, gOK l Γ E X y cc nL ret d mc ms (xP E post) → gXQ Γ E mc ms (xP E post) (xPX E px) → gW Γ E (xM E S D R) 0 0 0 lv []) : xCX l E X y cc nL ret d mc ms av S D R post px := CtX.of hXK hy lv h0 h1 h2 body
theorem x_callVX (hE : E.2.1 = clsX) (hΓ : gOK l Γ E X y cc nL ret d mc ms post) {y' : MethodName} {cc' : ByteArray} {nL' d' mc' ms' ix : Nat} {ret' : Option FieldType} {b : Nat} {As : List Value} {post' : Option Value → xS → xD → xR → Prop} {px' : Addr → xS → xD → xR → Prop} (hC : xCX l E X y' cc' nL' ret' d' mc' ms' (.ref b :: As) S D R post' px') {k c N : Nat} {T : u_T} (hb : (S b).1 = k) (hk : k ≠ 0 ∧ kty k = 10 + c) (hcl : clsX[c]? = some (y'.cls, T, N)) {own : String} (ho : own = y.cls) (h1 : Cond.methodLink own ix y' ∈ lw_all) (h2 : Cond.instanceMethod y' ∈ lw_all) (h3 : Cond.selects y'.cls y' y' ∈ lw_all) (h4 : Cond.initialized y'.cls ∈ lw_all) (h5 : Cond.code y' cc' nL' ret' ∈ lw_all) {n : Nat} (h6 : y'.cls ≠ "java/lang/invoke/MethodHandle" ∧ y'.cls ≠ "java/lang/invoke/VarHandle" ∧ (parseMethodDescriptor y'.desc).map (fun d => d.parameters.length) = some n) (hn : As.length = n) (hdd : d' + 1 ≤ d) (hnl : nL' ≤ 40) (hmc : cells + mc' ≤ mc) (hms : slots + ms' ≤ ms) (hst : st = As.reverse ++ .ref b :: rest) (hrm : (rest.map fun v => v.category).sum ≤ 8) (hd : decode cc pc = .ok (.invokevirtual ix, 3)) (hlv : lv.length = nL) (kk : ∀ (v : Option Value) (S' : xS) (D' : xD) (R' : xR), post' v S' D' R' → gW Γ E (xM E S' D' R') (cells + mc') (slots + ms') (pc + 3) lv (v.toList ++ rest)) (kx : ∀ (q : Addr) (S' : xS) (D' : xD) (R' : xR), px' q S' D' R' → gWX Γ E (xM E S' D' R') (cells + mc') (slots + ms') pc lv rest q) : gW Γ E (xM E S D R) cells slots pc lv st := g_callVX hΓ hC ho h1 h2 h3 h4 h5 h6 hn hdd hnl hmc hms (xM_o hb hk.1 hk.2) (by rw [hE]; exact hcl) hst hrm hd hlv (fun v M' hv => by obtain ⟨S', D', R', e, hq⟩ := hv; rw [e]; exact kk v S' D' R' hq) (fun q M' hv => by obtain ⟨S', D', R', e, hq⟩ := hv; rw [e]; exact kx q S' D' R' hq)
theorem x_athrow (hE : E.2.1 = clsX) (hΓ : gOK l Γ E X y cc nL ret d mc ms post) {q k c N : Nat} {T : u_T} (hb : (S q).1 = k) (hk : k ≠ 0 ∧ kty k = 10 + c) (hcl : clsX[c]? = some ("LetterPen$Fault", T, N)) (hd : decode cc pc = .ok (.athrow, 1)) (kx : gWX Γ E (xM E S D R) cells slots pc lv rest q) : gW Γ E (xM E S D R) cells slots pc lv (.ref q :: rest) := g_athrow hΓ (xM_o hb hk.1 hk.2) (by rw [hE]; exact hcl) hd kx
theorem x_out {post : Option Value → xS → xD → xR → Prop} {px : Addr → xS → xD → xR → Prop} (hΓ : gOK l Γ E X y cc nL ret d mc ms (xP E post)) (hQ : gXQ Γ E mc ms (xP E post) (xPX E px)) {q : Addr} (hc : cells ≤ mc) (hs : slots ≤ ms) (hx : px q S D R) : gWX Γ E (xM E S D R) cells slots pc lv rest q := gx_out hΓ hQ ⟨S, D, R, rfl, hx⟩ hc hs
end GX
