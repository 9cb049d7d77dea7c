set_option maxRecDepth 100000
/-! TEXTS THAT ARE THE SAME -/
def eqF (f g : Int → Int) : Nat → Bool
  | 0 => true
  | n + 1 => eqF f g n && decide (f n = g n)
theorem eqF_at {f g : Int → Int} : ∀ {n : Nat}, eqF f g n = true → ∀ i : Int, 0 ≤ i → i < n → f i = g i
  | 0, _, i, h0, h1 => by omega
  | n + 1, h, i, h0, h1 => by
    rw [eqF, Bool.and_eq_true] at h
    by_cases z : i = n
    · rw [z]; exact of_decide_eq_true h.2
    · exact eqF_at h.1 i h0 (by omega)
theorem eqF_of {f g : Int → Int} : ∀ {n : Nat}, (∀ i : Int, 0 ≤ i → i < n → f i = g i) → eqF f g n = true
  | 0, _ => rfl
  | n + 1, h => by rw [eqF, Bool.and_eq_true]; exact ⟨eqF_of (fun i x y => h i x (by omega)), decide_eq_true (h n (by omega) (by omega))⟩
abbrev byQ (S : xS) (D : xD) (b c : Nat) : Prop := (S b).2.1 = (S c).2.1 ∧ eqF (D b) (D c) (S b).2.1 = true
abbrev txQ (S : xS) (D : xD) (R : xR) (a c : Nat) : Prop := byQ S D (rf R a 0) (rf R c 0)
theorem byQ_r (S : xS) (D : xD) (b : Nat) : byQ S D b b := ⟨rfl, eqF_of (fun _ _ _ => rfl)⟩
/-- the first of them that is the same; none -/
def ixF (p : Int → Bool) : Nat → Int → Int
  | 0, _ => -1
  | n + 1, i => if p i = true then i else ixF p n (i + 1)
theorem ixF_r {p : Int → Bool} : ∀ (n : Nat) (i : Int), 0 ≤ i → ixF p n i = -1 ∨ (i ≤ ixF p n i ∧ ixF p n i < i + n)
  | 0, i, h => Or.inl rfl
  | n + 1, i, h => by
    rw [ixF]
    split
    · right; omega
    · have := ixF_r (p := p) n (i + 1) (by omega); omega
section UO
variable {l : Launch} {Γ : gC} {E : gE} {X : State → Prop} {y : MethodName} {cc : ByteArray} {nL : Nat} {ret : Option FieldType} {d mc ms : Nat} {post : Option Value → wM → Prop} {M : wM} {cells slots pc : Nat} {lv : List (Option Value)} {st rest : List Value} {S : xS} {D : xD} {R : xR}
theorem g_callO (hΓ : gOK l Γ E X y cc nL ret d mc ms post) {x y' : MethodName} {cc' : ByteArray} {nL' d' mc' ms' ix : Nat} {ret' : Option FieldType} {b : Nat} {As : List Value} {post' : Option Value → wM → Prop} {C own : String} (hC : Ct l E X y' cc' nL' ret' d' mc' ms' (.ref b :: As) M post') (ho : own = y.cls) (h1 : Cond.methodLink own ix x ∈ lw_all) (hsm : Cond.sameMethod x.cls x.cls x.name x.desc ∈ lw_all) (hix : Cond.instanceMethod ⟨x.cls, x.name, x.desc⟩ ∈ lw_all) (h3 : Cond.selects C x y' ∈ lw_all) (h2 : Cond.instanceMethod y' ∈ lw_all) (h4 : Cond.initialized y'.cls ∈ lw_all) (h5 : Cond.code y' cc' nL' ret' ∈ lw_all) {b0 : ByteArray} {m0 : Nat} {r0 : Option FieldType} (h0 : Cond.code ⟨x.cls, x.name, x.desc⟩ b0 m0 r0 ∈ lw_all) {n : Nat} (h6 : x.cls ≠ "java/lang/invoke/MethodHandle" ∧ x.cls ≠ "java/lang/invoke/VarHandle" ∧ (parseMethodDescriptor x.desc).map (fun d => d.parameters.length) = some n) (hn : As.length = n) (hdd : d' + 1 ≤ d) (hnl : nL' ≤ 40) (hmc : cells + mc' ≤ mc) (hms : slots + ms' ≤ ms) {ci N : Nat} {fs : List Value} {T : u_T} (hM : M b = some (.inr (ci, fs))) (hc : E.2.1[ci]? = some (C, T, N)) (hst : st = As.reverse ++ .ref b :: rest) (hrm : (rest.map fun v => v.category).sum ≤ 8) (hd : decode cc pc = .ok (.invokevirtual ix, 3)) (hlv : lv.length = nL) (kk : ∀ (v : Option Value) (M' : wM), post' v M' → gW Γ E M' (cells + mc') (slots + ms') (pc + 3) lv (v.toList ++ rest)) : gW Γ E M cells slots pc lv st := by
  subst hst
  refine g_call (a := (Value.ref b :: As).toArray) hΓ (fun H locs ls hP hS hl => ?_) kk
  have hl9 := hΓ.2.2.2.2.2.2.2.2.2.2.2.1
  have hC' : Ct Γ.2.1 E X y' cc' nL' ret' d' mc' ms' (.ref b :: As) M post' := by rw [hl9]; exact hC
  have hGd : GoodIn lw_all (va_wsO own ix C x.cls x y' (ws_ y' cc' nL' ret')) := lw_app (by
    intro w hw
    simp only [List.mem_cons, List.not_mem_nil, or_false] at hw
    rcases hw with rfl | rfl | rfl | rfl | rfl | rfl
    · exact h1
    · exact hsm
    · exact hix
    · exact h3
    · exact h2
    · exact h4) (lw_meth h5)
  exact va_runU (As := As) ⟨hΓ.1, hΓ.2.1, hΓ.2.2.2.2.1, by rw [ho]; exact hΓ.2.2.2.2.2.1, hΓ.2.2.2.2.2.2.1⟩ hC' (va_cwO n hΓ.2.2.2.2.2.2.1 hGd rfl rfl rfl h0 h6 ⟨by rw [hΓ.2.2.2.2.2.2.2.2.2.1]; exact hdd, by rw [hΓ.2.2.2.2.2.2.2.2.2.1]; show 8 + (nL' + 11) + 64 * d' ≤ 64 * d; omega⟩) ⟨g_blind hΓ.2.2.2.2.2.2.2.2.1.1, va_recv hΓ.2.2.2.2.2.2.2.1 (hP.one hM) hc (q0 := 0) rfl, g_pre hΓ hP hS⟩ rfl hn (hl.1.trans hlv) rfl (lv_room hrm) hd ⟨by rw [hΓ.2.2.2.2.2.2.2.2.2.1]; exact hmc, by rw [hΓ.2.2.2.2.2.2.2.2.2.1]; exact hms⟩
theorem x_callO (hE : E.2.1 = clsX) (hΓ : gOK l Γ E X y cc nL ret d mc ms post) {x y' : MethodName} {cc' : ByteArray} {nL' d' mc' ms' ix : Nat} {ret' : Option FieldType} {b : Nat} {As : List Value} {post' : Option Value → xS → xD → xR → Prop} {C own : String} (hC : xC l E X y' cc' nL' ret' d' mc' ms' (.ref b :: As) S D R post') {k c N : Nat} {T : u_T} (hb : (S b).1 = k) (hk : k ≠ 0 ∧ kty k = 10 + c) (hcl : clsX[c]? = some (C, T, N)) (ho : own = y.cls) (h1 : Cond.methodLink own ix x ∈ lw_all) (hsm : Cond.sameMethod x.cls x.cls x.name x.desc ∈ lw_all) (hix : Cond.instanceMethod ⟨x.cls, x.name, x.desc⟩ ∈ lw_all) (h3 : Cond.selects C x y' ∈ lw_all) (h2 : Cond.instanceMethod y' ∈ lw_all) (h4 : Cond.initialized y'.cls ∈ lw_all) (h5 : Cond.code y' cc' nL' ret' ∈ lw_all) {b0 : ByteArray} {m0 : Nat} {r0 : Option FieldType} (h0 : Cond.code ⟨x.cls, x.name, x.desc⟩ b0 m0 r0 ∈ lw_all) {n : Nat} (h6 : x.cls ≠ "java/lang/invoke/MethodHandle" ∧ x.cls ≠ "java/lang/invoke/VarHandle" ∧ (parseMethodDescriptor x.desc).map (fun d => d.parameters.length) = some n) (hn : As.length = n) (hdd : d' + 1 ≤ d) (hnl : nL' ≤ 40) (hmc : cells + mc' ≤ mc) (hms : slots + ms' ≤ ms) (hst : st = As.reverse ++ .ref b :: rest) (hrm : (rest.map fun v => v.category).sum ≤ 8) (hd : decode cc pc = .ok (.invokevirtual ix, 3)) (hlv : lv.length = nL) (kk : ∀ (v : Option Value) (S' : xS) (D' : xD) (R' : xR), post' v S' D' R' → gW Γ E (xM E S' D' R') (cells + mc') (slots + ms') (pc + 3) lv (v.toList ++ rest)) : gW Γ E (xM E S D R) cells slots pc lv st := g_callO hΓ hC ho h1 hsm hix h3 h2 h4 h5 h0 h6 hn hdd hnl hmc hms (xM_o hb hk.1 hk.2) (by rw [hE]; exact hcl) hst hrm hd hlv (fun v M' hv => by obtain ⟨S', D', R', e, hq⟩ := hv; rw [e]; exact kk v S' D' R' hq)
end UO
