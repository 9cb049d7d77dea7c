set_option maxRecDepth 100000
/-! THE FLAT LAYER: LetterPenModel is one object h of 41 fields; its arrays of ints lie at ad k; its state is σ : field, place ↦ Int (an int field: place 0) -/
abbrev mS : Type := Nat → Int → Int
def mLen (k : Nat) : Nat := match k with
  | 0 => 1048
  | 1 => 1048
  | 2 => 1048
  | 3 => 20960
  | 7 => 1536
  | 8 => 64
  | 9 => 8
  | 10 => 8
  | 11 => 1600
  | 13 => 6
  | 21 => 56
  | 22 => 1664
  | 23 => 256
  | 26 => 64
  | 27 => 64
  | 28 => 64
  | 29 => 2304
  | 30 => 8
  | 31 => 8
  | 32 => 9
  | 33 => 9
  | 34 => 9
  | 35 => 9
  | 36 => 41
  | 37 => 41
  | 38 => 328
  | 39 => 202
  | _ => 0
def mIs (k : Nat) : Bool := match k with
  | 0 => true
  | 1 => true
  | 2 => true
  | 3 => true
  | 7 => true
  | 8 => true
  | 9 => true
  | 10 => true
  | 11 => true
  | 13 => true
  | 21 => true
  | 22 => true
  | 23 => true
  | 26 => true
  | 27 => true
  | 28 => true
  | 29 => true
  | 30 => true
  | 31 => true
  | 32 => true
  | 33 => true
  | 34 => true
  | 35 => true
  | 36 => true
  | 37 => true
  | 38 => true
  | 39 => true
  | _ => false
def us (σ : mS) (k : Nat) (i x : Int) : mS := fun k' j => if k' = k ∧ j = i then x else σ k' j
theorem us_s (σ : mS) (k : Nat) (i x : Int) : us σ k i x k i = x := by simp [us]
theorem us_n {σ : mS} {k k' : Nat} {i j x : Int} (h : k' ≠ k ∨ j ≠ i) : us σ k i x k' j = σ k' j := by
  simp only [us]
  rw [if_neg]
  rintro ⟨rfl, rfl⟩
  rcases h with h | h <;> exact h rfl
theorem us_f {σ : mS} {k k' : Nat} {i x : Int} (h : k' ≠ k) : us σ k i x k' = σ k' := by
  funext j
  exact us_n (Or.inl h)
theorem us_a (σ : mS) (k : Nat) (i x : Int) : us σ k i x k = up (σ k) i x := by
  funext j
  simp [us, up]
def mv (ad : Nat → Nat) (σ : mS) (k : Nat) : Value := if mIs k then .ref (ad k) else .int (iI (σ k 0))
def mfs (ad : Nat → Nat) (σ : mS) : List Value := (List.range 41).map (mv ad σ)
def mM (E : gE) (h : Nat) (ad : Nat → Nat) (σ : mS) : wM := fun q => if q = h then some (.inr (3, mfs ad σ)) else match (List.range 41).find? (fun k => mIs k && ad k == q) with
  | some k => some (cAr E 0 (mLen k) (σ k))
  | none => none
def mOK (E : gE) (h : Nat) (ad : Nat → Nat) : Prop := E.2.1[3]? = some (RX3, TX3, 41) ∧ E.2.2 h ∧ (∀ k, k < 41 → mIs k = true → E.2.2 (ad k) ∧ ad k ≠ h) ∧ (∀ j k, j < 41 → k < 41 → mIs j = true → mIs k = true → ad j = ad k → j = k)
theorem mM_h (E : gE) (h : Nat) (ad : Nat → Nat) (σ : mS) : mM E h ad σ h = some (.inr (3, mfs ad σ)) := by simp [mM]
theorem mM_k {E : gE} {h : Nat} {ad : Nat → Nat} (hok : mOK E h ad) (σ : mS) {k : Nat} (hk : k < 41) (hi : mIs k = true) : mM E h ad σ (ad k) = some (cAr E 0 (mLen k) (σ k)) := by
  have h1 := (hok.2.2.1 k hk hi).2
  simp only [mM, h1, if_false]
  have h2 : (List.range 41).find? (fun k' => mIs k' && ad k' == ad k) = some k := by
    cases hf : (List.range 41).find? (fun k' => mIs k' && ad k' == ad k) with
    | none =>
      have := List.find?_eq_none.mp hf k (List.mem_range.mpr hk)
      simp [hi] at this
    | some j =>
      have hj := List.find?_some hf
      have hm := List.mem_range.mp (List.mem_of_find?_eq_some hf)
      simp at hj
      rw [hok.2.2.2 j k hm hk hj.1 hi hj.2]
  rw [h2]
theorem mfs_at (ad : Nat → Nat) (σ : mS) {k : Nat} (hk : k < 41) : (mfs ad σ)[k]? = some (mv ad σ k) := by
  simp [mfs, hk]
theorem mfs_set (ad : Nat → Nat) (σ : mS) {k : Nat} (hi : mIs k = false) (x : Int) : (mfs ad σ).set k (.int (iI x)) = mfs ad (us σ k 0 x) := by
  apply List.ext_getElem?
  intro j
  by_cases hj : j = k
  · subst hj
    by_cases hl : j < 41
    · rw [List.getElem?_set_self (by simpa [mfs] using hl), mfs_at ad _ hl]
      simp [mv, hi, us]
    · simp [mfs, hl]
  · rw [List.getElem?_set_ne (Ne.symm hj)]
    by_cases hl : j < 41
    · rw [mfs_at ad _ hl, mfs_at ad _ hl]
      simp only [mv, us_f hj]
    · simp [mfs, hl]
theorem mM_put {E : gE} {h : Nat} {ad : Nat → Nat} (σ : mS) {k : Nat} (hi : mIs k = false) (x : Int) : wU (mM E h ad σ) h (.inr (3, (mfs ad σ).set k (.int (iI x)))) = mM E h ad (us σ k 0 x) := by
  funext q
  by_cases hq : q = h
  · subst hq
    rw [wU_s, mM_h, mfs_set ad σ hi]
  · rw [wU_n hq]
    simp only [mM, hq, if_false]
    cases hf : (List.range 41).find? (fun k => mIs k && ad k == q) with
    | none => rfl
    | some j =>
      have hj := List.find?_some hf
      simp at hj
      have : j ≠ k := fun e => by subst e; rw [hi] at hj; exact absurd hj.1 (by decide)
      simp only [us_f this]
theorem mM_ast {E : gE} {h : Nat} {ad : Nat → Nat} (hok : mOK E h ad) (σ : mS) {k : Nat} (hk : k < 41) (hi : mIs k = true) (i x : Int) : wU (mM E h ad σ) (ad k) (cAr E 0 (mLen k) (up (σ k) i x)) = mM E h ad (us σ k i x) := by
  funext q
  by_cases hq : q = ad k
  · subst hq
    rw [wU_s, mM_k hok _ hk hi, us_a]
  · rw [wU_n hq]
    by_cases hh : q = h
    · subst hh
      rw [mM_h, mM_h]
      congr 2
      simp only [mfs]
      congr 1
      apply List.map_congr_left
      intro j hj
      by_cases e : j = k
      · subst e; simp [mv, hi]
      · simp only [mv, us_f e]
    · simp only [mM, hh, if_false]
      cases hf : (List.range 41).find? (fun k => mIs k && ad k == q) with
      | none => rfl
      | some j =>
        have hj := List.find?_some hf
        simp at hj
        have : j ≠ k := fun e => by subst e; exact hq hj.2.symm
        simp only [us_f this]
/-- a contract of the reference: in the state σ it returns, 'post answer state' -/
def mC (l : Launch) (E : gE) (h : Nat) (ad : Nat → Nat) (y : MethodName) (cc : ByteArray) (nL : Nat) (ret : Option FieldType) (d : Nat) (av : List Value) (σ : mS) (post : Option Value → mS → Prop) : Prop := Ct l E (fun _ => True) y cc nL ret d 0 0 av (mM E h ad σ) (fun v M' => ∃ σ', M' = mM E h ad σ' ∧ post v σ')
abbrev mP (E : gE) (h : Nat) (ad : Nat → Nat) (post : Option Value → mS → Prop) : Option Value → wM → Prop := fun v M' => ∃ σ', M' = mM E h ad σ' ∧ post v σ'
theorem mC.of {l : Launch} {E : gE} {h : Nat} {ad : Nat → Nat} {y : MethodName} {cc : ByteArray} {nL : Nat} {ret : Option FieldType} {d : Nat} {av : List Value} {σ : mS} {post : Option Value → mS → Prop} (hy : plainName y.cls = true) (lv : List (Option Value)) (h0 : (lg_sl av).length ≤ nL) (h1 : lvp 0 lv = lv_args 0 av) (h2 : lv.length = nL) (body : ∀ Γ, gOK l Γ E (fun _ => True) y cc nL ret d 0 0 (mP E h ad post) → gW Γ E (mM E h ad σ) 0 0 0 lv []) : mC l E h ad y cc nL ret d av σ post := Ct.of (gXK_T _) hy lv h0 h1 h2 body
section MR
variable {l : Launch} {Γ : gC} {E : gE} {h : Nat} {ad : Nat → Nat} {y : MethodName} {cc : ByteArray} {nL : Nat} {ret : Option FieldType} {d pc : Nat} {pq : Option Value → wM → Prop} {post : Option Value → mS → Prop} {σ : mS} {lv : List (Option Value)} {st rest : List Value}

theorem m_geti (hok : mOK E h ad) (hΓ : gOK l Γ E (fun _ => True) y cc nL ret d 0 0 pq) (k : Nat) (hk : k < 41) (hi : mIs k = false) {ix : Nat} (ho : y.cls = "LetterPenModel") (hlink : Cond.fieldLink "LetterPenModel" ix "LetterPenModel" (TX3 k).2.1 (TX3 k).2.2.1 ∈ lw_all) (hsame : (TX3 k).1 = "LetterPenModel") (hd : decode cc pc = .ok (.getfield ix, 3)) (kk : gW Γ E (mM E h ad σ) 0 0 (pc + 3) lv (.int (iI (σ k 0)) :: st)) : gW Γ E (mM E h ad σ) 0 0 pc lv (.ref h :: st) := g_getf hΓ in_X3 (mM_h E h ad σ) hok.1 k hk ho.symm hlink hsame.symm (by rw [mfs_at ad σ hk]; simp [mv, hi]) hd kk
theorem m_geta (hok : mOK E h ad) (hΓ : gOK l Γ E (fun _ => True) y cc nL ret d 0 0 pq) (k : Nat) (hk : k < 41) (hi : mIs k = true) {ix : Nat} (ho : y.cls = "LetterPenModel") (hlink : Cond.fieldLink "LetterPenModel" ix "LetterPenModel" (TX3 k).2.1 (TX3 k).2.2.1 ∈ lw_all) (hsame : (TX3 k).1 = "LetterPenModel") (hd : decode cc pc = .ok (.getfield ix, 3)) (kk : gW Γ E (mM E h ad σ) 0 0 (pc + 3) lv (.ref (ad k) :: st)) : gW Γ E (mM E h ad σ) 0 0 pc lv (.ref h :: st) := g_getf hΓ in_X3 (mM_h E h ad σ) hok.1 k hk ho.symm hlink hsame.symm (by rw [mfs_at ad σ hk]; simp [mv, hi]) hd kk
theorem m_puti (hok : mOK E h ad) (hΓ : gOK l Γ E (fun _ => True) y cc nL ret d 0 0 pq) (k : Nat) (hk : k < 41) (hi : mIs k = false) {ix : Nat} (ho : y.cls = "LetterPenModel") (hlink : Cond.fieldLink "LetterPenModel" ix "LetterPenModel" (TX3 k).2.1 (TX3 k).2.2.1 ∈ lw_all) (hsame : (TX3 k).1 = "LetterPenModel") (hfin : (TX3 k).2.2.2 = false) (hdsc : parseFieldDescriptor (TX3 k).2.2.1 = some .int) {x : Int} (hd : decode cc pc = .ok (.putfield ix, 3)) (kk : ∀ τ : mS, τ = us σ k 0 x → gW Γ E (mM E h ad τ) 0 0 (pc + 3) lv st) : gW Γ E (mM E h ad σ) 0 0 pc lv (.int (iI x) :: .ref h :: st) := g_putf hΓ in_X3 tyX3 tyX3_ok nmX3 (mM_h E h ad σ) hok.1 hok.2.1 k hk ho.symm hlink hsame.symm hfin hdsc rfl rfl (by simpa [mfs] using hk) hd (by rw [mM_put σ hi]; exact kk _ rfl)
theorem m_ald (hok : mOK E h ad) (hΓ : gOK l Γ E (fun _ => True) y cc nL ret d 0 0 pq) (k : Nat) (hk : k < 41) (hi : mIs k = true) {n : Nat} (hn : mLen k = n) {i : Int} (h0 : 0 ≤ i ∧ i < (n : Int)) (hb : n < 2147483648) (hd : decode cc pc = .ok (.iaload, 1)) (kk : gW Γ E (mM E h ad σ) 0 0 (pc + 1) lv (.int (iI (σ k i)) :: st)) : gW Γ E (mM E h ad σ) 0 0 pc lv (.int (iI i) :: .ref (ad k) :: st) := g_iald hΓ (mM_k hok σ hk hi) h0.1 (by rw [hn]; exact h0.2) (by omega) hd kk
theorem m_ast (hok : mOK E h ad) (hΓ : gOK l Γ E (fun _ => True) y cc nL ret d 0 0 pq) (k : Nat) (hk : k < 41) (hi : mIs k = true) {n : Nat} (hn : mLen k = n) {i x : Int} (h0 : 0 ≤ i ∧ i < (n : Int)) (hb : n < 2147483648) (hd : decode cc pc = .ok (.iastore, 1)) (kk : ∀ τ : mS, τ = us σ k i x → gW Γ E (mM E h ad τ) 0 0 (pc + 1) lv st) : gW Γ E (mM E h ad σ) 0 0 pc lv (.int (iI x) :: .int (iI i) :: .ref (ad k) :: st) := g_iast hΓ (mM_k hok σ hk hi) (hok.2.2.1 k hk hi).1 h0.1 (by rw [hn]; exact h0.2) (by omega) hd (by rw [mM_ast hok σ hk hi]; exact kk _ rfl)
theorem m_callV (hok : mOK E h ad) (hΓ : gOK l Γ E (fun _ => True) y cc nL ret d 0 0 pq) {y' : MethodName} {cc' : ByteArray} {nL' d' ix : Nat} {ret' : Option FieldType} {As : List Value} {post' : Option Value → mS → Prop} (hC : mC l E h ad y' cc' nL' ret' d' (.ref h :: As) σ post') {own : String} (ho : own = y.cls) (h1 : Cond.methodLink own ix y' ∈ lw_all) (h2 : Cond.instanceMethod y' ∈ lw_all) (h3 : Cond.selects y'.cls y' y' ∈ lw_all) (h4 : Cond.initialized y'.cls ∈ lw_all) (h5 : Cond.code y' cc' nL' ret' ∈ lw_all) {n : Nat} (h6 : y'.cls ≠ "java/lang/invoke/MethodHandle" ∧ y'.cls ≠ "java/lang/invoke/VarHandle" ∧ (parseMethodDescriptor y'.desc).map (fun d => d.parameters.length) = some n) (hn : As.length = n) (hdd : d' + 1 ≤ d) (hnl : nL' ≤ 40) (hcl : y'.cls = RX3) (hst : st = As.reverse ++ .ref h :: rest) (hrm : (rest.map fun v => v.category).sum ≤ 8) (hd : decode cc pc = .ok (.invokevirtual ix, 3)) (hlv : lv.length = nL) (kk : ∀ (v : Option Value) (τ : mS), post' v τ → gW Γ E (mM E h ad τ) 0 0 (pc + 3) lv (v.toList ++ rest)) : gW Γ E (mM E h ad σ) 0 0 pc lv st := g_callV hΓ hC ho h1 h2 h3 h4 h5 h6 hn hdd hnl (Nat.le_refl 0) (Nat.le_refl 0) (mM_h E h ad σ) (by rw [hcl]; exact hok.1) hst hrm hd hlv (fun v M' hv => by obtain ⟨τ, e, hq⟩ := hv; rw [e]; exact kk v τ hq)
theorem m_callS (hok : mOK E h ad) (hΓ : gOK l Γ E (fun _ => True) y cc nL ret d 0 0 pq) {y' : MethodName} {cc' : ByteArray} {nL' d' ix : Nat} {ret' : Option FieldType} {As : List Value} {post' : Option Value → mS → Prop} (hC : mC l E h ad y' cc' nL' ret' d' As σ post') {own : String} (ho : own = y.cls) (h1 : Cond.methodLink own ix y' ∈ lw_all) (h2 : Cond.static y' ∈ lw_all) (h4 : Cond.initialized y'.cls ∈ lw_all) (h5 : Cond.code y' cc' nL' ret' ∈ lw_all) {n : Nat} (h6 : y'.cls ≠ "java/lang/invoke/MethodHandle" ∧ y'.cls ≠ "java/lang/invoke/VarHandle" ∧ (parseMethodDescriptor y'.desc).map (fun d => d.parameters.length) = some n) (hn : As.length = n) (hdd : d' + 1 ≤ d) (hnl : nL' ≤ 40) (hst : st = As.reverse ++ rest) (hrm : (rest.map fun v => v.category).sum ≤ 8) (hd : decode cc pc = .ok (.invokestatic ix, 3)) (hlv : lv.length = nL) (kk : ∀ (v : Option Value) (τ : mS), post' v τ → gW Γ E (mM E h ad τ) 0 0 (pc + 3) lv (v.toList ++ rest)) : gW Γ E (mM E h ad σ) 0 0 pc lv st := g_callS hΓ hC ho h1 h2 h4 h5 h6 hn hdd hnl (Nat.le_refl 0) (Nat.le_refl 0) hst hrm hd hlv (fun v M' hv => by obtain ⟨τ, e, hq⟩ := hv; rw [e]; exact kk v τ hq)
theorem m_iret (hΓ : gOK l Γ E (fun _ => True) y cc nL (some .int) d 0 0 (mP E h ad post)) {a : Int} (hd : decode cc pc = .ok (.ireturn, 1)) (hq : post (some (.int (iI a))) σ) : gW Γ E (mM E h ad σ) 0 0 pc lv [.int (iI a)] := g_iret hΓ hd ⟨σ, rfl, hq⟩ (Nat.le_refl 0) (Nat.le_refl 0)
theorem m_zret (hΓ : gOK l Γ E (fun _ => True) y cc nL (some .boolean) d 0 0 (mP E h ad post)) {a : Int} (ha : a = 0 ∨ a = 1) (hd : decode cc pc = .ok (.ireturn, 1)) (hq : post (some (.int (iI a))) σ) : gW Γ E (mM E h ad σ) 0 0 pc lv [.int (iI a)] := g_zret hΓ ha hd ⟨σ, rfl, hq⟩ (Nat.le_refl 0) (Nat.le_refl 0)
theorem m_vret (hΓ : gOK l Γ E (fun _ => True) y cc nL none d 0 0 (mP E h ad post)) (hd : decode cc pc = .ok (.return_, 1)) (hq : post none σ) : gW Γ E (mM E h ad σ) 0 0 pc lv [] := g_vret hΓ hd ⟨σ, rfl, hq⟩ (Nat.le_refl 0) (Nat.le_refl 0)
end MR
