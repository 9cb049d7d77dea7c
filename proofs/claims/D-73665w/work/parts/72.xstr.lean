set_option maxRecDepth 100000
/-! STROKES: what is laid of one leaves the others as they were -/
def GS (S : xS) (D : xD) (R : xR) : Prop := ∀ s, (S s).1 = 8 → strOK S D R s
/-- but for 'laidFor' of s and the rows L nothing has changed -/
def agr (D t : xD) (s : Nat) (L : List Nat) : Prop := ∀ (q : Nat) (j : Int), (q ≠ s ∨ j ≠ 3) → q ∉ L → t q j = D q j
theorem agr_row {D t : xD} {s : Nat} {L : List Nat} (h : agr D t s L) {q : Nat} (hq : q ≠ s) (hL : q ∉ L) : t q = D q := funext fun j => h q j (Or.inl hq) hL
theorem agr_w {D t : xD} {s : Nat} {L L' : List Nat} (h : agr D t s L) (hL : ∀ q ∈ L, q ∈ L') : agr D t s L' := fun q j hq hn => h q j hq (fun e => hn (hL q e))
theorem strB_agr {S : xS} {D t : xD} {R : xR} {s s' : Nat} {L : List Nat} (hB : strB S D R s') (hs' : (S s').1 = 8) (hs : (S s).1 = 8) (h : agr D t s L) (hL : ∀ q ∈ L, (S q).1 = 42 ∨ (S q).1 = 43 ∨ (S q).1 = 44) : strB S t R s' := by
  obtain ⟨hf, hk, hp, hl⟩ := hB
  have ne : ∀ q k : Nat, (S q).1 = k → k < 42 → q ∉ L := fun q k hq hk9 e => by
    rcases hL _ e with z | z | z <;> omega
  have e0 : t (rf R s' 0) = D (rf R s' 0) := agr_row h (ne_k hf.2.1 hs (by decide)) (ne _ _ hf.2.1 (by decide))
  have e1 : t (rf R s' 1) = D (rf R s' 1) := agr_row h (ne_k hf.2.2.2.2.1 hs (by decide)) (ne _ _ hf.2.2.2.2.1 (by decide))
  exact ⟨hf, by rw [e0]; exact hk, fun k a b => by rw [e1, e0]; exact hp k a b, by rw [h s' 2 (Or.inr (by decide)) (ne _ _ hs' (by decide)), e0]; exact hl⟩
abbrev skL (R : xR) (s : Nat) : List Nat := [rf R s 4, rf R s 5, rf R s 6]
theorem skL_k {S : xS} {R : xR} {s : Nat} {n : Int} (hf : skF0 S R s n) : ∀ q ∈ skL R s, (S q).1 = 42 ∨ (S q).1 = 43 ∨ (S q).1 = 44 := by
  intro q hq
  simp only [List.mem_cons, List.not_mem_nil, or_false] at hq
  rcases hq with rfl | rfl | rfl
  · left; rw [hf.2.2.2.2.2.2.2.1]
  · right; left; rw [hf.2.2.2.2.2.2.2.2.2.1]
  · right; right; rw [hf.2.2.2.2.2.2.2.2.2.2.2]
theorem agr_fr {S : xS} {D t : xD} {R : xR} {s : Nat} {n : Int} (hs : (S s).1 = 8) (hf : skF0 S R s n) (h : agr D t s (skL R s)) : fr S D t [8003, 42, 43, 44] := by
  intro q j hm
  refine h q j ?_ (fun e => ?_)
  · by_cases c : q = s
    · right
      rintro rfl
      rw [c, hs] at hm
      exact hm (by decide)
    · exact Or.inl c
  · rcases skL_k hf q e with z | z | z <;> rw [z, mdN _ (by decide)] at hm <;> exact hm (by decide)
theorem skL_o {S : xS} {R : xR} {s s' : Nat} {n n' : Int} (hf : skF0 S R s n) (hf' : skF0 S R s' n') (hne : s' ≠ s) : rf R s' 4 ∉ skL R s ∧ rf R s' 5 ∉ skL R s ∧ rf R s' 6 ∉ skL R s := by
  have a4 := hf.2.2.2.2.2.2.2.1
  have a5 := hf.2.2.2.2.2.2.2.2.2.1
  have a6 := hf.2.2.2.2.2.2.2.2.2.2.2
  have b4 := hf'.2.2.2.2.2.2.2.1
  have b5 := hf'.2.2.2.2.2.2.2.2.2.1
  have b6 := hf'.2.2.2.2.2.2.2.2.2.2.2
  have key : ∀ x y k k' m m' : Nat, S x = (k, m, s') → S y = (k', m', s) → x ≠ y := fun x y k k' m m' hx hy e => by
    rw [e, hy] at hx
    exact hne (congrArg (fun z => z.2.2) hx).symm
  refine ⟨?_, ?_, ?_⟩ <;> simp only [List.mem_cons, List.not_mem_nil, or_false, not_or]
  · exact ⟨key _ _ _ _ _ _ b4 a4, key _ _ _ _ _ _ b4 a5, key _ _ _ _ _ _ b4 a6⟩
  · exact ⟨key _ _ _ _ _ _ b5 a4, key _ _ _ _ _ _ b5 a5, key _ _ _ _ _ _ b5 a6⟩
  · exact ⟨key _ _ _ _ _ _ b6 a4, key _ _ _ _ _ _ b6 a5, key _ _ _ _ _ _ b6 a6⟩
/-- where a stroke's rows for what is laid differ from its other places -/
theorem skL_n {S : xS} {R : xR} {s : Nat} {n : Int} (hf : skF0 S R s n) : rf R s 0 ∉ skL R s ∧ s ∉ skL R s → True := fun _ => trivial
theorem agr_GS {S : xS} {D t : xD} {R : xR} {s : Nat} {e : Int} (hs : (S s).1 = 8) (hG : GS S D R) (h : agr D t s (skL R s)) (h3 : t s 3 = e) (hc : caOK t R s (strN S R s) e) : GS S t R := by
  intro s' hs'
  have hf := (hG s hs).1.1
  have hB := strB_agr (hG s' hs').1 hs' hs h (skL_k hf)
  refine ⟨hB, ?_⟩
  by_cases c : s' = s
  · subst c
    right
    rw [h3]
    exact hc
  · have hf' := (hG s' hs').1.1
    have ho := skL_o hf hf' c
    have ne : ∀ q k : Nat, (S q).1 = k → k < 42 → q ∉ skL R s := fun q k hq hk9 e => by
      rcases skL_k hf _ e with z | z | z <;> omega
    have k4 : (S (rf R s' 4)).1 = 42 := by rw [hf'.2.2.2.2.2.2.2.1]
    have k5 : (S (rf R s' 5)).1 = 43 := by rw [hf'.2.2.2.2.2.2.2.2.2.1]
    have k6 : (S (rf R s' 6)).1 = 44 := by rw [hf'.2.2.2.2.2.2.2.2.2.2.2]
    have e0 : t (rf R s' 0) = D (rf R s' 0) := agr_row h (ne_k hf'.2.1 hs (by decide)) (ne _ _ hf'.2.1 (by decide))
    have e4 : t (rf R s' 4) = D (rf R s' 4) := agr_row h (ne_k k4 hs (by decide)) ho.1
    have e5 : t (rf R s' 5) = D (rf R s' 5) := agr_row h (ne_k k5 hs (by decide)) ho.2.1
    have e6 : t (rf R s' 6) = D (rf R s' 6) := agr_row h (ne_k k6 hs (by decide)) ho.2.2
    have e3 : t s' 3 = D s' 3 := h s' 3 (Or.inl c) (ne _ _ hs' (by decide))
    rw [e3]
    have := (hG s' hs').2
    simp only [caOK, e0, e4, e5, e6] at this ⊢
    exact this
theorem smp_same {n : Int} {f : Int → Int} {e k ax : Int} {q : Int × Int} (h : smQ n f e k = q) : smp n f e k ax = smV f ax q := by rw [smp, h]
theorem cdk_0 (n : Int) (f : Int → Int) (e : Int) : cdk n f e 0 = cdv (smp n f e (0 + 1) 0 - smp n f e 0 0) (smp n f e (0 + 1) 1 - smp n f e 0 1) 0 := rfl
theorem cdk_s (n : Int) (f : Int → Int) (e : Int) {k : Int} (h : 0 < k) : cdk n f e k = cdv (smp n f e (k + 1) 0 - smp n f e k 0) (smp n f e (k + 1) 1 - smp n f e k 1) (cdk n f e (k - 1)) := by
  rw [cdk, cdk, show (k + 1).toNat = k.toNat + 1 by omega, cdL, show (k - 1 + 1).toNat = k.toNat by omega, show ((k.toNat : Nat) : Int) = k by omega]
theorem cdv_z {dx dy l : Int} (h : dx = 0 ∧ dy = 0) : cdv dx dy l = l := by rw [cdv, if_pos h]
theorem cdv_n {dx dy l : Int} (h : ¬ (dx = 0 ∧ dy = 0)) : cdv dx dy l = cdv dx dy 0 := by rw [cdv, cdv, if_neg h, if_neg h]
theorem cdk_v (n : Int) (f : Int → Int) (e : Int) {k : Int} (h : 0 ≤ k) : cdk n f e k = cdv (smp n f e (k + 1) 0 - smp n f e k 0) (smp n f e (k + 1) 1 - smp n f e k 1) (if k = 0 then 0 else cdk n f e (k - 1)) := by
  by_cases c : k = 0
  · subst c
    rw [if_pos rfl]
    exact cdk_0 n f e
  · rw [if_neg c]
    exact cdk_s n f e (by omega)
