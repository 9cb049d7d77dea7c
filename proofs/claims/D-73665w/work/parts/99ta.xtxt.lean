set_option maxRecDepth 100000
/-! TEXTS -/
section TXR
variable {l : Launch} {Γ : gC} {E : gE} {X : State → Prop} {y : MethodName} {cc : ByteArray} {nL : Nat} {d mc ms : Nat} {S : xS} {D : xD} {R : xR} {cells slots pc : Nat} {lv : List (Option Value)}
theorem g_nret {ty : FieldType} {post : Option Value → wM → Prop} {M : wM} (hΓ : gOK l Γ E X y cc nL (some ty) d mc ms post) {a : Int} (hn : narrow ty (.int (iI a)) = .int (iI a)) (hd : decode cc pc = .ok (.ireturn, 1)) (hq : post (some (.int (iI a))) M) (hc : cells ≤ mc) (hs : slots ≤ ms) : gW Γ E M cells slots pc lv [.int (iI a)] := fun H locs ls hP hS hl => by
  exact W.widen hc hs (wQ_mono hΓ.2.2.2.2.2.2.2.2.2.2.1 (W.zret hΓ.1 hΓ.2.1 hΓ.2.2.1 hn (fun t ht hW => ⟨⟨_, M, rfl, hq, by rw [ht]; exact hP⟩, hS.F ht⟩) hS.2.2 hd hΓ.2.2.2.1))
theorem x_nret {ty : FieldType} {post : Option Value → xS → xD → xR → Prop} (hΓ : gOK l Γ E X y cc nL (some ty) d mc ms (xP E post)) {a : Int} (hn : narrow ty (.int (iI a)) = .int (iI a)) (hd : decode cc pc = .ok (.ireturn, 1)) (hc : cells ≤ mc) (hs : slots ≤ ms) (hq : post (some (.int (iI a))) S D R) : gW Γ E (xM E S D R) cells slots pc lv [.int (iI a)] := g_nret hΓ hn hd ⟨S, D, R, rfl, hq⟩ hc hs
end TXR
theorem nrB_0 : narrow .byte (.int (iI 0)) = .int (iI 0) := rfl
theorem nrC {a : Int} (h : 0 ≤ a ∧ a < 256) : narrow .char (.int (iI a)) = .int (iI a) := by
  have := narC h
  simp only [vp_nar] at this
  first | (simp only [narrow]; rw [this]) | (show Value.int _ = _; rw [this]) | (simp [narrow] at this ⊢; exact this)
theorem shr_0 (a : Int) : iI a >>> (iI 0 &&& 31) = iI a := by
  have : iI 0 &&& 31 = 0 := by decide
  rw [this]
  simp
theorem an255 {a : Int} (h : 0 ≤ a ∧ a < 256) : iI a &&& iI 255 = iI a := by rw [an_255, show a % 256 = a by omega]
/-- how long a text is; whether two texts are the same -/
def txN (S : xS) (R : xR) (q : Nat) : Int := ((S (rf R q 0)).2.1 : Int)
def txE (S : xS) (D : xD) (R : xR) (a b : Nat) : Prop := txN S R a = txN S R b ∧ ∀ j, 0 ≤ j → j < txN S R a → D (rf R a 0) j = D (rf R b 0) j
theorem tx_b {S : xS} {D : xD} {R : xR} {q : Nat} (h : txF S D R q) {j : Int} (h0 : 0 ≤ j) (h1 : j < txN S R q) : 0 ≤ D (rf R q 0) j ∧ D (rf R q 0) j ≤ 127 := by
  have w := h.2.2.2.2 j.toNat (by omega) (by rw [txN] at h1; omega)
  rw [show ((j.toNat : Nat) : Int) = j by omega] at w
  exact w
theorem tx_n {S : xS} {D : xD} {R : xR} {q : Nat} (h : txF S D R q) : 0 ≤ txN S R q ∧ txN S R q ≤ 1600 := by
  have := h.2.2.1
  rw [txN]; omega
