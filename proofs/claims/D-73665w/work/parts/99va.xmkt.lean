set_option maxRecDepth 100000
/-! A TEXT IS MADE -/
theorem or2 {a b : Int} (ha : 0 ≤ a) (hb : 0 ≤ b) : iI a ||| iI b = iI ((a.toNat ||| b.toNat : Nat) : Int) := by
  have h := or_nat a.toNat b.toNat
  rw [show ((a.toNat : Nat) : Int) = a by omega, show ((b.toNat : Nat) : Int) = b by omega] at h
  exact h
theorem or3 {a : Nat} {b : Int} (hb : 0 ≤ b) : iI (a : Int) ||| iI b = iI ((a ||| b.toNat : Nat) : Int) := by
  have h := or_nat a b.toNat
  rw [show ((b.toNat : Nat) : Int) = b by omega] at h
  exact h
theorem i2b_127 : ∀ n : Nat, n < 128 → (iI (n : Int)).toInt8.toInt32 = iI (n : Int) := by decide +kernel
theorem i2b_r {a : Int} (h : 0 ≤ a ∧ a ≤ 127) : (iI a).toInt8.toInt32 = iI a := by
  have := i2b_127 a.toNat (by omega)
  rw [show ((a.toNat : Nat) : Int) = a by omega] at this
  exact this
theorem narB_127 : ∀ n : Nat, n < 128 → vp_nar .byte (iI (n : Int)) = iI (n : Int) := by decide +kernel
theorem narB {a : Int} (h : 0 ≤ a ∧ a ≤ 127) : vp_nar .byte (iI a) = iI a := by
  have := narB_127 a.toNat (by omega)
  rw [show ((a.toNat : Nat) : Int) = a by omega] at this
  exact this
theorem ush31 {a : Int} (h : a = 0) : ((iI a).toUInt32 >>> ((iI 31).toUInt32 &&& Int32.toUInt32 31)).toInt32 = iI 0 := by rw [h]; decide +kernel
section TM
variable {E : gE} {Z : Nat → Nat} {S S' : xS} {D D' : xD} {R R' : xR}
theorem tx_mk (hg : GI E Z S D R) {q b n : Nat} (zq : (S q).1 = 0) (zb : (S b).1 = 0) (hw : E.2.2 q ∧ E.2.2 b) (hS : ∀ p, (S p).1 ≠ 0 → S' p = S p) (hn : ∀ p, (S p).1 = 0 → p ≠ q → p ≠ b → (S' p).1 = 0) (sq : (S' q).1 = 30) (sb : (S' b).1 = 31 ∧ (S' b).2.1 = n) (hl : n ≤ 1600) (hD : ∀ p, (S p).1 ≠ 0 → D' p = D p) (hR : ∀ p, (S p).1 ≠ 0 → R' p = R p) (r0 : R' q 0 = some b) (d1 : D' q 1 = 0) {f : Int → Int} (hf : ∀ j : Int, 0 ≤ j → j < n → D' b j = f j ∧ 0 ≤ f j ∧ f j ≤ 127) : GI E Z S' D' R' ∧ ext S S' D D' R R' ∧ nmK S' D' R' q n f := by
  have he : ext S S' D D' R R' := ⟨hS, hD, hR⟩
  have ht : txF S' D' R' q := ⟨by rw [rf_s r0]; exact r0, by rw [rf_s r0]; exact sb.1, by rw [rf_s r0, sb.2]; exact hl, d1, fun j x y => by
    rw [rf_s r0] at y ⊢
    rw [sb.2] at y
    have h9 := hf j (by omega) (by omega)
    rw [h9.1]; exact h9.2⟩
  have key : ∀ p, (S p).1 = 0 → p ≠ q → ((S' p).1 = 31 ∨ (S' p).1 = 0) ∧ (wk (S' p).1 = true → E.2.2 p) := by
    intro p hp9 e0
    by_cases e1 : p = b
    · rw [e1]; exact ⟨Or.inl sb.1, fun _ => hw.2⟩
    · have h9 := hn p hp9 e0 e1
      exact ⟨Or.inr h9, fun h => by rw [h9] at h; exact absurd h (by decide)⟩
  refine ⟨GI_chg (T := fun _ => False) hg (chg_ext he) (fun _ h => h.elim) (fun a h1 h2 h3 => ?_) (fun p hp => ?_), he, ⟨sq, by rw [rf_s r0]; exact sb.1, by rw [rf_s r0, sb.2], fun j x y => by rw [rf_s r0]; exact (hf j x y).1⟩⟩
  · have za : (S a).1 = 0 := by rcases h3 with h | h | h; exact h; exact h.elim; exact h.elim
    exfalso
    by_cases e3 : a = q
    · rw [e3] at h1 h2; omega
    · have := (key a za e3).1; omega
  · by_cases e3 : p = q
    · rw [e3, sq]
      exact ⟨fun h => absurd h (by decide), fun h => absurd h (by decide), fun h => absurd h (by decide), fun h => absurd h (by decide), fun _ => ht, fun _ => hw.1⟩
    · have k9 := key p hp e3
      exact ⟨fun h => absurd h (by omega), fun h => absurd h (by omega), fun h => absurd h (by omega), fun h => absurd h (by omega), fun h => absurd h (by omega), k9.2⟩
end TM
