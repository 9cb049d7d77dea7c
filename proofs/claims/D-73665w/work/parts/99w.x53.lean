set_option maxRecDepth 100000
set_option maxHeartbeats 4000000 in
theorem x_J7_checkFromIndexSize {l : Launch} {E : gE} {X : State → Prop} {Z : Nat → Nat} {Y : Nat → Option Nat} (hE : E.2.1 = clsX) (hX : xOK l E X Z Y) (S : xS) (D : xD) (R : xR) (i n u : Int) (h : 0 ≤ i ∧ 0 ≤ n ∧ i + n ≤ u ∧ u < 2147483648) : xC l E X yJ7_checkFromIndexSize cJ7_checkFromIndexSize 4 (some .int) 1 0 0 [.int (iI i), .int (iI n), .int (iI u), .null] S D R (fun rv S' D' R' => rv = some (.int (iI i)) ∧ S' = S ∧ D' = D ∧ R' = R) := by
  refine xC.ofF hX.1 (by decide +kernel) [some (.int (iI i)), some (.int (iI n)), some (.int (iI u)), some (.null)] (Nat.le_of_ble_eq_true rfl) rfl rfl (fun Γ hΓ => ?_)
  obtain ⟨o1, ho1⟩ : ∃ z : Nat, z = u.toNat ||| i.toNat := ⟨_, rfl⟩
  obtain ⟨o2, ho2⟩ : ∃ z : Nat, z = o1 ||| n.toNat := ⟨_, rfl⟩
  have hb1 : o1 < 2147483648 := by rw [ho1]; exact Nat.or_lt_two_pow (n := 31) (by omega) (by omega)
  have hb2 : o2 < 2147483648 := by rw [ho2]; exact Nat.or_lt_two_pow (n := 31) (by omega) (by omega)
  refine g_iload_n hΓ rfl dJ7_checkFromIndexSize_0 ?_
  refine g_iload_n hΓ rfl dJ7_checkFromIndexSize_1 ?_
  refine g_ior (a := ((o1 : Nat) : Int)) hΓ (by rw [ho1]; exact or2 (by omega) (by omega)) dJ7_checkFromIndexSize_2 ?_
  refine g_iload_n hΓ rfl dJ7_checkFromIndexSize_3 ?_
  refine g_ior (a := ((o2 : Nat) : Int)) hΓ (by rw [ho2]; exact or3 (by omega)) dJ7_checkFromIndexSize_4 ?_
  refine g_if_lt (tgt := 15) hΓ (by omega) dJ7_checkFromIndexSize_5 (by decide) (fun c1 => ?_) (fun c1 => ?_)
  · exact absurd c1 (by omega)
  · refine g_iload_n hΓ rfl dJ7_checkFromIndexSize_8 ?_
    refine g_iload_n hΓ rfl dJ7_checkFromIndexSize_9 ?_
    refine g_iload_n hΓ rfl dJ7_checkFromIndexSize_10 ?_
    refine g_isub hΓ dJ7_checkFromIndexSize_11 ?_
    refine g_icmp_le (tgt := 23) hΓ (by omega) (by omega) dJ7_checkFromIndexSize_12 (by decide) (fun c2 => ?_) (fun c2 => ?_)
    · refine g_iload_n hΓ rfl dJ7_checkFromIndexSize_23 ?_
      exact x_iret hΓ dJ7_checkFromIndexSize_24 (Nat.zero_le _) (Nat.zero_le _) ⟨ri (by first | rfl | omega | (simp_all; done) | (simp_all; omega)), rfl, rfl, rfl⟩
    · exact absurd c2 (by omega)
set_option maxHeartbeats 4000000 in
theorem x_J7_checkFromIndexSizeR {l : Launch} {E : gE} {X : State → Prop} {Z : Nat → Nat} {Y : Nat → Option Nat} (hE : E.2.1 = clsX) (hX : xOK l E X Z Y) (S : xS) (D : xD) (R : xR) (i n u : Int) (f : Nat) (h : 0 ≤ i ∧ 0 ≤ n ∧ i + n ≤ u ∧ u < 2147483648) : xC l E X yJ7_checkFromIndexSize cJ7_checkFromIndexSize 4 (some .int) 1 0 0 [.int (iI i), .int (iI n), .int (iI u), .ref f] S D R (fun rv S' D' R' => rv = some (.int (iI i)) ∧ S' = S ∧ D' = D ∧ R' = R) := by
  refine xC.ofF hX.1 (by decide +kernel) [some (.int (iI i)), some (.int (iI n)), some (.int (iI u)), some (.ref f)] (Nat.le_of_ble_eq_true rfl) rfl rfl (fun Γ hΓ => ?_)
  obtain ⟨o1, ho1⟩ : ∃ z : Nat, z = u.toNat ||| i.toNat := ⟨_, rfl⟩
  obtain ⟨o2, ho2⟩ : ∃ z : Nat, z = o1 ||| n.toNat := ⟨_, rfl⟩
  have hb1 : o1 < 2147483648 := by rw [ho1]; exact Nat.or_lt_two_pow (n := 31) (by omega) (by omega)
  have hb2 : o2 < 2147483648 := by rw [ho2]; exact Nat.or_lt_two_pow (n := 31) (by omega) (by omega)
  refine g_iload_n hΓ rfl dJ7_checkFromIndexSize_0 ?_
  refine g_iload_n hΓ rfl dJ7_checkFromIndexSize_1 ?_
  refine g_ior (a := ((o1 : Nat) : Int)) hΓ (by rw [ho1]; exact or2 (by omega) (by omega)) dJ7_checkFromIndexSize_2 ?_
  refine g_iload_n hΓ rfl dJ7_checkFromIndexSize_3 ?_
  refine g_ior (a := ((o2 : Nat) : Int)) hΓ (by rw [ho2]; exact or3 (by omega)) dJ7_checkFromIndexSize_4 ?_
  refine g_if_lt (tgt := 15) hΓ (by omega) dJ7_checkFromIndexSize_5 (by decide) (fun c1 => ?_) (fun c1 => ?_)
  · exact absurd c1 (by omega)
  · refine g_iload_n hΓ rfl dJ7_checkFromIndexSize_8 ?_
    refine g_iload_n hΓ rfl dJ7_checkFromIndexSize_9 ?_
    refine g_iload_n hΓ rfl dJ7_checkFromIndexSize_10 ?_
    refine g_isub hΓ dJ7_checkFromIndexSize_11 ?_
    refine g_icmp_le (tgt := 23) hΓ (by omega) (by omega) dJ7_checkFromIndexSize_12 (by decide) (fun c2 => ?_) (fun c2 => ?_)
    · refine g_iload_n hΓ rfl dJ7_checkFromIndexSize_23 ?_
      exact x_iret hΓ dJ7_checkFromIndexSize_24 (Nat.zero_le _) (Nat.zero_le _) ⟨ri (by first | rfl | omega | (simp_all; done) | (simp_all; omega)), rfl, rfl, rfl⟩
    · exact absurd c2 (by omega)
set_option maxHeartbeats 4000000 in
theorem x_J6_checkBoundsOffCount {l : Launch} {E : gE} {X : State → Prop} {Z : Nat → Nat} {Y : Nat → Option Nat} (hE : E.2.1 = clsX) (hX : xOK l E X Z Y) (S : xS) (D : xD) (R : xR) (i n u : Int) (h : 0 ≤ i ∧ 0 ≤ n ∧ i + n ≤ u ∧ u < 2147483648) : xC l E X yJ6_checkBoundsOffCount cJ6_checkBoundsOffCount 3 (some .int) 2 0 0 [.int (iI i), .int (iI n), .int (iI u)] S D R (fun rv S' D' R' => rv = some (.int (iI i)) ∧ S' = S ∧ D' = D ∧ R' = R) := by
  refine xC.ofF hX.1 (by decide +kernel) [some (.int (iI i)), some (.int (iI n)), some (.int (iI u))] (Nat.le_of_ble_eq_true rfl) rfl rfl (fun Γ hΓ => ?_)
  refine g_iload_n hΓ rfl dJ6_checkBoundsOffCount_0 ?_
  refine g_iload_n hΓ rfl dJ6_checkBoundsOffCount_1 ?_
  refine g_iload_n hΓ rfl dJ6_checkBoundsOffCount_2 ?_
  refine g_gets hΓ rfl (xn_s_fmt hX) q551 dJ6_checkBoundsOffCount_3 ?_
  show gW Γ E (xM E S D R) 0 0 _ _ (va_rf (Y 0) :: _)
  rcases va_rf_or (Y 0) with h9 | ⟨f9, h9⟩
  · rw [h9]
    refine x_callS (As := [.int (iI i), .int (iI n), .int (iI u), .null]) (rest := []) hΓ (x_J7_checkFromIndexSize hE hX S D R i n u (by first | assumption | omega)) rfl q553 q554 q138 q555 ndJ7_checkFromIndexSize rfl (by decide) (by decide) (Nat.zero_le _) (Nat.zero_le _) rfl (Nat.le_of_ble_eq_true rfl) dJ6_checkBoundsOffCount_6 rfl (fun v1 S1 τ1 ρ1 h1 => ?_)
    obtain ⟨rfl, S1e, τ1e, ρ1e⟩ := h1
    have S1e := S1e.symm; subst S1e
    have τ1e := τ1e.symm; subst τ1e
    have ρ1e := ρ1e.symm; subst ρ1e
    show gW Γ E (xM E S D R) _ _ _ _ (.int (iI i) :: _)
    exact x_iret hΓ dJ6_checkBoundsOffCount_9 (Nat.zero_le _) (Nat.zero_le _) ⟨ri (by first | rfl | omega | (simp_all; done) | (simp_all; omega)), rfl, rfl, rfl⟩
  · rw [h9]
    refine x_callS (As := [.int (iI i), .int (iI n), .int (iI u), .ref f9]) (rest := []) hΓ (x_J7_checkFromIndexSizeR hE hX S D R i n u f9 (by first | assumption | omega)) rfl q553 q554 q138 q555 ndJ7_checkFromIndexSize rfl (by decide) (by decide) (Nat.zero_le _) (Nat.zero_le _) rfl (Nat.le_of_ble_eq_true rfl) dJ6_checkBoundsOffCount_6 rfl (fun v2 S2 τ2 ρ2 h2 => ?_)
    obtain ⟨rfl, S2e, τ2e, ρ2e⟩ := h2
    have S2e := S2e.symm; subst S2e
    have τ2e := τ2e.symm; subst τ2e
    have ρ2e := ρ2e.symm; subst ρ2e
    show gW Γ E (xM E S D R) _ _ _ _ (.int (iI i) :: _)
    exact x_iret hΓ dJ6_checkBoundsOffCount_9 (Nat.zero_le _) (Nat.zero_le _) ⟨ri (by first | rfl | omega | (simp_all; done) | (simp_all; omega)), rfl, rfl, rfl⟩
set_option maxHeartbeats 4000000 in
theorem x_J6_rangeCheck {l : Launch} {E : gE} {X : State → Prop} {Z : Nat → Nat} {Y : Nat → Option Nat} (hE : E.2.1 = clsX) (hX : xOK l E X Z Y) (S : xS) (D : xD) (R : xR) (a : Nat) (i n : Int) (ha : (S a).1 = 50) (hna : (S a).2.1 = 1600) (hi : 0 ≤ i ∧ 1 ≤ n ∧ i + n ≤ 1600) : xC l E X yJ6_rangeCheck cJ6_rangeCheck 3 (some (.object "java/lang/Void")) 3 0 0 [.ref a, .int (iI i), .int (iI n)] S D R (fun rv S' D' R' => rv = some (.null) ∧ S' = S ∧ D' = D ∧ R' = R) := by
  refine xC.ofF hX.1 (by decide +kernel) [some (.ref a), some (.int (iI i)), some (.int (iI n))] (Nat.le_of_ble_eq_true rfl) rfl rfl (fun Γ hΓ => ?_)
  refine g_iload_n hΓ rfl dJ6_rangeCheck_0 ?_
  refine g_iload_n hΓ rfl dJ6_rangeCheck_1 ?_
  refine g_aload_n hΓ rfl dJ6_rangeCheck_2 ?_
  refine x_alen hΓ ha hna ⟨by decide, by decide⟩ dJ6_rangeCheck_3 ?_
  refine g_topi (show (((1600 : Nat)) : Int) = 1600 from rfl) ?_
  refine x_callS (As := [.int (iI i), .int (iI n), .int (iI 1600)]) (rest := []) hΓ (x_J6_checkBoundsOffCount hE hX S D R i n 1600 (by first | assumption | omega)) rfl q548 q549 q137 q550 ndJ6_checkBoundsOffCount rfl (by decide) (by decide) (Nat.zero_le _) (Nat.zero_le _) rfl (Nat.le_of_ble_eq_true rfl) dJ6_rangeCheck_4 rfl (fun v1 S1 τ1 ρ1 h1 => ?_)
  obtain ⟨rfl, S1e, τ1e, ρ1e⟩ := h1
  have S1e := S1e.symm; subst S1e
  have τ1e := τ1e.symm; subst τ1e
  have ρ1e := ρ1e.symm; subst ρ1e
  show gW Γ E (xM E S D R) _ _ _ _ (.int (iI i) :: _)
  refine g_pop hΓ rfl dJ6_rangeCheck_7 ?_
  refine g_null hΓ dJ6_rangeCheck_8 ?_
  exact x_aret hΓ (Or.inl ⟨_, rfl⟩) (Or.inl rfl) dJ6_rangeCheck_9 (Nat.zero_le _) (Nat.zero_le _) ⟨rfl, rfl, rfl, rfl⟩
set_option maxHeartbeats 4000000 in
theorem x_J8_compress_2 {l : Launch} {E : gE} {X : State → Prop} {Z : Nat → Nat} {Y : Nat → Option Nat} (hE : E.2.1 = clsX) (hX : xOK l E X Z Y) (S : xS) (D : xD) (R : xR) (a d : Nat) (i n : Int) (ha : (S a).1 = 50) (hna : (S a).2.1 = 1600) (hi : 0 ≤ i ∧ 1 ≤ n ∧ i + n ≤ 1600) (hd : (S d).1 = 31) (hnd : (S d).2.1 = n.toNat) (hA : E.2.2 d) (hv : ∀ j, 0 ≤ j → j < n → 0 ≤ D a (i + j) ∧ D a (i + j) ≤ 127) : xC l E X yJ8_compress_2 cJ8_compress_2 7 (some .int) 0 0 0 [.ref a, .int (iI i), .ref d, .int (iI 0), .int (iI n)] S D R (fun rv S' D' R' => rv = some (.int (iI n)) ∧ ((∀ (p : Nat) (j : Int), p ≠ d → D' p j = D p j) ∧ ∀ j, 0 ≤ j → j < n → D' d j = D a (i + j)) ∧ S' = S ∧ fr S D D' [31] ∧ R' = R) := by
  refine xC.ofF hX.1 (by decide +kernel) [some (.ref a), some (.int (iI i)), some (.ref d), some (.int (iI 0)), some (.int (iI n)), none, none] (Nat.le_of_ble_eq_true rfl) rfl rfl (fun Γ hΓ => ?_)
  have hne : a ≠ d := ne_k ha hd (by decide)
  have loop : ∀ (fu : Nat) (t : xD) (x : Int) (y : Int) (j : Int), (n - j).toNat < fu → (fr S D t [31]) → (0 ≤ j ∧ j ≤ n) → (x = i + j) → (y = j) → (∀ (p : Nat) (j : Int), p ≠ d → t p j = D p j) → (∀ k, 0 ≤ k → k < j → t d k = D a (i + k)) → gW Γ E (xM E S t R) 0 0 3 [some (.ref a), some (.int (iI x)), some (.ref d), some (.int (iI y)), some (.int (iI n)), some (.int (iI j)), none] [] := by
    intro fu
    induction fu with
    | zero => intro t x y j hn; exact absurd hn (Nat.not_lt_zero _)
    | succ fu ih_loop =>
      intro t x y j hn ht hj hx9 hy9 hoth hw
      refine g_iload hΓ rfl dJ8_compress_2_3 ?_
      refine g_iload hΓ rfl dJ8_compress_2_5 ?_
      refine g_icmp_ge (tgt := 44) hΓ (by omega) (by omega) dJ8_compress_2_7 (by decide) (fun c1 => ?_) (fun c1 => ?_)
      · refine g_iload hΓ rfl dJ8_compress_2_44 ?_
        exact x_iret hΓ dJ8_compress_2_46 (Nat.zero_le _) (Nat.zero_le _) ⟨rfl, ⟨hoth, fun j9 x9 y9 => hw j9 x9 (by omega)⟩, rfl, ht, rfl⟩
      · have hv9 := hv j (by omega) (by omega)
        refine g_aload_n hΓ rfl dJ8_compress_2_10 ?_
        refine g_iload_n hΓ rfl dJ8_compress_2_11 ?_
        refine x_cald hΓ ha hna ⟨by decide, rfl⟩ (by omega) (by omega) dJ8_compress_2_12 ?_
        refine g_topi ((by rw [hx9]; exact hoth a _ hne)) ?_
        obtain ⟨x2, ex2⟩ : ∃ z9 : Int, z9 = D a (i + j) := ⟨_, rfl⟩
        refine g_topi ex2.symm ?_
        refine g_istore hΓ dJ8_compress_2_13 rfl (Nat.le_of_ble_eq_true rfl) (lv' := [some (.ref a), some (.int (iI x)), some (.ref d), some (.int (iI y)), some (.int (iI n)), some (.int (iI j)), some (.int (iI x2))]) rfl ?_
        refine g_iload hΓ rfl dJ8_compress_2_15 ?_
        refine g_sipush hΓ (by decide) dJ8_compress_2_17 ?_
        refine g_icmp_le (tgt := 26) hΓ (by omega) (by omega) dJ8_compress_2_20 (by decide) (fun c3 => ?_) (fun c3 => ?_)
        · refine g_aload_n hΓ rfl dJ8_compress_2_26 ?_
          refine g_iload_n hΓ rfl dJ8_compress_2_27 ?_
          refine g_iload hΓ rfl dJ8_compress_2_28 ?_
          refine g_i2b (a := x2) hΓ (i2b_r (by omega)) dJ8_compress_2_30 ?_
          refine x_bast hΓ hd hnd ⟨by decide, rfl⟩ hA (by omega) (by omega) (narB (by omega)) dJ8_compress_2_31 (fun τ4 τ4e => ?_)
          have τ4r : τ4 d y = x2 := by rw [τ4e]; exact us_s _ _ _ _
          have τ4f : ∀ (q9 : Nat) (j9 : Int), (q9 ≠ d ∨ j9 ≠ y) → τ4 q9 j9 = t q9 j9 := fun q9 j9 hh => by rw [τ4e]; exact us_n hh
          obtain ⟨x5, ex5⟩ : ∃ z9 : Int, z9 = x + 1 := ⟨_, rfl⟩
          refine g_iinc hΓ dJ8_compress_2_32 rfl rfl (lv' := [some (.ref a), some (.int (iI x5)), some (.ref d), some (.int (iI y)), some (.int (iI n)), some (.int (iI j)), some (.int (iI x2))]) (by rw [ex5]; rfl) ?_
          obtain ⟨x6, ex6⟩ : ∃ z9 : Int, z9 = y + 1 := ⟨_, rfl⟩
          refine g_iinc hΓ dJ8_compress_2_35 rfl rfl (lv' := [some (.ref a), some (.int (iI x5)), some (.ref d), some (.int (iI x6)), some (.int (iI n)), some (.int (iI j)), some (.int (iI x2))]) (by rw [ex6]; rfl) ?_
          obtain ⟨x7, ex7⟩ : ∃ z9 : Int, z9 = j + 1 := ⟨_, rfl⟩
          refine g_iinc hΓ dJ8_compress_2_38 rfl rfl (lv' := [some (.ref a), some (.int (iI x5)), some (.ref d), some (.int (iI x6)), some (.int (iI n)), some (.int (iI x7)), some (.int (iI x2))]) (by rw [ex7]; rfl) ?_
          refine g_goto (tgt := 3) hΓ dJ8_compress_2_41 (by decide) ?_
          refine g_lvw (lv' := [some (.ref a), some (.int (iI x5)), some (.ref d), some (.int (iI x6)), some (.int (iI n)), some (.int (iI x7)), none]) ⟨rfl, ⟨rfl, ⟨rfl, ⟨rfl, ⟨rfl, ⟨rfl, trivial⟩⟩⟩⟩⟩⟩ ?_
          exact ih_loop τ4 x5 x6 x7 (by omega) (fr_t ht (fun q9 j9 hk9 => by exact (τ4f q9 j9 (Or.inl (fun e9 => hk9 (by rw [e9, hd, mdN _ (by decide)]; decide)))))) (by omega) (by omega) (by omega) (fun p9 j9 h9 => (τ4f p9 j9 (Or.inl h9)).trans (hoth p9 j9 h9)) (fun j9 x9 y9 => by
            by_cases c9 : j9 = j
            · rw [c9]; rw [← hy9]; exact τ4r.trans (by rw [hy9])
            · exact (τ4f _ _ (Or.inr (by omega))).trans (hw j9 x9 (by omega)))
        · exact absurd c3 (by omega)
  refine g_iconst hΓ dJ8_compress_2_0 ?_
  refine g_istore hΓ dJ8_compress_2_1 rfl (Nat.le_of_ble_eq_true rfl) (lv' := [some (.ref a), some (.int (iI i)), some (.ref d), some (.int (iI 0)), some (.int (iI n)), some (.int (iI 0)), none]) rfl ?_
  exact loop 1601 D i 0 0 (by omega) fr_rfl (by omega) (by omega) rfl (fun _ _ _ => rfl) (fun k9 x9 y9 => absurd x9 (by omega))
set_option maxHeartbeats 4000000 in
theorem x_J8_compress {l : Launch} {E : gE} {X : State → Prop} {Z : Nat → Nat} {Y : Nat → Option Nat} (hE : E.2.1 = clsX) (hX : xOK l E X Z Y) (S : xS) (D : xD) (R : xR) (a : Nat) (i n : Int) (ha : (S a).1 = 50) (hna : (S a).2.1 = 1600) (hi : 0 ≤ i ∧ 1 ≤ n ∧ i + n ≤ 1600) (hv : ∀ j, 0 ≤ j → j < n → 0 ≤ D a (i + j) ∧ D a (i + j) ≤ 127) : xC l E X yJ8_compress cJ8_compress 6 (some (.array .byte)) 5 1 (n.toNat) [.ref a, .int (iI i), .int (iI n)] S D R (fun rv S' D' R' => ∃ q9 : Nat, rv = some (.ref q9) ∧ ((S q9).1 = 0 ∧ E.2.2 q9 ∧ S' = uS S q9 31 n.toNat 0 ∧ (∀ (p : Nat) (j : Int), p ≠ q9 → D' p j = D p j) ∧ (∀ (p : Nat) (j : Int), p ≠ q9 → R' p j = R p j) ∧ ∀ j : Int, 0 ≤ j → j < n → D' q9 j = D a (i + j)) ∧ sle S S') := by
  refine xC.ofF hX.1 (by decide +kernel) [some (.ref a), some (.int (iI i)), some (.int (iI n)), none, none, none] (Nat.le_of_ble_eq_true rfl) rfl rfl (fun Γ hΓ => ?_)
  refine g_iload_n hΓ rfl dJ8_compress_0 ?_
  refine x_newb hΓ (xn_new hX) 31 0 ⟨by decide, rfl⟩ q616 (by omega) (by omega) (by omega) dJ8_compress_1 (fun q1 S1 δ1 ρ1 q1z q1w S1e δ1e ρ1e => ?_)
  have S1f : ∀ q9 : Nat, (S q9).1 ≠ 0 → S1 q9 = S q9 := fun q9 h9 => by rw [S1e]; exact uS_n (fun e9 => h9 (by rw [e9]; exact q1z))
  have S1q : S1 q1 = (31, (n).toNat, 0) := by rw [S1e]; exact uS_s _ _ _ _ _
  have δ1z : ∀ j9 : Int, δ1 q1 j9 = 0 := fun j9 => by rw [δ1e, uN_s]
  have δ1f : ∀ (q9 : Nat) (j9 : Int), q9 ≠ q1 → δ1 q9 j9 = D q9 j9 := fun q9 j9 h9 => by rw [δ1e, uN_n h9]
  have ρ1z : ∀ j9 : Int, ρ1 q1 j9 = none := fun j9 => by rw [ρ1e, uN_s]
  have ρ1f : ∀ (q9 : Nat) (j9 : Int), q9 ≠ q1 → ρ1 q9 j9 = R q9 j9 := fun q9 j9 h9 => by rw [ρ1e, uN_n h9]
  have kd2 : (S1 a).1 = 50 := kup ha (by decide) S1f
  have ln2 : (S1 a).2.1 = 1600 := nup ha (by decide) hna S1f
  have kdq1 : (S1 q1).1 = 31 := by rw [S1q]
  have lnq1 : (S1 q1).2.1 = (n).toNat := by rw [S1q]
  refine g_astore_n hΓ dJ8_compress_3 rfl (Nat.le_of_ble_eq_true rfl) (lv' := [some (.ref a), some (.int (iI i)), some (.int (iI n)), some (.ref q1), none, none]) rfl ?_
  refine g_aload_n hΓ rfl dJ8_compress_4 ?_
  refine g_iload_n hΓ rfl dJ8_compress_5 ?_
  refine g_aload_n hΓ rfl dJ8_compress_6 ?_
  refine g_iconst hΓ dJ8_compress_7 ?_
  refine g_iload_n hΓ rfl dJ8_compress_8 ?_
  have hae : a ≠ q1 := fun e9 => by have h9 := q1z; rw [← e9, ha] at h9; exact absurd h9 (by decide)
  refine x_callS (As := [.ref a, .int (iI i), .ref q1, .int (iI 0), .int (iI n)]) (rest := []) hΓ (x_J8_compress_2 hE hX S1 δ1 ρ1 a q1 i n kd2 ln2 hi kdq1 lnq1 q1w (fun j9 x9 y9 => by rw [δ1f a _ hae]; exact hv j9 x9 y9) ) rfl q566 q567 q139 q568 ndJ8_compress_2 rfl (by decide) (by decide) (by omega) (by omega) rfl (Nat.le_of_ble_eq_true rfl) dJ8_compress_9 rfl (fun v3 S3 τ3 ρ3 h3 => ?_)
  obtain ⟨rfl, h3, S3e, τ3f, ρ3e⟩ := h3
  have S3e := S3e.symm; subst S3e
  have ρ3e := ρ3e.symm; subst ρ3e
  show gW Γ E (xM E S1 τ3 ρ1) _ _ _ _ (.int (iI n) :: _)
  refine g_istore hΓ dJ8_compress_12 rfl (Nat.le_of_ble_eq_true rfl) (lv' := [some (.ref a), some (.int (iI i)), some (.int (iI n)), some (.ref q1), some (.int (iI n)), none]) rfl ?_
  refine g_iload hΓ rfl dJ8_compress_14 ?_
  refine g_iload_n hΓ rfl dJ8_compress_16 ?_
  refine g_icmp_eq (tgt := 57) hΓ (by omega) (by omega) dJ8_compress_17 (by decide) (fun c4 => ?_) (fun c4 => ?_)
  · refine g_aload_n hΓ rfl dJ8_compress_57 ?_
    exact x_aret hΓ (Or.inr ⟨_, rfl⟩) (Or.inr ⟨_, rfl⟩) dJ8_compress_58 (by omega) (by omega) ⟨q1, rfl, ⟨q1z, q1w, S1e, fun p9 j9 h9 => (h3.1 p9 j9 h9).trans (δ1f p9 j9 h9), ρ1f, fun j9 x9 y9 => (h3.2 j9 x9 y9).trans (δ1f a _ hae)⟩, S1f⟩
  · exact absurd c4 (by omega)
set_option maxHeartbeats 4000000 in
theorem x_J8_coderFromArrayLen {l : Launch} {E : gE} {X : State → Prop} {Z : Nat → Nat} {Y : Nat → Option Nat} (hE : E.2.1 = clsX) (hX : xOK l E X Z Y) (S : xS) (D : xD) (R : xR) (b : Nat) (n : Int) (hb : (S b).1 = 31) (hn : (S b).2.1 = n.toNat) (h0 : 0 ≤ n ∧ n ≤ 1600) : xC l E X yJ8_coderFromArrayLen cJ8_coderFromArrayLen 2 (some .byte) 0 0 0 [.ref b, .int (iI n)] S D R (fun rv S' D' R' => rv = some (.int (iI 0)) ∧ S' = S ∧ D' = D ∧ R' = R) := by
  refine xC.ofF hX.1 (by decide +kernel) [some (.ref b), some (.int (iI n))] (Nat.le_of_ble_eq_true rfl) rfl rfl (fun Γ hΓ => ?_)
  refine g_iload_n hΓ rfl dJ8_coderFromArrayLen_0 ?_
  refine g_aload_n hΓ rfl dJ8_coderFromArrayLen_1 ?_
  refine x_alen hΓ hb hn ⟨by decide, by decide⟩ dJ8_coderFromArrayLen_2 ?_
  refine g_isub hΓ dJ8_coderFromArrayLen_3 ?_
  refine g_bipush hΓ (by decide) dJ8_coderFromArrayLen_4 ?_
  refine g_iushr (a := 0) hΓ (ush31 (by omega)) dJ8_coderFromArrayLen_6 ?_
  refine g_i2b (a := 0) hΓ (by decide +kernel) dJ8_coderFromArrayLen_7 ?_
  exact x_nret hΓ nrB_0 dJ8_coderFromArrayLen_8 (Nat.zero_le _) (Nat.zero_le _) ⟨rfl, rfl, rfl, rfl⟩
set_option maxHeartbeats 4000000 in
theorem x_J6_init_2 {l : Launch} {E : gE} {X : State → Prop} {Z : Nat → Nat} {Y : Nat → Option Nat} (hE : E.2.1 = clsX) (hX : xOK l E X Z Y) (S : xS) (D : xD) (R : xR) (q a o : Nat) (i n : Int) (hq : S q = (30, 4, o)) (hw : E.2.2 q) (hg : GI E Z (del S q) D R) (ha : (S a).1 = 50) (hna : (S a).2.1 = 1600) (hi : 0 ≤ i ∧ 1 ≤ n ∧ i + n ≤ 1600) (hv : ∀ j, 0 ≤ j → j < n → 0 ≤ D a (i + j) ∧ D a (i + j) ≤ 127) : xC l E X yJ6_init_2 cJ6_init_2 6 none 6 1 (n.toNat) [.ref q, .ref a, .int (iI i), .int (iI n), .null] S D R (fun rv S' D' R' => rv = none ∧ (GI E Z S' D' R' ∧ ext (del S q) S' D D' R R' ∧ nmK S' D' R' q n (fun j => D a (i + j))) ∧ sle S S') := by
  refine xC.ofF hX.1 (by decide +kernel) [some (.ref q), some (.ref a), some (.int (iI i)), some (.int (iI n)), some (.null), none] (Nat.le_of_ble_eq_true rfl) rfl rfl (fun Γ hΓ => ?_)
  have hq2 : (S q).1 = 30 := by rw [hq]
  have haq : a ≠ q := ne_k ha hq2 (by decide)
  refine g_aload_n hΓ rfl dJ6_init_2_0 ?_
  refine g_objInit hΓ rfl q559 q154 q155 (by decide) (Nat.le_of_ble_eq_true rfl) rfl dJ6_init_2_1 ?_
  refine g_iload_n hΓ rfl dJ6_init_2_4 ?_
  refine g_if_ne (tgt := 27) hΓ (by omega) dJ6_init_2_5 (by decide) (fun c1 => ?_) (fun c1 => ?_)
  · refine g_gets hΓ rfl (xn_s_compact hX) q561 dJ6_init_2_27 ?_
    show gW Γ E (xM E S D R) 0 0 _ _ (.int (iI 1) :: _)
    refine g_if_eq (tgt := 58) hΓ (by omega) dJ6_init_2_30 (by decide) (fun c2 => ?_) (fun c2 => ?_)
    · exact absurd c2 (by decide)
    · refine g_aload_n hΓ rfl dJ6_init_2_33 ?_
      refine g_iload_n hΓ rfl dJ6_init_2_34 ?_
      refine g_iload_n hΓ rfl dJ6_init_2_35 ?_
      refine x_callS (As := [.ref a, .int (iI i), .int (iI n)]) (rest := []) hΓ (x_J8_compress hE hX S D R a i n ha hna hi hv ) rfl q563 q564 q139 q565 ndJ8_compress rfl (by decide) (by decide) (by omega) (by omega) rfl (Nat.le_of_ble_eq_true rfl) dJ6_init_2_36 rfl (fun v3 S3 τ3 ρ3 h3 => ?_)
      obtain ⟨q3, rfl, h3, S3f⟩ := h3
      have kd4 : (S3 q).1 = 30 := kup hq2 (by decide) S3f
      have kd5 : (S3 a).1 = 50 := kup ha (by decide) S3f
      have ln5 : (S3 a).2.1 = 1600 := nup ha (by decide) hna S3f
      have q3z : (S q3).1 = 0 := h3.1
      have q3w : E.2.2 q3 := h3.2.1
      have S3e : S3 = uS S q3 31 (n.toNat) 0 := h3.2.2.1
      have S3q : S3 q3 = (31, n.toNat, 0) := by rw [S3e]; exact uS_s _ _ _ _ _
      have τ3f : ∀ (q9 : Nat) (j9 : Int), q9 ≠ q3 → τ3 q9 j9 = D q9 j9 := h3.2.2.2.1
      have kdq3 : (S3 q3).1 = 31 := by rw [S3q]
      have lnq3 : (S3 q3).2.1 = n.toNat := by rw [S3q]
      have ρ3f : ∀ (q9 : Nat) (j9 : Int), q9 ≠ q3 → ρ3 q9 j9 = R q9 j9 := h3.2.2.2.2.1
      show gW Γ E (xM E S3 τ3 ρ3) _ _ _ _ (.ref q3 :: _)
      refine g_astore hΓ dJ6_init_2_39 rfl (Nat.le_of_ble_eq_true rfl) (lv' := [some (.ref q), some (.ref a), some (.int (iI i)), some (.int (iI n)), some (.null), some (.ref q3)]) rfl ?_
      refine g_aload_n hΓ rfl dJ6_init_2_41 ?_
      refine g_aload hΓ rfl dJ6_init_2_42 ?_
      refine g_iload_n hΓ rfl dJ6_init_2_44 ?_
      refine x_callS (As := [.ref q3, .int (iI n)]) (rest := [.ref q]) hΓ (x_J8_coderFromArrayLen hE hX S3 τ3 ρ3 q3 n kdq3 lnq3 (by omega) ) rfl q601 q602 q139 q603 ndJ8_coderFromArrayLen rfl (by decide) (by decide) (by omega) (by omega) rfl (Nat.le_of_ble_eq_true rfl) dJ6_init_2_45 rfl (fun v6 S6 τ6 ρ6 h6 => ?_)
      obtain ⟨rfl, S6e, τ6e, ρ6e⟩ := h6
      have S6e := S6e.symm; subst S6e
      have τ6e := τ6e.symm; subst τ6e
      have ρ6e := ρ6e.symm; subst ρ6e
      show gW Γ E (xM E S3 τ3 ρ3) _ _ _ _ (.int (iI 0) :: _)
      refine x_putFi (c := 11) hE hΓ in_J6 rfl kd4 ⟨by decide, rfl⟩ tyJ6 tyJ6_ok nmJ6 hw 1 (ji := 1) rfl (by decide) (by decide) rfl q606 rfl rfl rfl rfl rfl rfl rfl rfl dJ6_init_2_48 (fun τ7 τ7e => ?_)
      have τ7r : τ7 q 1 = 0 := by rw [τ7e]; exact us_s _ _ _ _
      have τ7f : ∀ (q9 : Nat) (j9 : Int), (q9 ≠ q ∨ j9 ≠ 1) → τ7 q9 j9 = τ3 q9 j9 := fun q9 j9 hh => by rw [τ7e]; exact us_n hh
      refine g_aload_n hΓ rfl dJ6_init_2_51 ?_
      refine g_aload hΓ rfl dJ6_init_2_52 ?_
      refine x_putFa (c := 11) hE hΓ in_J6 rfl kd4 ⟨by decide, rfl⟩ tyJ6 tyJ6_ok nmJ6 hw 0 (ji := 0) rfl (by decide) (by decide) rfl q605 rfl rfl rfl rfl rfl rfl (some q3) rfl (by first | rfl | (rcases va_rf_or none with h9 | ⟨q9, h9⟩ <;> rw [h9] <;> rfl)) (by first | rfl | (rcases va_rf_or none with h9 | ⟨q9, h9⟩ <;> rw [h9] <;> rfl)) dJ6_init_2_54 (fun ρ8 ρ8e => ?_)
      have ρ8r : ρ8 q 0 = some q3 := by rw [ρ8e]; exact ur_s _ _ _ _
      have ρ8f : ∀ (q9 : Nat) (j9 : Int), (q9 ≠ q ∨ j9 ≠ 0) → ρ8 q9 j9 = ρ3 q9 j9 := fun q9 j9 hh => by rw [ρ8e]; exact ur_n hh
      have z1 : (S q3).1 = 0 := q3z
      have hbq : q3 ≠ q := fun e9 => by rw [e9, hq2] at z1; exact absurd z1 (by decide)
      have hsl : sle S S3 := S3f
      exact x_vret hΓ dJ6_init_2_57 (by omega) (by omega) ⟨rfl, (by
        have h9 := tx_mk (S' := S3) (D' := τ7) (R' := ρ8) (n := n.toNat) (f := fun j => D a (i + j)) hg (q := q) (b := q3) (by rw [del_s]) (del_z z1) ⟨hw, q3w⟩ (del_sle hsl) (fun p9 h9 n0 n1 => by rw [S3e, uS_n n1]; rw [del_n n0] at h9; exact h9) (by rw [hsl q (by rw [hq2]; decide)]; exact hq2) ⟨kdq3, lnq3⟩ (by omega) (fun p9 h9 => funext fun j9 => ((τ7f p9 j9 (Or.inl (del_old h9).1)).trans (τ3f p9 j9 (fun e9 => (del_old h9).2 (by rw [e9]; exact z1))))) (fun p9 h9 => funext fun j9 => ((ρ8f p9 j9 (Or.inl (del_old h9).1)).trans (ρ3f p9 j9 (fun e9 => (del_old h9).2 (by rw [e9]; exact z1))))) (ρ8r) (τ7r) (fun j9 x9 y9 => ⟨(τ7f _ _ (Or.inl hbq)).trans (h3.2.2.2.2.2 j9 x9 (by omega)), hv j9 x9 (by omega)⟩)
        rw [show ((n.toNat : Nat) : Int) = n by omega] at h9
        exact h9), S3f⟩
  · exact absurd c1 (by omega)
set_option maxHeartbeats 4000000 in
theorem x_J6_init {l : Launch} {E : gE} {X : State → Prop} {Z : Nat → Nat} {Y : Nat → Option Nat} (hE : E.2.1 = clsX) (hX : xOK l E X Z Y) (S : xS) (D : xD) (R : xR) (q a o : Nat) (i n : Int) (hq : S q = (30, 4, o)) (hw : E.2.2 q) (hg : GI E Z (del S q) D R) (ha : (S a).1 = 50) (hna : (S a).2.1 = 1600) (hi : 0 ≤ i ∧ 1 ≤ n ∧ i + n ≤ 1600) (hv : ∀ j, 0 ≤ j → j < n → 0 ≤ D a (i + j) ∧ D a (i + j) ≤ 127) : xC l E X yJ6_init cJ6_init 4 none 7 1 (n.toNat) [.ref q, .ref a, .int (iI i), .int (iI n)] S D R (fun rv S' D' R' => rv = none ∧ (GI E Z S' D' R' ∧ ext (del S q) S' D D' R R' ∧ nmK S' D' R' q n (fun j => D a (i + j))) ∧ sle S S') := by
  refine xC.ofF hX.1 (by decide +kernel) [some (.ref q), some (.ref a), some (.int (iI i)), some (.int (iI n))] (Nat.le_of_ble_eq_true rfl) rfl rfl (fun Γ hΓ => ?_)
  have hq2 : (S q).1 = 30 := by rw [hq]
  refine g_aload_n hΓ rfl dJ6_init_0 ?_
  refine g_aload_n hΓ rfl dJ6_init_1 ?_
  refine g_iload_n hΓ rfl dJ6_init_2 ?_
  refine g_iload_n hΓ rfl dJ6_init_3 ?_
  refine g_aload_n hΓ rfl dJ6_init_4 ?_
  refine g_iload_n hΓ rfl dJ6_init_5 ?_
  refine g_iload_n hΓ rfl dJ6_init_6 ?_
  refine x_callS (As := [.ref a, .int (iI i), .int (iI n)]) (rest := [.int (iI n), .int (iI i), .ref a, .ref q]) hΓ (x_J6_rangeCheck hE hX S D R a i n (by first | assumption | omega) (by first | assumption | omega) (by first | assumption | omega)) rfl q545 q546 q137 q547 ndJ6_rangeCheck rfl (by decide) (by decide) (Nat.zero_le _) (Nat.zero_le _) rfl (Nat.le_of_ble_eq_true rfl) dJ6_init_7 rfl (fun v1 S1 τ1 ρ1 h1 => ?_)
  obtain ⟨rfl, S1e, τ1e, ρ1e⟩ := h1
  have S1e := S1e.symm; subst S1e
  have τ1e := τ1e.symm; subst τ1e
  have ρ1e := ρ1e.symm; subst ρ1e
  show gW Γ E (xM E S D R) _ _ _ _ (.null :: _)
  refine x_callI (As := [.ref a, .int (iI i), .int (iI n), .null]) (rest := []) hΓ (x_J6_init_2 hE hX S D R q a o i n hq hw hg ha hna hi hv ) rfl q556 q557 q137 q558 ndJ6_init_2 rfl rfl (by decide) (by decide) (by omega) (by omega) rfl (Nat.le_of_ble_eq_true rfl) dJ6_init_10 rfl (fun v2 S2 τ2 ρ2 h2 => ?_)
  obtain ⟨rfl, h2, S2f⟩ := h2
  have kd3 : (S2 q).1 = 30 := kup hq2 (by decide) S2f
  have kd4 : (S2 a).1 = 50 := kup ha (by decide) S2f
  have ln4 : (S2 a).2.1 = 1600 := nup ha (by decide) hna S2f
  exact x_vret hΓ dJ6_init_13 (by omega) (by omega) ⟨rfl, h2, S2f⟩
