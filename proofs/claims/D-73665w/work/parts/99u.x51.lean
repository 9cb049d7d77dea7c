set_option maxRecDepth 100000
set_option maxHeartbeats 4000000 in
theorem x_J6_coder {l : Launch} {E : gE} {X : State → Prop} {Z : Nat → Nat} {Y : Nat → Option Nat} (hE : E.2.1 = clsX) (hX : xOK l E X Z Y) (S : xS) (D : xD) (R : xR) (q : Nat) (hq : (S q).1 = 30) (hg : GI E Z S D R) : xC l E X yJ6_coder cJ6_coder 1 (some .byte) 0 0 0 [.ref q] S D R (fun rv S' D' R' => rv = some (.int (iI 0)) ∧ S' = S ∧ D' = D ∧ R' = R) := by
  refine xC.ofF hX.1 (by decide +kernel) [some (.ref q)] (Nat.le_of_ble_eq_true rfl) rfl rfl (fun Γ hΓ => ?_)
  have hT1 := (hg).2.2.2.2.2.1 q hq
  refine g_gets hΓ rfl (xn_s_compact hX) q561 dJ6_coder_0 ?_
  show gW Γ E (xM E S D R) 0 0 _ _ (.int (iI 1) :: _)
  refine g_if_eq (tgt := 13) hΓ (by omega) dJ6_coder_3 (by decide) (fun c2 => ?_) (fun c2 => ?_)
  · exact absurd c2 (by decide)
  · refine g_aload_n hΓ rfl dJ6_coder_6 ?_
    refine x_geti (c := 11) hE hΓ in_J6 rfl hq ⟨by decide, rfl⟩ 1 (ji := 1) rfl (by decide) (by decide) rfl q606 rfl rfl dJ6_coder_7 ?_
    refine g_topi (hT1.2.2.2.1) ?_
    refine g_goto (tgt := 14) hΓ dJ6_coder_10 (by decide) ?_
    exact x_nret hΓ nrB_0 dJ6_coder_14 (Nat.zero_le _) (Nat.zero_le _) ⟨ri (by first | rfl | omega | (simp_all; done) | (simp_all; omega)), rfl, rfl, rfl⟩
set_option maxHeartbeats 4000000 in
theorem x_J6_isLatin1 {l : Launch} {E : gE} {X : State → Prop} {Z : Nat → Nat} {Y : Nat → Option Nat} (hE : E.2.1 = clsX) (hX : xOK l E X Z Y) (S : xS) (D : xD) (R : xR) (q : Nat) (hq : (S q).1 = 30) (hg : GI E Z S D R) : xC l E X yJ6_isLatin1 cJ6_isLatin1 1 (some .boolean) 0 0 0 [.ref q] S D R (fun rv S' D' R' => rv = some (.int (iI 1)) ∧ S' = S ∧ D' = D ∧ R' = R) := by
  refine xC.ofF hX.1 (by decide +kernel) [some (.ref q)] (Nat.le_of_ble_eq_true rfl) rfl rfl (fun Γ hΓ => ?_)
  have hT1 := (hg).2.2.2.2.2.1 q hq
  refine g_gets hΓ rfl (xn_s_compact hX) q561 dJ6_isLatin1_0 ?_
  show gW Γ E (xM E S D R) 0 0 _ _ (.int (iI 1) :: _)
  refine g_if_eq (tgt := 17) hΓ (by omega) dJ6_isLatin1_3 (by decide) (fun c2 => ?_) (fun c2 => ?_)
  · exact absurd c2 (by decide)
  · refine g_aload_n hΓ rfl dJ6_isLatin1_6 ?_
    refine x_geti (c := 11) hE hΓ in_J6 rfl hq ⟨by decide, rfl⟩ 1 (ji := 1) rfl (by decide) (by decide) rfl q606 rfl rfl dJ6_isLatin1_7 ?_
    refine g_topi (hT1.2.2.2.1) ?_
    refine g_if_ne (tgt := 17) hΓ (by omega) dJ6_isLatin1_10 (by decide) (fun c3 => ?_) (fun c3 => ?_)
    · exact absurd c3 (by decide)
    · refine g_iconst hΓ dJ6_isLatin1_13 ?_
      refine g_goto (tgt := 18) hΓ dJ6_isLatin1_14 (by decide) ?_
      exact x_zret hΓ (by omega) dJ6_isLatin1_18 (Nat.zero_le _) (Nat.zero_le _) ⟨ri (by first | rfl | omega | (simp_all; done) | (simp_all; omega)), rfl, rfl, rfl⟩
set_option maxHeartbeats 4000000 in
theorem x_J6_length {l : Launch} {E : gE} {X : State → Prop} {Z : Nat → Nat} {Y : Nat → Option Nat} (hE : E.2.1 = clsX) (hX : xOK l E X Z Y) (S : xS) (D : xD) (R : xR) (q : Nat) (hq : (S q).1 = 30) (hg : GI E Z S D R) : xC l E X yJ6_length cJ6_length 1 (some .int) 1 0 0 [.ref q] S D R (fun rv S' D' R' => rv = some (.int (iI (txN S R q))) ∧ S' = S ∧ D' = D ∧ R' = R) := by
  refine xC.ofF hX.1 (by decide +kernel) [some (.ref q)] (Nat.le_of_ble_eq_true rfl) rfl rfl (fun Γ hΓ => ?_)
  have hT1 := (hg).2.2.2.2.2.1 q hq
  refine g_aload_n hΓ rfl dJ6_length_0 ?_
  refine x_geta (r := some (rf R q 0)) (c := 11) hE hΓ in_J6 rfl hq ⟨by decide, rfl⟩ 0 (ji := 0) rfl (by decide) (by decide) rfl q605 rfl rfl hT1.1 dJ6_length_1 ?_
  show gW Γ E (xM E S D R) 0 0 _ _ (.ref (rf R q 0) :: _)
  refine x_alen hΓ hT1.2.1 rfl ⟨by decide, by decide⟩ dJ6_length_4 ?_
  refine g_aload_n hΓ rfl dJ6_length_5 ?_
  refine x_callV (As := []) (rest := [.int (iI (((S (rf R q 0)).2.1 : Nat) : Int))]) (c := 11) hE hΓ (x_J6_coder hE hX S D R q hq hg ) hq ⟨by decide, rfl⟩ rfl rfl q629 q630 q631 q137 q632 ndJ6_coder rfl (by decide) (by decide) (Nat.zero_le _) (Nat.zero_le _) rfl (Nat.le_of_ble_eq_true rfl) dJ6_length_6 rfl (fun v2 S2 τ2 ρ2 h2 => ?_)
  obtain ⟨rfl, S2e, τ2e, ρ2e⟩ := h2
  have S2e := S2e.symm; subst S2e
  have τ2e := τ2e.symm; subst τ2e
  have ρ2e := ρ2e.symm; subst ρ2e
  show gW Γ E (xM E S D R) _ _ _ _ (.int (iI 0) :: _)
  refine g_ishr (a := (((S (rf R q 0)).2.1 : Nat) : Int)) hΓ (shr_0 _) dJ6_length_9 ?_
  exact x_iret hΓ dJ6_length_10 (Nat.zero_le _) (Nat.zero_le _) ⟨rfl, rfl, rfl, rfl⟩
set_option maxHeartbeats 4000000 in
theorem x_J6_isEmpty {l : Launch} {E : gE} {X : State → Prop} {Z : Nat → Nat} {Y : Nat → Option Nat} (hE : E.2.1 = clsX) (hX : xOK l E X Z Y) (S : xS) (D : xD) (R : xR) (q : Nat) (hq : (S q).1 = 30) (hg : GI E Z S D R) : xC l E X yJ6_isEmpty cJ6_isEmpty 1 (some .boolean) 0 0 0 [.ref q] S D R (fun rv S' D' R' => rv = some (.int (iI (if txN S R q = 0 then 1 else 0))) ∧ S' = S ∧ D' = D ∧ R' = R) := by
  refine xC.ofF hX.1 (by decide +kernel) [some (.ref q)] (Nat.le_of_ble_eq_true rfl) rfl rfl (fun Γ hΓ => ?_)
  have hT1 := (hg).2.2.2.2.2.1 q hq
  have hln : txN S R q = ((S (rf R q 0)).2.1 : Int) := rfl
  have hle := hT1.2.2.1
  refine g_aload_n hΓ rfl dJ6_isEmpty_0 ?_
  refine x_geta (r := some (rf R q 0)) (c := 11) hE hΓ in_J6 rfl hq ⟨by decide, rfl⟩ 0 (ji := 0) rfl (by decide) (by decide) rfl q605 rfl rfl hT1.1 dJ6_isEmpty_1 ?_
  show gW Γ E (xM E S D R) 0 0 _ _ (.ref (rf R q 0) :: _)
  refine x_alen hΓ hT1.2.1 rfl ⟨by decide, by decide⟩ dJ6_isEmpty_4 ?_
  refine g_if_ne (tgt := 12) hΓ (by omega) dJ6_isEmpty_5 (by decide) (fun c2 => ?_) (fun c2 => ?_)
  · refine g_iconst hΓ dJ6_isEmpty_12 ?_
    exact x_zret hΓ (by omega) dJ6_isEmpty_13 (Nat.zero_le _) (Nat.zero_le _) ⟨ri (by first | (rw [if_pos (by omega)]; done) | (rw [if_neg (by omega)])), rfl, rfl, rfl⟩
  · refine g_iconst hΓ dJ6_isEmpty_8 ?_
    refine g_goto (tgt := 13) hΓ dJ6_isEmpty_9 (by decide) ?_
    exact x_zret hΓ (by omega) dJ6_isEmpty_13 (Nat.zero_le _) (Nat.zero_le _) ⟨ri (by first | (rw [if_pos (by omega)]; done) | (rw [if_neg (by omega)])), rfl, rfl, rfl⟩
set_option maxHeartbeats 4000000 in
theorem x_J7_checkIndexR {l : Launch} {E : gE} {X : State → Prop} {Z : Nat → Nat} {Y : Nat → Option Nat} (hE : E.2.1 = clsX) (hX : xOK l E X Z Y) (S : xS) (D : xD) (R : xR) (i n : Int) (f : Nat) (h : 0 ≤ i ∧ i < n ∧ n < 2147483648) : xC l E X yJ7_checkIndex cJ7_checkIndex 3 (some .int) 1 0 0 [.int (iI i), .int (iI n), .ref f] S D R (fun rv S' D' R' => rv = some (.int (iI i)) ∧ S' = S ∧ D' = D ∧ R' = R) := by
  refine xC.ofF hX.1 (by decide +kernel) [some (.int (iI i)), some (.int (iI n)), some (.ref f)] (Nat.le_of_ble_eq_true rfl) rfl rfl (fun Γ hΓ => ?_)
  refine g_iload_n hΓ rfl dJ7_checkIndex_0 ?_
  refine g_if_lt (tgt := 9) hΓ (by omega) dJ7_checkIndex_1 (by decide) (fun c1 => ?_) (fun c1 => ?_)
  · exact absurd c1 (by omega)
  · refine g_iload_n hΓ rfl dJ7_checkIndex_4 ?_
    refine g_iload_n hΓ rfl dJ7_checkIndex_5 ?_
    refine g_icmp_lt (tgt := 16) hΓ (by omega) (by omega) dJ7_checkIndex_6 (by decide) (fun c2 => ?_) (fun c2 => ?_)
    · refine g_iload_n hΓ rfl dJ7_checkIndex_16 ?_
      exact x_iret hΓ dJ7_checkIndex_17 (Nat.zero_le _) (Nat.zero_le _) ⟨ri (by first | rfl | omega | (simp_all; done) | (simp_all; omega)), rfl, rfl, rfl⟩
    · exact absurd c2 (by omega)
set_option maxHeartbeats 4000000 in
theorem x_J6_checkIndex {l : Launch} {E : gE} {X : State → Prop} {Z : Nat → Nat} {Y : Nat → Option Nat} (hE : E.2.1 = clsX) (hX : xOK l E X Z Y) (S : xS) (D : xD) (R : xR) (i n : Int) (h : 0 ≤ i ∧ i < n ∧ n < 2147483648) : xC l E X yJ6_checkIndex cJ6_checkIndex 2 none 2 0 0 [.int (iI i), .int (iI n)] S D R (fun rv S' D' R' => rv = none ∧ S' = S ∧ D' = D ∧ R' = R) := by
  refine xC.ofF hX.1 (by decide +kernel) [some (.int (iI i)), some (.int (iI n))] (Nat.le_of_ble_eq_true rfl) rfl rfl (fun Γ hΓ => ?_)
  refine g_iload_n hΓ rfl dJ6_checkIndex_0 ?_
  refine g_iload_n hΓ rfl dJ6_checkIndex_1 ?_
  refine g_gets hΓ rfl (xn_s_fmt hX) q551 dJ6_checkIndex_2 ?_
  show gW Γ E (xM E S D R) 0 0 _ _ (va_rf (Y 0) :: _)
  rcases va_rf_or (Y 0) with h9 | ⟨f9, h9⟩
  · rw [h9]
    refine x_callS (As := [.int (iI i), .int (iI n), .null]) (rest := []) hΓ (x_J7_checkIndex hE hX S D R i n (by first | assumption | omega)) rfl q887 q865 q138 q866 ndJ7_checkIndex rfl (by decide) (by decide) (Nat.zero_le _) (Nat.zero_le _) rfl (Nat.le_of_ble_eq_true rfl) dJ6_checkIndex_5 rfl (fun v1 S1 τ1 ρ1 h1 => ?_)
    obtain ⟨rfl, S1e, τ1e, ρ1e⟩ := h1
    have S1e := S1e.symm; subst S1e
    have τ1e := τ1e.symm; subst τ1e
    have ρ1e := ρ1e.symm; subst ρ1e
    show gW Γ E (xM E S D R) _ _ _ _ (.int (iI i) :: _)
    refine g_pop hΓ rfl dJ6_checkIndex_8 ?_
    exact x_vret hΓ dJ6_checkIndex_9 (Nat.zero_le _) (Nat.zero_le _) ⟨rfl, rfl, rfl, rfl⟩
  · rw [h9]
    refine x_callS (As := [.int (iI i), .int (iI n), .ref f9]) (rest := []) hΓ (x_J7_checkIndexR hE hX S D R i n f9 (by first | assumption | omega)) rfl q887 q865 q138 q866 ndJ7_checkIndex rfl (by decide) (by decide) (Nat.zero_le _) (Nat.zero_le _) rfl (Nat.le_of_ble_eq_true rfl) dJ6_checkIndex_5 rfl (fun v2 S2 τ2 ρ2 h2 => ?_)
    obtain ⟨rfl, S2e, τ2e, ρ2e⟩ := h2
    have S2e := S2e.symm; subst S2e
    have τ2e := τ2e.symm; subst τ2e
    have ρ2e := ρ2e.symm; subst ρ2e
    show gW Γ E (xM E S D R) _ _ _ _ (.int (iI i) :: _)
    refine g_pop hΓ rfl dJ6_checkIndex_8 ?_
    exact x_vret hΓ dJ6_checkIndex_9 (Nat.zero_le _) (Nat.zero_le _) ⟨rfl, rfl, rfl, rfl⟩
set_option maxHeartbeats 4000000 in
theorem x_J9_charAt {l : Launch} {E : gE} {X : State → Prop} {Z : Nat → Nat} {Y : Nat → Option Nat} (hE : E.2.1 = clsX) (hX : xOK l E X Z Y) (S : xS) (D : xD) (R : xR) (b n : Nat) (i : Int) (hb : (S b).1 = 31) (hn : (S b).2.1 = n) (hi : 0 ≤ i ∧ i < n ∧ n ≤ 1600) (hv : 0 ≤ D b i ∧ D b i ≤ 127) : xC l E X yJ9_charAt cJ9_charAt 2 (some .char) 3 0 0 [.ref b, .int (iI i)] S D R (fun rv S' D' R' => rv = some (.int (iI (D b i))) ∧ S' = S ∧ D' = D ∧ R' = R) := by
  refine xC.ofF hX.1 (by decide +kernel) [some (.ref b), some (.int (iI i))] (Nat.le_of_ble_eq_true rfl) rfl rfl (fun Γ hΓ => ?_)
  refine g_iload_n hΓ rfl dJ9_charAt_0 ?_
  refine g_aload_n hΓ rfl dJ9_charAt_1 ?_
  refine x_alen hΓ hb hn ⟨by decide, by decide⟩ dJ9_charAt_2 ?_
  refine x_callS (As := [.int (iI i), .int (iI ((n : Nat) : Int))]) (rest := []) hΓ (x_J6_checkIndex hE hX S D R i ((n : Nat) : Int) (by first | assumption | omega)) rfl q884 q885 q137 q886 ndJ6_checkIndex rfl (by decide) (by decide) (Nat.zero_le _) (Nat.zero_le _) rfl (Nat.le_of_ble_eq_true rfl) dJ9_charAt_3 rfl (fun v1 S1 τ1 ρ1 h1 => ?_)
  obtain ⟨rfl, S1e, τ1e, ρ1e⟩ := h1
  have S1e := S1e.symm; subst S1e
  have τ1e := τ1e.symm; subst τ1e
  have ρ1e := ρ1e.symm; subst ρ1e
  refine g_aload_n hΓ rfl dJ9_charAt_6 ?_
  refine g_iload_n hΓ rfl dJ9_charAt_7 ?_
  refine x_bald hΓ hb hn ⟨by decide, rfl⟩ (by omega) (by omega) dJ9_charAt_8 ?_
  refine g_sipush hΓ (by decide) dJ9_charAt_9 ?_
  refine g_iand (a := D b i) hΓ (an255 (by omega)) dJ9_charAt_12 ?_
  refine g_i2c (a := D b i) hΓ (i2c_r (by omega)) dJ9_charAt_13 ?_
  exact x_nret hΓ (nrC (by omega)) dJ9_charAt_14 (Nat.zero_le _) (Nat.zero_le _) ⟨rfl, rfl, rfl, rfl⟩
set_option maxHeartbeats 4000000 in
theorem x_J6_charAt {l : Launch} {E : gE} {X : State → Prop} {Z : Nat → Nat} {Y : Nat → Option Nat} (hE : E.2.1 = clsX) (hX : xOK l E X Z Y) (S : xS) (D : xD) (R : xR) (q : Nat) (i : Int) (hq : (S q).1 = 30) (hg : GI E Z S D R) (hi : 0 ≤ i ∧ i < txN S R q) : xC l E X yJ6_charAt cJ6_charAt 2 (some .char) 5 0 0 [.ref q, .int (iI i)] S D R (fun rv S' D' R' => rv = some (.int (iI (D (rf R q 0) i))) ∧ S' = S ∧ D' = D ∧ R' = R) := by
  refine xC.ofF hX.1 (by decide +kernel) [some (.ref q), some (.int (iI i))] (Nat.le_of_ble_eq_true rfl) rfl rfl (fun Γ hΓ => ?_)
  have hT1 := (hg).2.2.2.2.2.1 q hq
  have hln : txN S R q = ((S (rf R q 0)).2.1 : Int) := rfl
  have hle := hT1.2.2.1
  have hv := tx_b hT1 hi.1 hi.2
  refine g_aload_n hΓ rfl dJ6_charAt_0 ?_
  refine x_callV (As := []) (rest := []) (c := 11) hE hΓ (x_J6_isLatin1 hE hX S D R q hq hg ) hq ⟨by decide, rfl⟩ rfl rfl q877 q878 q879 q137 q880 ndJ6_isLatin1 rfl (by decide) (by decide) (Nat.zero_le _) (Nat.zero_le _) rfl (Nat.le_of_ble_eq_true rfl) dJ6_charAt_1 rfl (fun v2 S2 τ2 ρ2 h2 => ?_)
  obtain ⟨rfl, S2e, τ2e, ρ2e⟩ := h2
  have S2e := S2e.symm; subst S2e
  have τ2e := τ2e.symm; subst τ2e
  have ρ2e := ρ2e.symm; subst ρ2e
  show gW Γ E (xM E S D R) _ _ _ _ (.int (iI 1) :: _)
  refine g_if_eq (tgt := 16) hΓ (by omega) dJ6_charAt_4 (by decide) (fun c3 => ?_) (fun c3 => ?_)
  · exact absurd c3 (by decide)
  · refine g_aload_n hΓ rfl dJ6_charAt_7 ?_
    refine x_geta (r := some (rf R q 0)) (c := 11) hE hΓ in_J6 rfl hq ⟨by decide, rfl⟩ 0 (ji := 0) rfl (by decide) (by decide) rfl q605 rfl rfl hT1.1 dJ6_charAt_8 ?_
    show gW Γ E (xM E S D R) 0 0 _ _ (.ref (rf R q 0) :: _)
    refine g_iload_n hΓ rfl dJ6_charAt_11 ?_
    refine x_callS (As := [.ref (rf R q 0), .int (iI i)]) (rest := []) hΓ (x_J9_charAt hE hX S D R (rf R q 0) _ i hT1.2.1 rfl (by omega) hv ) rfl q881 q882 q140 q883 ndJ9_charAt rfl (by decide) (by decide) (Nat.zero_le _) (Nat.zero_le _) rfl (Nat.le_of_ble_eq_true rfl) dJ6_charAt_12 rfl (fun v4 S4 τ4 ρ4 h4 => ?_)
    obtain ⟨rfl, S4e, τ4e, ρ4e⟩ := h4
    have S4e := S4e.symm; subst S4e
    have τ4e := τ4e.symm; subst τ4e
    have ρ4e := ρ4e.symm; subst ρ4e
    show gW Γ E (xM E S D R) _ _ _ _ (.int (iI (D (rf R q 0) i)) :: _)
    exact x_nret hΓ (nrC (by omega)) dJ6_charAt_15 (Nat.zero_le _) (Nat.zero_le _) ⟨rfl, rfl, rfl, rfl⟩
set_option maxHeartbeats 4000000 in
theorem x_X0_named {l : Launch} {E : gE} {X : State → Prop} {Z : Nat → Nat} {Y : Nat → Option Nat} (hE : E.2.1 = clsX) (hX : xOK l E X Z Y) (S : xS) (D : xD) (R : xR) (P : xPk) (σ : mS) (m k : Int) (hx : Rx E Z S D R P σ) (hm : r32 m) (hk : r32 k) : xC l E X yX0_named cX0_named 4 (some .int) 6 0 0 [.ref (P.1), .int (iI m), .int (iI k)] S D R (fun rv S' D' R' => rv = some (.int (iI (if (0 ≤ m ∧ m < σ 0 1000) ∧ 0 ≤ k ∧ k ≤ 3 then σ 0 (1010 + 4 * m + k) else -1))) ∧ S' = S ∧ D' = D ∧ R' = R) := by
  refine xC.of hX.1 (by decide) [some (.ref (P.1)), some (.int (iI m)), some (.int (iI k)), none] (Nat.le_of_ble_eq_true rfl) rfl rfl (fun Γ hΓ => ?_)
  obtain ⟨hg, hp, hki, hro, hnw, hbh, hsa, hpd⟩ := id hx
  obtain ⟨N, NI, NM, NV, hN⟩ := (hx).now
  have hAw := hg.2.2.2.2.2.2
  have hG : GS S D R := hg.1
  obtain ⟨h1000, h1009, h1042, h1043, h1044, h1045, h1046, h1047, hms, hsi, hsm, hnm⟩ := id hro
  have eN := hN.2.2.2.2.2.2.2.2.2.2.2.2
  have kNV : (S NV).1 = 45 := by rw [hN.2.2.2.1.2]
  have nNV : (S NV).2.1 = 6 := by rw [hN.2.2.2.1.2]
  refine g_aload_n hΓ rfl dX0_named_0 ?_
  refine g_iload_n hΓ rfl dX0_named_1 ?_
  refine x_callV (As := [.int (iI m)]) (rest := []) (c := 0) hE hΓ (x_X0_isModel hE hX S D R P σ m hx (by first | assumption | omega) ) hp.1 ⟨by decide, rfl⟩ rfl rfl q852 q854 qs22 q123 q855 ndX0_isModel rfl (by decide) (by decide) (Nat.zero_le _) (Nat.zero_le _) rfl (Nat.le_of_ble_eq_true rfl) dX0_named_2 rfl (fun v1 S1 τ1 ρ1 h1 => ?_)
  obtain ⟨rfl, S1e, τ1e, ρ1e⟩ := h1
  have S1e := S1e.symm; subst S1e
  have τ1e := τ1e.symm; subst τ1e
  have ρ1e := ρ1e.symm; subst ρ1e
  show gW Γ E (xM E S D R) _ _ _ _ (.int (iI (if 0 ≤ m ∧ m < σ 0 1000 then 1 else 0)) :: _)
  refine g_ifB_eq (tgt := 20) hΓ  dX0_named_5 (by decide) (fun c2 => ?_) (fun c2 => ?_)
  · refine g_iconst hΓ dX0_named_20 ?_
    exact x_iret hΓ dX0_named_21 (Nat.zero_le _) (Nat.zero_le _) ⟨ri (by first | (rw [if_neg (by omega)]; done) | (rw [if_pos (by omega), hk9, if_pos (by omega)]; omega) | (rw [if_pos (by omega), hk9, if_neg (by omega)])), rfl, rfl, rfl⟩
  · refine g_iload_n hΓ rfl dX0_named_8 ?_
    refine g_i2l hΓ (by omega) dX0_named_9 ?_
    refine g_lconst (a := 0) hΓ rfl dX0_named_10 ?_
    refine g_ldc2 (n := 3) hΓ rfl q856 (by decide) dX0_named_11 ?_
    refine x_callS (As := [.long (lI k), .long (lI 0), .long (lI 3)]) (rest := []) hΓ (x_X0_isIn hE hX S D R k 0 3 (by first | assumption | omega) (by first | assumption | omega) (by first | assumption | omega)) rfl q387 q388 q123 q389 ndX0_isIn rfl (by decide) (by decide) (Nat.zero_le _) (Nat.zero_le _) rfl (Nat.le_of_ble_eq_true rfl) dX0_named_14 rfl (fun v3 S3 τ3 ρ3 h3 => ?_)
    obtain ⟨rfl, S3e, τ3e, ρ3e⟩ := h3
    have S3e := S3e.symm; subst S3e
    have τ3e := τ3e.symm; subst τ3e
    have ρ3e := ρ3e.symm; subst ρ3e
    show gW Γ E (xM E S D R) _ _ _ _ (.int (iI (if 0 ≤ k ∧ k ≤ 3 then 1 else 0)) :: _)
    refine g_ifB_ne (tgt := 22) hΓ  dX0_named_17 (by decide) (fun c4 => ?_) (fun c4 => ?_)
    · obtain ⟨b5, kb5, hbr5, hbe5, hbk5, hbq5, hbc5⟩ := lsOK_b (hg.2.1 NM (by rw [hN.2.1.2]; decide) (by rw [hN.2.1.2]; decide)) (by rw [hN.2.1.2]; decide)
      have he6 := lsOK_e (hg.2.1 NM (by rw [hN.2.1.2]; decide) (by rw [hN.2.1.2]; decide)) hbe5 (i := m) (by have := hN.2.2.2.2.2.1; omega)
      have hk6 : (S (lE R NM m)).1 = 7 := by rw [he6.2, hN.2.1.2]; rfl
      have hl7 := hg.2.2.2.1 (lE R NM m) hk6
      have hnm9 := (hnw.2.2.2.2.2.2 m (by omega) (by omega)).2.2.2
      rw [← eN.1, ← eN.2.1] at hnm9
      have hln : txN S R (rf R (lE R NM m) 0) = ((S (rf R (rf R (lE R NM m) 0) 0)).2.1 : Int) := rfl
      have hk9 := hnm9.2 k (by omega) (by omega)
      simp only at hk9
      have hl4 := hnm9.1
      have hT8 := (hg).2.2.2.2.2.1 (rf R (lE R NM m) 0) hl7.2.1
      refine g_aload_n hΓ rfl dX0_named_22 ?_
      refine x_geta (r := some N) (c := 0) hE hΓ in_X0 rfl hp.1 ⟨by decide, rfl⟩ 4 (ji := 4) rfl (by decide) (by decide) rfl q250 rfl rfl hN.1.1 dX0_named_23 ?_
      show gW Γ E (xM E S D R) 0 0 _ _ (.ref N :: _)
      refine x_geta (r := some NM) (c := 1) hE hΓ in_X1 rfl hN.1.2 ⟨by decide, rfl⟩ 0 (ji := 0) rfl (by decide) (by decide) rfl q197 rfl rfl hN.2.1.1 dX0_named_26 ?_
      show gW Γ E (xM E S D R) 0 0 _ _ (.ref NM :: _)
      refine g_iload_n hΓ rfl dX0_named_29 ?_
      have hz10 : D NM 2 = σ 0 1000 := hN.2.2.2.2.2.1
      refine x_callV (As := [.int (iI m)]) (rest := []) (c := 10) hE hΓ (x_J2_get hE hX S D R NM b5 (lE R NM m) 11 kb5 ((S b5).2.1) m hN.2.1.2 (by decide) hbr5 hbk5 hbq5 rfl (by omega) (by omega) he6.1 ) hN.2.1.2 ⟨by decide, rfl⟩ rfl rfl q857 q858 q859 q127 q860 ndJ2_get rfl (by decide) (by decide) (Nat.zero_le _) (Nat.zero_le _) rfl (Nat.le_of_ble_eq_true rfl) dX0_named_30 rfl (fun v9 S9 τ9 ρ9 h9 => ?_)
      obtain ⟨rfl, S9e, τ9e, ρ9e⟩ := h9
      have S9e := S9e.symm; subst S9e
      have τ9e := τ9e.symm; subst τ9e
      have ρ9e := ρ9e.symm; subst ρ9e
      show gW Γ E (xM E S D R) _ _ _ _ (.ref (lE R NM m) :: _)
      refine x_castS (c := 7) hE hΓ rfl q871 hk6 ⟨by decide, rfl⟩ rfl dX0_named_33 ?_
      refine x_geta (r := some (rf R (lE R NM m) 0)) (c := 7) hE hΓ in_X7 rfl hk6 ⟨by decide, rfl⟩ 0 (ji := 0) rfl (by decide) (by decide) rfl q766 rfl rfl hl7.1 dX0_named_36 ?_
      show gW Γ E (xM E S D R) 0 0 _ _ (.ref (rf R (lE R NM m) 0) :: _)
      refine g_astore_n hΓ dX0_named_39 rfl (Nat.le_of_ble_eq_true rfl) (lv' := [some (.ref (P.1)), some (.int (iI m)), some (.int (iI k)), some (.ref (rf R (lE R NM m) 0))]) rfl ?_
      refine g_iload_n hΓ rfl dX0_named_40 ?_
      refine g_aload_n hΓ rfl dX0_named_41 ?_
      refine x_callV (As := []) (rest := [.int (iI k)]) (c := 11) hE hΓ (x_J6_length hE hX S D R (rf R (lE R NM m) 0) hl7.2.1 (hx).1 ) hl7.2.1 ⟨by decide, rfl⟩ rfl rfl q872 q626 q627 q137 q628 ndJ6_length rfl (by decide) (by decide) (Nat.zero_le _) (Nat.zero_le _) rfl (Nat.le_of_ble_eq_true rfl) dX0_named_42 rfl (fun v11 S11 τ11 ρ11 h11 => ?_)
      obtain ⟨rfl, S11e, τ11e, ρ11e⟩ := h11
      have S11e := S11e.symm; subst S11e
      have τ11e := τ11e.symm; subst τ11e
      have ρ11e := ρ11e.symm; subst ρ11e
      show gW Γ E (xM E S D R) _ _ _ _ (.int (iI (txN S R (rf R (lE R NM m) 0))) :: _)
      refine g_icmp_ge (tgt := 61) hΓ (by omega) (by omega) dX0_named_45 (by decide) (fun c12 => ?_) (fun c12 => ?_)
      · refine g_iconst hΓ dX0_named_61 ?_
        exact x_iret hΓ dX0_named_62 (Nat.zero_le _) (Nat.zero_le _) ⟨ri (by first | (rw [if_neg (by omega)]; done) | (rw [if_pos (by omega), hk9, if_pos (by omega)]; omega) | (rw [if_pos (by omega), hk9, if_neg (by omega)])), rfl, rfl, rfl⟩
      · have hv9 := tx_b (hg.2.2.2.2.2.1 (rf R (lE R NM m) 0) hl7.2.1) (j := k) (by omega) (by omega)
        refine g_aload_n hΓ rfl dX0_named_48 ?_
        refine g_iload_n hΓ rfl dX0_named_49 ?_
        refine x_callV (As := [.int (iI k)]) (rest := []) (c := 11) hE hΓ (x_J6_charAt hE hX S D R (rf R (lE R NM m) 0) k hl7.2.1 (hx).1 (by omega) ) hl7.2.1 ⟨by decide, rfl⟩ rfl rfl q873 q874 q875 q137 q876 ndJ6_charAt rfl (by decide) (by decide) (Nat.zero_le _) (Nat.zero_le _) rfl (Nat.le_of_ble_eq_true rfl) dX0_named_50 rfl (fun v13 S13 τ13 ρ13 h13 => ?_)
        obtain ⟨rfl, S13e, τ13e, ρ13e⟩ := h13
        have S13e := S13e.symm; subst S13e
        have τ13e := τ13e.symm; subst τ13e
        have ρ13e := ρ13e.symm; subst ρ13e
        show gW Γ E (xM E S D R) _ _ _ _ (.int (iI (D (rf R (rf R (lE R NM m) 0) 0) k)) :: _)
        refine g_bipush hΓ (by decide) dX0_named_53 ?_
        refine g_isub hΓ dX0_named_55 ?_
        refine g_iconst hΓ dX0_named_56 ?_
        refine g_iadd hΓ dX0_named_57 ?_
        refine g_goto (tgt := 62) hΓ dX0_named_58 (by decide) ?_
        exact x_iret hΓ dX0_named_62 (Nat.zero_le _) (Nat.zero_le _) ⟨ri (by first | (rw [if_neg (by omega)]; done) | (rw [if_pos (by omega), hk9, if_pos (by omega)]; omega) | (rw [if_pos (by omega), hk9, if_neg (by omega)])), rfl, rfl, rfl⟩
    · refine g_iconst hΓ dX0_named_20 ?_
      exact x_iret hΓ dX0_named_21 (Nat.zero_le _) (Nat.zero_le _) ⟨ri (by first | (rw [if_neg (by omega)]; done) | (rw [if_pos (by omega), hk9, if_pos (by omega)]; omega) | (rw [if_pos (by omega), hk9, if_neg (by omega)])), rfl, rfl, rfl⟩
