set_option maxRecDepth 100000
set_option maxHeartbeats 4000000 in
theorem x_J9_equals {l : Launch} {E : gE} {X : State → Prop} {Z : Nat → Nat} {Y : Nat → Option Nat} (hE : E.2.1 = clsX) (hX : xOK l E X Z Y) (S : xS) (D : xD) (R : xR) (b c : Nat) (hb : (S b).1 = 31) (hc : (S c).1 = 31) (hl : (S b).2.1 ≤ 1600 ∧ (S c).2.1 ≤ 1600) (hbv : ∀ j : Int, 0 ≤ j → j < ((S b).2.1 : Int) → 0 ≤ D b j ∧ D b j ≤ 127) (hcv : ∀ j : Int, 0 ≤ j → j < ((S c).2.1 : Int) → 0 ≤ D c j ∧ D c j ≤ 127) : xC l E X yJ9_equals cJ9_equals 3 (some .boolean) 0 0 0 [.ref b, .ref c] S D R (fun rv S' D' R' => rv = some (.int (iI (if byQ S D b c then 1 else 0))) ∧ S' = S ∧ D' = D ∧ R' = R) := by
  refine xC.ofF hX.1 (by decide +kernel) [some (.ref b), some (.ref c), none] (Nat.le_of_ble_eq_true rfl) rfl rfl (fun Γ hΓ => ?_)
  refine g_aload_n hΓ rfl dJ9_equals_0 ?_
  refine x_alen hΓ hb rfl ⟨by decide, by decide⟩ dJ9_equals_1 ?_
  refine g_aload_n hΓ rfl dJ9_equals_2 ?_
  refine x_alen hΓ hc rfl ⟨by decide, by decide⟩ dJ9_equals_3 ?_
  refine g_icmp_ne (tgt := 34) hΓ (by omega) (by omega) dJ9_equals_4 (by decide) (fun c1 => ?_) (fun c1 => ?_)
  · refine g_iconst hΓ dJ9_equals_34 ?_
    exact x_zret hΓ (by omega) dJ9_equals_35 (Nat.zero_le _) (Nat.zero_le _) ⟨ri (by rw [if_neg (fun z => by have z1 := z.1; omega)]), rfl, rfl, rfl⟩
  · have loop : ∀ (fu : Nat) (i : Int), (((S b).2.1 : Int) - i).toNat < fu → (0 ≤ i ∧ i ≤ ((S b).2.1 : Int)) → (eqF (D b) (D c) i.toNat = true) → gW Γ E (xM E S D R) 0 0 9 [some (.ref b), some (.ref c), some (.int (iI i))] [] := by
      intro fu
      induction fu with
      | zero => intro i hn; exact absurd hn (Nat.not_lt_zero _)
      | succ fu ih_loop =>
        intro i hn hi hI
        refine g_iload_n hΓ rfl dJ9_equals_9 ?_
        refine g_aload_n hΓ rfl dJ9_equals_10 ?_
        refine x_alen hΓ hb rfl ⟨by decide, by decide⟩ dJ9_equals_11 ?_
        refine g_icmp_ge (tgt := 32) hΓ (by omega) (by omega) dJ9_equals_12 (by decide) (fun c2 => ?_) (fun c2 => ?_)
        · refine g_iconst hΓ dJ9_equals_32 ?_
          exact x_zret hΓ (by omega) dJ9_equals_33 (Nat.zero_le _) (Nat.zero_le _) ⟨ri (by rw [if_pos ⟨by omega, by rw [show (S b).2.1 = i.toNat by omega]; exact hI⟩]), rfl, rfl, rfl⟩
        · have hb9 := hbv i (by omega) (by omega)
          have hc9 := hcv i (by omega) (by omega)
          refine g_aload_n hΓ rfl dJ9_equals_15 ?_
          refine g_iload_n hΓ rfl dJ9_equals_16 ?_
          refine x_bald hΓ hb rfl ⟨by decide, rfl⟩ (by omega) (by omega) dJ9_equals_17 ?_
          refine g_aload_n hΓ rfl dJ9_equals_18 ?_
          refine g_iload_n hΓ rfl dJ9_equals_19 ?_
          refine x_bald hΓ hc rfl ⟨by decide, rfl⟩ (by omega) (by omega) dJ9_equals_20 ?_
          refine g_icmp_eq (tgt := 26) hΓ (by omega) (by omega) dJ9_equals_21 (by decide) (fun c3 => ?_) (fun c3 => ?_)
          · obtain ⟨x4, ex4⟩ : ∃ z9 : Int, z9 = i + 1 := ⟨_, rfl⟩
            refine g_iinc hΓ dJ9_equals_26 rfl rfl (lv' := [some (.ref b), some (.ref c), some (.int (iI x4))]) (by rw [ex4]; rfl) ?_
            refine g_goto (tgt := 9) hΓ dJ9_equals_29 (by decide) ?_
            exact ih_loop x4 (by omega) (by omega) (by rw [show x4.toNat = i.toNat + 1 by omega, eqF, hI, show ((i.toNat : Nat) : Int) = i by omega, Bool.true_and]; exact decide_eq_true (by omega))
          · refine g_iconst hΓ dJ9_equals_24 ?_
            exact x_zret hΓ (by omega) dJ9_equals_25 (Nat.zero_le _) (Nat.zero_le _) ⟨ri (by rw [if_neg (fun z => by have z2 := eqF_at z.2 i (by omega) (by omega); omega)]), rfl, rfl, rfl⟩
    refine g_iconst hΓ dJ9_equals_7 ?_
    refine g_istore_n hΓ dJ9_equals_8 rfl (Nat.le_of_ble_eq_true rfl) (lv' := [some (.ref b), some (.ref c), some (.int (iI 0))]) rfl ?_
    exact loop 1601 0 (by omega) (by omega) rfl
set_option maxHeartbeats 4000000 in
theorem x_J6_equals {l : Launch} {E : gE} {X : State → Prop} {Z : Nat → Nat} {Y : Nat → Option Nat} (hE : E.2.1 = clsX) (hX : xOK l E X Z Y) (S : xS) (D : xD) (R : xR) (q o : Nat) (hq : (S q).1 = 30) (ho : (S o).1 = 30) (hg : GI E Z S D R) : xC l E X yJ6_equals cJ6_equals 3 (some .boolean) 1 0 0 [.ref q, .ref o] S D R (fun rv S' D' R' => rv = some (.int (iI (if txQ S D R q o then 1 else 0))) ∧ S' = S ∧ D' = D ∧ R' = R) := by
  refine xC.ofF hX.1 (by decide +kernel) [some (.ref q), some (.ref o), none] (Nat.le_of_ble_eq_true rfl) rfl rfl (fun Γ hΓ => ?_)
  have hT1 := (hg).2.2.2.2.2.1 q hq
  have hT2 := (hg).2.2.2.2.2.1 o ho
  refine g_aload_n hΓ rfl dJ6_equals_0 ?_
  refine g_aload_n hΓ rfl dJ6_equals_1 ?_
  refine g_acmp_ne (tgt := 7) hΓ dJ6_equals_2 (by decide) (fun c3 => ?_) (fun c3 => ?_)
  · refine g_aload_n hΓ rfl dJ6_equals_7 ?_
    refine x_instS (c := 11) hE hΓ rfl q621 ho ⟨by decide, rfl⟩ rfl dJ6_equals_8 ?_
    refine g_if_eq (tgt := 54) hΓ (by omega) dJ6_equals_11 (by decide) (fun c4 => ?_) (fun c4 => ?_)
    · exact absurd c4 (by decide)
    · refine g_aload_n hΓ rfl dJ6_equals_14 ?_
      refine x_castS (c := 11) hE hΓ rfl q621 ho ⟨by decide, rfl⟩ rfl dJ6_equals_15 ?_
      refine g_astore_n hΓ dJ6_equals_18 rfl (Nat.le_of_ble_eq_true rfl) (lv' := [some (.ref q), some (.ref o), some (.ref o)]) rfl ?_
      refine g_gets hΓ rfl (xn_s_compact hX) q561 dJ6_equals_19 ?_
      show gW Γ E (xM E S D R) 0 0 _ _ (.int (iI 1) :: _)
      refine g_if_eq (tgt := 36) hΓ (by omega) dJ6_equals_22 (by decide) (fun c5 => ?_) (fun c5 => ?_)
      · exact absurd c5 (by decide)
      · refine g_aload_n hΓ rfl dJ6_equals_25 ?_
        refine x_geti (c := 11) hE hΓ in_J6 rfl hq ⟨by decide, rfl⟩ 1 (ji := 1) rfl (by decide) (by decide) rfl q606 rfl rfl dJ6_equals_26 ?_
        refine g_topi (hT1.2.2.2.1) ?_
        refine g_aload_n hΓ rfl dJ6_equals_29 ?_
        refine x_geti (c := 11) hE hΓ in_J6 rfl ho ⟨by decide, rfl⟩ 1 (ji := 1) rfl (by decide) (by decide) rfl q606 rfl rfl dJ6_equals_30 ?_
        refine g_topi (hT2.2.2.2.1) ?_
        refine g_icmp_ne (tgt := 54) hΓ (by omega) (by omega) dJ6_equals_33 (by decide) (fun c6 => ?_) (fun c6 => ?_)
        · exact absurd c6 (by decide)
        · refine g_aload_n hΓ rfl dJ6_equals_36 ?_
          refine x_geta (r := some (rf R q 0)) (c := 11) hE hΓ in_J6 rfl hq ⟨by decide, rfl⟩ 0 (ji := 0) rfl (by decide) (by decide) rfl q605 rfl rfl hT1.1 dJ6_equals_37 ?_
          show gW Γ E (xM E S D R) 0 0 _ _ (.ref (rf R q 0) :: _)
          refine g_aload_n hΓ rfl dJ6_equals_40 ?_
          refine x_geta (r := some (rf R o 0)) (c := 11) hE hΓ in_J6 rfl ho ⟨by decide, rfl⟩ 0 (ji := 0) rfl (by decide) (by decide) rfl q605 rfl rfl hT2.1 dJ6_equals_41 ?_
          show gW Γ E (xM E S D R) 0 0 _ _ (.ref (rf R o 0) :: _)
          refine x_callS (As := [.ref (rf R q 0), .ref (rf R o 0)]) (rest := []) hΓ (x_J9_equals hE hX S D R (rf R q 0) (rf R o 0) hT1.2.1 hT2.2.1 ⟨hT1.2.2.1, hT2.2.2.1⟩ (fun j9 x9 y9 => tx_b hT1 x9 y9) (fun j9 x9 y9 => tx_b hT2 x9 y9) ) rfl q622 q623 q140 q624 ndJ9_equals rfl (by decide) (by decide) (Nat.zero_le _) (Nat.zero_le _) rfl (Nat.le_of_ble_eq_true rfl) dJ6_equals_44 rfl (fun v7 S7 τ7 ρ7 h7 => ?_)
          obtain ⟨rfl, S7e, τ7e, ρ7e⟩ := h7
          have S7e := S7e.symm; subst S7e
          have τ7e := τ7e.symm; subst τ7e
          have ρ7e := ρ7e.symm; subst ρ7e
          show gW Γ E (xM E S D R) _ _ _ _ (.int (iI (if byQ S D (rf R q 0) (rf R o 0) then 1 else 0)) :: _)
          refine g_ifB_eq (tgt := 54) hΓ  dJ6_equals_47 (by decide) (fun c8 => ?_) (fun c8 => ?_)
          · refine g_iconst hΓ dJ6_equals_54 ?_
            exact x_zret hΓ (by omega) dJ6_equals_55 (Nat.zero_le _) (Nat.zero_le _) ⟨ri (by first | (rw [if_pos (by assumption)]; done) | (rw [if_neg (by assumption)]; done) | (rw [if_pos (by subst_vars; exact byQ_r _ _ _)])), rfl, rfl, rfl⟩
          · refine g_iconst hΓ dJ6_equals_50 ?_
            refine g_goto (tgt := 55) hΓ dJ6_equals_51 (by decide) ?_
            exact x_zret hΓ (by omega) dJ6_equals_55 (Nat.zero_le _) (Nat.zero_le _) ⟨ri (by first | (rw [if_pos (by assumption)]; done) | (rw [if_neg (by assumption)]; done) | (rw [if_pos (by subst_vars; exact byQ_r _ _ _)])), rfl, rfl, rfl⟩
  · refine g_iconst hΓ dJ6_equals_5 ?_
    exact x_zret hΓ (by omega) dJ6_equals_6 (Nat.zero_le _) (Nat.zero_le _) ⟨ri (by first | (rw [if_pos (by assumption)]; done) | (rw [if_neg (by assumption)]; done) | (rw [if_pos (by subst_vars; exact byQ_r _ _ _)])), rfl, rfl, rfl⟩
set_option maxHeartbeats 4000000 in
theorem x_X0_isOwn {l : Launch} {E : gE} {X : State → Prop} {Z : Nat → Nat} {Y : Nat → Option Nat} (hE : E.2.1 = clsX) (hX : xOK l E X Z Y) (S : xS) (D : xD) (R : xR) (q : Nat) (hq : (S q).1 = 30) (hg : GI E Z S D R) (hki : KI E Z S D R) : xC l E X yX0_isOwn cX0_isOwn 2 (some .boolean) 2 0 0 [.ref q] S D R (fun rv S' D' R' => rv = some (.int (iI (if ixF (fun i => decide (txQ S D R (Z (10 + i.toNat)) q)) 10 0 = -1 then 0 else 1))) ∧ S' = S ∧ D' = D ∧ R' = R) := by
  refine xC.of hX.1 (by decide) [some (.ref q), none] (Nat.le_of_ble_eq_true rfl) rfl rfl (fun Γ hΓ => ?_)
  have hT1 := (hg).2.2.2.2.2.1 q hq
  have hK2 := hki.2.2.1
  have hKz := hki.2.1
  have loop : ∀ (fu : Nat) (i : Int), (10 - i).toNat < fu → (0 ≤ i ∧ i ≤ 10) → (ixF (fun i => decide (txQ S D R (Z (10 + i.toNat)) q)) (10 - i).toNat i = ixF (fun i => decide (txQ S D R (Z (10 + i.toNat)) q)) 10 0) → gW Γ E (xM E S D R) 0 0 2 [some (.ref q), some (.int (iI i))] [] := by
    intro fu
    induction fu with
    | zero => intro i hn; exact absurd hn (Nat.not_lt_zero _)
    | succ fu ih_loop =>
      intro i hn hi hI
      refine g_iload_n hΓ rfl dX0_isOwn_2 ?_
      refine g_gets hΓ rfl (xn_s_own hX) q672 dX0_isOwn_3 ?_
      show gW Γ E (xM E S D R) 0 0 _ _ (.ref (Z 2) :: _)
      refine x_alen hΓ hK2.1 hK2.2.1 ⟨by decide, by decide⟩ dX0_isOwn_6 ?_
      refine g_topi (show (((10 : Nat)) : Int) = 10 from rfl) ?_
      refine g_icmp_ge (tgt := 30) hΓ (by omega) (by omega) dX0_isOwn_7 (by decide) (fun c2 => ?_) (fun c2 => ?_)
      · refine g_iconst hΓ dX0_isOwn_30 ?_
        exact x_zret hΓ (by omega) dX0_isOwn_31 (Nat.zero_le _) (Nat.zero_le _) ⟨ri (by rw [if_pos (by rw [← hI, show (10 - i).toNat = 0 by omega, ixF])]), rfl, rfl, rfl⟩
      · have hr9 : R (Z 2) i = some (Z (10 + i.toNat)) := by
          have h9 := hK2.2.2 i.toNat (by omega)
          rw [show ((i.toNat : Nat) : Int) = i by omega] at h9
          exact h9
        have hz9 : (S (Z (10 + i.toNat))).1 = 30 := (hKz (10 + i.toNat) (by
          have h9 : i.toNat < 10 := by omega
          generalize i.toNat = n9 at h9
          have : ∀ n < 10, 10 + n ∈ KZ := by decide
          exact this n9 h9)).1
        refine g_gets hΓ rfl (xn_s_own hX) q672 dX0_isOwn_10 ?_
        show gW Γ E (xM E S D R) 0 0 _ _ (.ref (Z 2) :: _)
        refine g_iload_n hΓ rfl dX0_isOwn_13 ?_
        refine x_aaldS (r := some (Z (10 + i.toNat))) hΓ hK2.1 hK2.2.1 ⟨by decide, rfl⟩ (by omega) (by omega) hr9 dX0_isOwn_14 ?_
        show gW Γ E (xM E S D R) 0 0 _ _ (.ref (Z (10 + i.toNat)) :: _)
        refine g_aload_n hΓ rfl dX0_isOwn_15 ?_
        refine x_callV (As := [.ref q]) (rest := []) (c := 11) hE hΓ (x_J6_equals hE hX S D R (Z (10 + i.toNat)) q hz9 hq hg ) hz9 ⟨by decide, rfl⟩ rfl rfl q673 q618 q619 q137 q620 ndJ6_equals rfl (by decide) (by decide) (Nat.zero_le _) (Nat.zero_le _) rfl (Nat.le_of_ble_eq_true rfl) dX0_isOwn_16 rfl (fun v3 S3 τ3 ρ3 h3 => ?_)
        obtain ⟨rfl, S3e, τ3e, ρ3e⟩ := h3
        have S3e := S3e.symm; subst S3e
        have τ3e := τ3e.symm; subst τ3e
        have ρ3e := ρ3e.symm; subst ρ3e
        show gW Γ E (xM E S D R) _ _ _ _ (.int (iI (if txQ S D R (Z (10 + i.toNat)) q then 1 else 0)) :: _)
        refine g_ifB_eq (tgt := 24) hΓ  dX0_isOwn_19 (by decide) (fun c4 => ?_) (fun c4 => ?_)
        · obtain ⟨x5, ex5⟩ : ∃ z9 : Int, z9 = i + 1 := ⟨_, rfl⟩
          refine g_iinc hΓ dX0_isOwn_24 rfl rfl (lv' := [some (.ref q), some (.int (iI x5))]) (by rw [ex5]; rfl) ?_
          refine g_goto (tgt := 2) hΓ dX0_isOwn_27 (by decide) ?_
          exact ih_loop x5 (by omega) (by omega) (by rw [← hI, show (10 - i).toNat = (10 - x5).toNat + 1 by omega, ixF, if_neg (fun z => absurd (of_decide_eq_true z) (by assumption)), show x5 = i + 1 by omega])
        · refine g_iconst hΓ dX0_isOwn_22 ?_
          exact x_zret hΓ (by omega) dX0_isOwn_23 (Nat.zero_le _) (Nat.zero_le _) ⟨ri (by rw [if_neg (by rw [← hI, show (10 - i).toNat = (10 - (i + 1)).toNat + 1 by omega, ixF, if_pos (decide_eq_true (by assumption))]; omega)]), rfl, rfl, rfl⟩
  refine g_iconst hΓ dX0_isOwn_0 ?_
  refine g_istore_n hΓ dX0_isOwn_1 rfl (Nat.le_of_ble_eq_true rfl) (lv' := [some (.ref q), some (.int (iI 0))]) rfl ?_
  exact loop 11 0 (by omega) (by omega) rfl
set_option maxHeartbeats 4000000 in
theorem x_J2_indexOfRange {l : Launch} {E : gE} {X : State → Prop} {Z : Nat → Nat} {Y : Nat → Option Nat} (hE : E.2.1 = clsX) (hX : xOK l E X Z Y) (S : xS) (D : xD) (R : xR) (a q : Nat) (ha : (S a).1 = 17) (hq : (S q).1 = 30) (hg : GI E Z S D R) : xC l E X yJ2_indexOfRange cJ2_indexOfRange 6 (some .int) 2 0 0 [.ref a, .ref q, .int (iI 0), .int (iI (D a 2))] S D R (fun rv S' D' R' => rv = some (.int (iI (ixF (fun i => decide (txQ S D R q (lE R a i))) (D a 2).toNat 0))) ∧ S' = S ∧ D' = D ∧ R' = R) := by
  refine xC.ofF hX.1 (by decide +kernel) [some (.ref a), some (.ref q), some (.int (iI 0)), some (.int (iI (D a 2))), none, none] (Nat.le_of_ble_eq_true rfl) rfl rfl (fun Γ hΓ => ?_)
  have hls := hg.2.1 a (by rw [ha]; decide) (by rw [ha]; decide)
  have hT1 := (hg).2.2.2.2.2.1 q hq
  obtain ⟨b2, kb2, hbr2, hbe2, hbk2, hbq2, hbc2⟩ := lsOK_b hls (by rw [ha]; decide)
  
  refine g_aload_n hΓ rfl dJ2_indexOfRange_0 ?_
  refine x_geta (r := some b2) (c := 10) hE hΓ in_J2 rfl ha ⟨by decide, rfl⟩ 1 (ji := 1) rfl (by decide) (by decide) rfl q176 rfl rfl hbr2 dJ2_indexOfRange_1 ?_
  show gW Γ E (xM E S D R) 0 0 _ _ (.ref b2 :: _)
  refine g_astore hΓ dJ2_indexOfRange_4 rfl (Nat.le_of_ble_eq_true rfl) (lv' := [some (.ref a), some (.ref q), some (.int (iI 0)), some (.int (iI (D a 2))), some (.ref b2), none]) rfl ?_
  refine g_aload_n hΓ rfl dJ2_indexOfRange_6 ?_
  refine g_ifnonnull (tgt := 39) hΓ dJ2_indexOfRange_7 (by decide) ?_
  have loop : ∀ (fu : Nat) (i : Int), (D a 2 - i).toNat < fu → (0 ≤ i ∧ i ≤ D a 2) → (ixF (fun i => decide (txQ S D R q (lE R a i))) (D a 2 - i).toNat i = ixF (fun i => decide (txQ S D R q (lE R a i))) (D a 2).toNat 0) → gW Γ E (xM E S D R) 0 0 42 [some (.ref a), some (.ref q), some (.int (iI 0)), some (.int (iI (D a 2))), some (.ref b2), some (.int (iI i))] [] := by
    intro fu
    induction fu with
    | zero => intro i hn; exact absurd hn (Nat.not_lt_zero _)
    | succ fu ih_loop =>
      intro i hn hi hI
      refine g_iload hΓ rfl dJ2_indexOfRange_42 ?_
      refine g_iload_n hΓ rfl dJ2_indexOfRange_44 ?_
      refine g_icmp_ge (tgt := 69) hΓ (by omega) (by omega) dJ2_indexOfRange_45 (by decide) (fun c3 => ?_) (fun c3 => ?_)
      · refine g_iconst hΓ dJ2_indexOfRange_69 ?_
        exact x_iret hΓ dJ2_indexOfRange_70 (Nat.zero_le _) (Nat.zero_le _) ⟨ri (by rw [← hI, show (D a 2 - i).toNat = 0 by omega, ixF]), rfl, rfl, rfl⟩
      · have he4 := lsOK_e hls hbe2 (i := i) (by omega)
        have hk4 : (S (lE R a i)).1 = 30 := by rw [he4.2, ha]; rfl
        refine g_aload_n hΓ rfl dJ2_indexOfRange_48 ?_
        refine g_aload hΓ rfl dJ2_indexOfRange_49 ?_
        refine g_iload hΓ rfl dJ2_indexOfRange_51 ?_
        refine x_aaldO (r := some (lE R a i)) hΓ hbk2 rfl (ks_20_28 hbq2) (by omega) (by omega) he4.1 dJ2_indexOfRange_53 ?_
        show gW Γ E (xM E S D R) 0 0 _ _ (.ref (lE R a i) :: _)
        refine x_callO (x := yJ14_equals) (As := [.ref (lE R a i)]) (rest := []) (c := 11) hE hΓ (x_J6_equals hE hX S D R q (lE R a i) hq hk4 hg ) hq ⟨by decide, rfl⟩ rfl rfl q687 q689 q688 q700 q618 q137 q620 q701 (n := 1) (by decide +kernel) rfl (by decide) (by decide) (Nat.zero_le _) (Nat.zero_le _) rfl (Nat.le_of_ble_eq_true rfl) dJ2_indexOfRange_54 rfl (fun v5 S5 τ5 ρ5 h5 => ?_)
        obtain ⟨rfl, S5e, τ5e, ρ5e⟩ := h5
        have S5e := S5e.symm; subst S5e
        have τ5e := τ5e.symm; subst τ5e
        have ρ5e := ρ5e.symm; subst ρ5e
        show gW Γ E (xM E S D R) _ _ _ _ (.int (iI (if txQ S D R q (lE R a i) then 1 else 0)) :: _)
        refine g_ifB_eq (tgt := 63) hΓ  dJ2_indexOfRange_57 (by decide) (fun c6 => ?_) (fun c6 => ?_)
        · obtain ⟨x7, ex7⟩ : ∃ z9 : Int, z9 = i + 1 := ⟨_, rfl⟩
          refine g_iinc hΓ dJ2_indexOfRange_63 rfl rfl (lv' := [some (.ref a), some (.ref q), some (.int (iI 0)), some (.int (iI (D a 2))), some (.ref b2), some (.int (iI x7))]) (by rw [ex7]; rfl) ?_
          refine g_goto (tgt := 42) hΓ dJ2_indexOfRange_66 (by decide) ?_
          exact ih_loop x7 (by omega) (by omega) (by rw [← hI, show (D a 2 - i).toNat = (D a 2 - x7).toNat + 1 by omega, ixF, if_neg (fun z => absurd (of_decide_eq_true z) (by assumption)), show x7 = i + 1 by omega])
        · refine g_iload hΓ rfl dJ2_indexOfRange_60 ?_
          exact x_iret hΓ dJ2_indexOfRange_62 (Nat.zero_le _) (Nat.zero_le _) ⟨ri (by rw [← hI, show (D a 2 - i).toNat = (D a 2 - (i + 1)).toNat + 1 by omega, ixF, if_pos (decide_eq_true (by assumption))]), rfl, rfl, rfl⟩
  refine g_iload_n hΓ rfl dJ2_indexOfRange_39 ?_
  refine g_istore hΓ dJ2_indexOfRange_40 rfl (Nat.le_of_ble_eq_true rfl) (lv' := [some (.ref a), some (.ref q), some (.int (iI 0)), some (.int (iI (D a 2))), some (.ref b2), some (.int (iI 0))]) rfl ?_
  exact loop ((D a 2).toNat + 1) 0 (by omega) (by omega) (by rw [Int.sub_zero])
set_option maxHeartbeats 4000000 in
theorem x_J2_indexOf {l : Launch} {E : gE} {X : State → Prop} {Z : Nat → Nat} {Y : Nat → Option Nat} (hE : E.2.1 = clsX) (hX : xOK l E X Z Y) (S : xS) (D : xD) (R : xR) (a q : Nat) (ha : (S a).1 = 17) (hq : (S q).1 = 30) (hg : GI E Z S D R) : xC l E X yJ2_indexOf cJ2_indexOf 2 (some .int) 3 0 0 [.ref a, .ref q] S D R (fun rv S' D' R' => rv = some (.int (iI (ixF (fun i => decide (txQ S D R q (lE R a i))) (D a 2).toNat 0))) ∧ S' = S ∧ D' = D ∧ R' = R) := by
  refine xC.ofF hX.1 (by decide +kernel) [some (.ref a), some (.ref q)] (Nat.le_of_ble_eq_true rfl) rfl rfl (fun Γ hΓ => ?_)
  have hls := hg.2.1 a (by rw [ha]; decide) (by rw [ha]; decide)
  have hT1 := (hg).2.2.2.2.2.1 q hq
  obtain ⟨b2, kb2, hbr2, hbe2, hbk2, hbq2, hbc2⟩ := lsOK_b hls (by rw [ha]; decide)
  
  refine g_aload_n hΓ rfl dJ2_indexOf_0 ?_
  refine g_aload_n hΓ rfl dJ2_indexOf_1 ?_
  refine g_iconst hΓ dJ2_indexOf_2 ?_
  refine g_aload_n hΓ rfl dJ2_indexOf_3 ?_
  refine x_geti (c := 10) hE hΓ in_J2 rfl ha ⟨by decide, rfl⟩ 2 (ji := 2) rfl (by decide) (by decide) rfl q177 rfl rfl dJ2_indexOf_4 ?_
  refine x_callV (As := [.ref q, .int (iI 0), .int (iI (D a 2))]) (rest := []) (c := 10) hE hΓ (x_J2_indexOfRange hE hX S D R a q ha hq hg ) ha ⟨by decide, rfl⟩ rfl rfl q682 q683 q684 q127 q685 ndJ2_indexOfRange rfl (by decide) (by decide) (Nat.zero_le _) (Nat.zero_le _) rfl (Nat.le_of_ble_eq_true rfl) dJ2_indexOf_7 rfl (fun v3 S3 τ3 ρ3 h3 => ?_)
  obtain ⟨rfl, S3e, τ3e, ρ3e⟩ := h3
  have S3e := S3e.symm; subst S3e
  have τ3e := τ3e.symm; subst τ3e
  have ρ3e := ρ3e.symm; subst ρ3e
  show gW Γ E (xM E S D R) _ _ _ _ (.int (iI (ixF (fun i => decide (txQ S D R q (lE R a i))) (D a 2).toNat 0)) :: _)
  exact x_iret hΓ dJ2_indexOf_10 (Nat.zero_le _) (Nat.zero_le _) ⟨rfl, rfl, rfl, rfl⟩
set_option maxHeartbeats 4000000 in
theorem x_J2_contains {l : Launch} {E : gE} {X : State → Prop} {Z : Nat → Nat} {Y : Nat → Option Nat} (hE : E.2.1 = clsX) (hX : xOK l E X Z Y) (S : xS) (D : xD) (R : xR) (a q : Nat) (ha : (S a).1 = 17) (hq : (S q).1 = 30) (hg : GI E Z S D R) : xC l E X yJ2_contains cJ2_contains 2 (some .boolean) 4 0 0 [.ref a, .ref q] S D R (fun rv S' D' R' => rv = some (.int (iI (if ixF (fun i => decide (txQ S D R q (lE R a i))) (D a 2).toNat 0 = -1 then 0 else 1))) ∧ S' = S ∧ D' = D ∧ R' = R) := by
  refine xC.ofF hX.1 (by decide +kernel) [some (.ref a), some (.ref q)] (Nat.le_of_ble_eq_true rfl) rfl rfl (fun Γ hΓ => ?_)
  have hls := hg.2.1 a (by rw [ha]; decide) (by rw [ha]; decide)
  have hT1 := (hg).2.2.2.2.2.1 q hq
  obtain ⟨b2, kb2, hbr2, hbe2, hbk2, hbq2, hbc2⟩ := lsOK_b hls (by rw [ha]; decide)
  
  have hxr := ixF_r (p := (fun i => decide (txQ S D R q (lE R a i)))) (D a 2).toNat 0 (by decide)
  refine g_aload_n hΓ rfl dJ2_contains_0 ?_
  refine g_aload_n hΓ rfl dJ2_contains_1 ?_
  refine x_callV (As := [.ref q]) (rest := []) (c := 10) hE hΓ (x_J2_indexOf hE hX S D R a q ha hq hg ) ha ⟨by decide, rfl⟩ rfl rfl q678 q679 q680 q127 q681 ndJ2_indexOf rfl (by decide) (by decide) (Nat.zero_le _) (Nat.zero_le _) rfl (Nat.le_of_ble_eq_true rfl) dJ2_contains_2 rfl (fun v3 S3 τ3 ρ3 h3 => ?_)
  obtain ⟨rfl, S3e, τ3e, ρ3e⟩ := h3
  have S3e := S3e.symm; subst S3e
  have τ3e := τ3e.symm; subst τ3e
  have ρ3e := ρ3e.symm; subst ρ3e
  show gW Γ E (xM E S D R) _ _ _ _ (.int (iI (ixF (fun i => decide (txQ S D R q (lE R a i))) (D a 2).toNat 0)) :: _)
  refine g_if_lt (tgt := 12) hΓ (by omega) dJ2_contains_5 (by decide) (fun c4 => ?_) (fun c4 => ?_)
  · refine g_iconst hΓ dJ2_contains_12 ?_
    exact x_zret hΓ (by omega) dJ2_contains_13 (Nat.zero_le _) (Nat.zero_le _) ⟨ri (by first | (rw [if_pos (by omega)]; done) | (rw [if_neg (by omega)])), rfl, rfl, rfl⟩
  · refine g_iconst hΓ dJ2_contains_8 ?_
    refine g_goto (tgt := 13) hΓ dJ2_contains_9 (by decide) ?_
    exact x_zret hΓ (by omega) dJ2_contains_13 (Nat.zero_le _) (Nat.zero_le _) ⟨ri (by first | (rw [if_pos (by omega)]; done) | (rw [if_neg (by omega)])), rfl, rfl, rfl⟩
