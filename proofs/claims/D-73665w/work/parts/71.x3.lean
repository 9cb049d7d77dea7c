set_option maxRecDepth 100000
set_option maxHeartbeats 4000000 in
theorem x_X8_many {l : Launch} {E : gE} {X : State → Prop} {Z : Nat → Nat} {Y : Nat → Option Nat} (hE : E.2.1 = clsX) (hX : xOK l E X Z Y) (S : xS) (D : xD) (R : xR) (s : Nat)  (hs : (S s).1 = 8) (hB : strB S D R s) : xC l E X yX8_many cX8_many 1 (some .int) 0 0 0 [.ref s] S D R (fun rv S' D' R' => rv = some (.int (iI (strN S R s))) ∧ S' = S ∧ D' = D ∧ R' = R) := by
  refine xC.of hX.1 (by decide) [some (.ref s)] (Nat.le_of_ble_eq_true rfl) rfl rfl (fun Γ hΓ => ?_)
  obtain ⟨hsf1, hsk1, hsp1, hsl1⟩ := id hB
  have kd2 : (S (rf R s 4)).1 = 42 := by rw [hsf1.2.2.2.2.2.2.2.1]
  have ln2 : (S (rf R s 4)).2.1 = 34 := by rw [hsf1.2.2.2.2.2.2.2.1]
  have kd3 : (S (rf R s 5)).1 = 43 := by rw [hsf1.2.2.2.2.2.2.2.2.2.1]
  have ln3 : (S (rf R s 5)).2.1 = 16 := by rw [hsf1.2.2.2.2.2.2.2.2.2.1]
  have kd4 : (S (rf R s 6)).1 = 44 := by rw [hsf1.2.2.2.2.2.2.2.2.2.2.2]
  have ln4 : (S (rf R s 6)).2.1 = 16 := by rw [hsf1.2.2.2.2.2.2.2.2.2.2.2]
  have hsn1 := hsf1.2.2.1
  have hsm1 := hsf1.2.2.2.2.2.1
  have hs11 := hsk1.1
  have hs21 := hsk1.2.1
  refine g_aload_n hΓ rfl dX8_many_0 ?_
  refine x_geta (r := some (rf R s 0)) (c := 8) hE hΓ in_X8 rfl hs ⟨by decide, rfl⟩ 0 (ji := 0) rfl (by decide) (by decide) rfl q802 rfl rfl hsf1.1 dX8_many_1 ?_
  show gW Γ E (xM E S D R) 0 0 _ _ (.ref (rf R s 0) :: _)
  refine x_alen hΓ hsf1.2.1 rfl ⟨by decide, by decide⟩ dX8_many_4 ?_
  refine g_iconst hΓ dX8_many_5 ?_
  refine g_idivN hΓ (by omega) (by omega) (by omega) dX8_many_6 ?_
  exact x_iret hΓ dX8_many_7 (Nat.zero_le _) (Nat.zero_le _) ⟨ri (by rw [strN]; omega), rfl, rfl, rfl⟩
set_option maxHeartbeats 4000000 in
theorem x_X8_end {l : Launch} {E : gE} {X : State → Prop} {Z : Nat → Nat} {Y : Nat → Option Nat} (hE : E.2.1 = clsX) (hX : xOK l E X Z Y) (S : xS) (D : xD) (R : xR) (s : Nat) (i b : Int) (hs : (S s).1 = 8) (hB : strB S D R s) (hi : i = 0 ∨ i = 1) (hb : b = 0 ∨ b = 1) : xC l E X yX8_end cX8_end 5 (some .int) 1 0 0 [.ref s, .int (iI i), .int (iI b)] S D R (fun rv S' D' R' => rv = some (.int (iI (edP b (D (rf R s 0)) i (strN S R s).toNat (D (rf R s 0) (2 * 0 + i))))) ∧ S' = S ∧ D' = D ∧ R' = R) := by
  refine xC.of hX.1 (by decide) [some (.ref s), some (.int (iI i)), some (.int (iI b)), none, none] (Nat.le_of_ble_eq_true rfl) rfl rfl (fun Γ hΓ => ?_)
  obtain ⟨hsf1, hsk1, hsp1, hsl1⟩ := id hB
  have kd2 : (S (rf R s 4)).1 = 42 := by rw [hsf1.2.2.2.2.2.2.2.1]
  have ln2 : (S (rf R s 4)).2.1 = 34 := by rw [hsf1.2.2.2.2.2.2.2.1]
  have kd3 : (S (rf R s 5)).1 = 43 := by rw [hsf1.2.2.2.2.2.2.2.2.2.1]
  have ln3 : (S (rf R s 5)).2.1 = 16 := by rw [hsf1.2.2.2.2.2.2.2.2.2.1]
  have kd4 : (S (rf R s 6)).1 = 44 := by rw [hsf1.2.2.2.2.2.2.2.2.2.2.2]
  have ln4 : (S (rf R s 6)).2.1 = 16 := by rw [hsf1.2.2.2.2.2.2.2.2.2.2.2]
  have hsn1 := hsf1.2.2.1
  have hsm1 := hsf1.2.2.2.2.2.1
  have hs11 := hsk1.1
  have hs21 := hsk1.2.1
  have loop : ∀ (fu : Nat) (v : Int) (k : Int) (q : Int), (strN S R s - q).toNat < fu → (k = 2 * q + i ∧ 0 ≤ q ∧ q ≤ strN S R s) → (0 ≤ v ∧ v ≤ 99) → (v = edP b (D (rf R s 0)) i q.toNat (D (rf R s 0) (2 * 0 + i))) → gW Γ E (xM E S D R) 0 0 10 [some (.ref s), some (.int (iI i)), some (.int (iI b)), some (.int (iI v)), some (.int (iI k))] [] := by
    intro fu
    induction fu with
    | zero => intro v k q hn; exact absurd hn (Nat.not_lt_zero _)
    | succ fu ih_loop =>
      intro v k q hn hk hvr hv
      refine g_iload hΓ rfl dX8_end_10 ?_
      refine g_aload_n hΓ rfl dX8_end_12 ?_
      refine x_geta (r := some (rf R s 0)) (c := 8) hE hΓ in_X8 rfl hs ⟨by decide, rfl⟩ 0 (ji := 0) rfl (by decide) (by decide) rfl q802 rfl rfl hsf1.1 dX8_end_13 ?_
      show gW Γ E (xM E S D R) 0 0 _ _ (.ref (rf R s 0) :: _)
      refine x_alen hΓ hsf1.2.1 rfl ⟨by decide, by decide⟩ dX8_end_16 ?_
      refine g_icmp_ge (tgt := 56) hΓ (by omega) (by omega) dX8_end_17 (by decide) (fun c5 => ?_) (fun c5 => ?_)
      · refine g_iload_n hΓ rfl dX8_end_56 ?_
        exact x_iret hΓ dX8_end_57 (Nat.zero_le _) (Nat.zero_le _) ⟨ri (by rw [hv, show (strN S R s).toNat = q.toNat by omega]), rfl, rfl, rfl⟩
      · refine g_iload_n hΓ rfl dX8_end_20 ?_
        refine g_if_eq (tgt := 38) hΓ (by omega) dX8_end_21 (by decide) (fun c6 => ?_) (fun c6 => ?_)
        · refine g_iload_n hΓ rfl dX8_end_38 ?_
          refine g_aload_n hΓ rfl dX8_end_39 ?_
          refine x_geta (r := some (rf R s 0)) (c := 8) hE hΓ in_X8 rfl hs ⟨by decide, rfl⟩ 0 (ji := 0) rfl (by decide) (by decide) rfl q802 rfl rfl hsf1.1 dX8_end_40 ?_
          show gW Γ E (xM E S D R) 0 0 _ _ (.ref (rf R s 0) :: _)
          refine g_iload hΓ rfl dX8_end_43 ?_
          refine x_iald hΓ hsf1.2.1 rfl ⟨by decide, rfl⟩ (by omega) (by omega) dX8_end_45 ?_
          have hpt := hsk1.2.2 k (by omega) (by omega)
          refine x_callS (As := [.int (iI v), .int (iI (D (rf R s 0) k))]) (rest := []) hΓ (x_J3_min hE hX S D R v (D (rf R s 0) k) (by first | assumption | omega) (by first | assumption | omega)) rfl q969 q223 q129 q224 ndJ3_min rfl (by decide) (by decide) (Nat.zero_le _) (Nat.zero_le _) rfl (Nat.le_of_ble_eq_true rfl) dX8_end_46 rfl (fun v7 S7 τ7 ρ7 h7 => ?_)
          obtain ⟨rfl, S7e, τ7e, ρ7e⟩ := h7
          have S7e := S7e.symm; subst S7e
          have τ7e := τ7e.symm; subst τ7e
          have ρ7e := ρ7e.symm; subst ρ7e
          show gW Γ E (xM E S D R) _ _ _ _ (.int (iI (min v (D (rf R s 0) k))) :: _)
          obtain ⟨x8, ex8⟩ : ∃ z9 : Int, z9 = min v (D (rf R s 0) k) := ⟨_, rfl⟩
          refine g_topi ex8.symm ?_
          refine g_istore_n hΓ dX8_end_49 rfl (Nat.le_of_ble_eq_true rfl) (lv' := [some (.ref s), some (.int (iI i)), some (.int (iI b)), some (.int (iI x8)), some (.int (iI k))]) rfl ?_
          obtain ⟨x9, ex9⟩ : ∃ z9 : Int, z9 = k + 2 := ⟨_, rfl⟩
          refine g_iinc hΓ dX8_end_50 rfl rfl (lv' := [some (.ref s), some (.int (iI i)), some (.int (iI b)), some (.int (iI x8)), some (.int (iI x9))]) (by rw [ex9]; rfl) ?_
          refine g_goto (tgt := 10) hΓ dX8_end_53 (by decide) ?_
          exact ih_loop x8 x9 (q + 1) (by omega) (by omega) (by omega) (by rw [show (q + 1).toNat = q.toNat + 1 by omega, edP, ← hv, show (2 * ((q.toNat : Nat) : Int) + i) = k by omega]; first | (rw [if_neg (by omega)]; exact ex8) | (rw [if_pos (by omega)]; exact ex8))
        · refine g_iload_n hΓ rfl dX8_end_24 ?_
          refine g_aload_n hΓ rfl dX8_end_25 ?_
          refine x_geta (r := some (rf R s 0)) (c := 8) hE hΓ in_X8 rfl hs ⟨by decide, rfl⟩ 0 (ji := 0) rfl (by decide) (by decide) rfl q802 rfl rfl hsf1.1 dX8_end_26 ?_
          show gW Γ E (xM E S D R) 0 0 _ _ (.ref (rf R s 0) :: _)
          refine g_iload hΓ rfl dX8_end_29 ?_
          refine x_iald hΓ hsf1.2.1 rfl ⟨by decide, rfl⟩ (by omega) (by omega) dX8_end_31 ?_
          have hpt := hsk1.2.2 k (by omega) (by omega)
          refine x_callS (As := [.int (iI v), .int (iI (D (rf R s 0) k))]) (rest := []) hΓ (x_J3_max hE hX S D R v (D (rf R s 0) k) (by first | assumption | omega) (by first | assumption | omega)) rfl q968 q722 q129 q723 ndJ3_max rfl (by decide) (by decide) (Nat.zero_le _) (Nat.zero_le _) rfl (Nat.le_of_ble_eq_true rfl) dX8_end_32 rfl (fun v10 S10 τ10 ρ10 h10 => ?_)
          obtain ⟨rfl, S10e, τ10e, ρ10e⟩ := h10
          have S10e := S10e.symm; subst S10e
          have τ10e := τ10e.symm; subst τ10e
          have ρ10e := ρ10e.symm; subst ρ10e
          show gW Γ E (xM E S D R) _ _ _ _ (.int (iI (max v (D (rf R s 0) k))) :: _)
          refine g_goto (tgt := 49) hΓ dX8_end_35 (by decide) ?_
          obtain ⟨x11, ex11⟩ : ∃ z9 : Int, z9 = max v (D (rf R s 0) k) := ⟨_, rfl⟩
          refine g_topi ex11.symm ?_
          refine g_istore_n hΓ dX8_end_49 rfl (Nat.le_of_ble_eq_true rfl) (lv' := [some (.ref s), some (.int (iI i)), some (.int (iI b)), some (.int (iI x11)), some (.int (iI k))]) rfl ?_
          obtain ⟨x12, ex12⟩ : ∃ z9 : Int, z9 = k + 2 := ⟨_, rfl⟩
          refine g_iinc hΓ dX8_end_50 rfl rfl (lv' := [some (.ref s), some (.int (iI i)), some (.int (iI b)), some (.int (iI x11)), some (.int (iI x12))]) (by rw [ex12]; rfl) ?_
          refine g_goto (tgt := 10) hΓ dX8_end_53 (by decide) ?_
          exact ih_loop x11 x12 (q + 1) (by omega) (by omega) (by omega) (by rw [show (q + 1).toNat = q.toNat + 1 by omega, edP, ← hv, show (2 * ((q.toNat : Nat) : Int) + i) = k by omega]; first | (rw [if_neg (by omega)]; exact ex11) | (rw [if_pos (by omega)]; exact ex11))
  refine g_aload_n hΓ rfl dX8_end_0 ?_
  refine x_geta (r := some (rf R s 0)) (c := 8) hE hΓ in_X8 rfl hs ⟨by decide, rfl⟩ 0 (ji := 0) rfl (by decide) (by decide) rfl q802 rfl rfl hsf1.1 dX8_end_1 ?_
  show gW Γ E (xM E S D R) 0 0 _ _ (.ref (rf R s 0) :: _)
  refine g_iload_n hΓ rfl dX8_end_4 ?_
  refine x_iald hΓ hsf1.2.1 rfl ⟨by decide, rfl⟩ (by omega) (by omega) dX8_end_5 ?_
  obtain ⟨x13, ex13⟩ : ∃ z9 : Int, z9 = D (rf R s 0) i := ⟨_, rfl⟩
  refine g_topi ex13.symm ?_
  refine g_istore_n hΓ dX8_end_6 rfl (Nat.le_of_ble_eq_true rfl) (lv' := [some (.ref s), some (.int (iI i)), some (.int (iI b)), some (.int (iI x13)), none]) rfl ?_
  refine g_iload_n hΓ rfl dX8_end_7 ?_
  refine g_istore hΓ dX8_end_8 rfl (Nat.le_of_ble_eq_true rfl) (lv' := [some (.ref s), some (.int (iI i)), some (.int (iI b)), some (.int (iI x13)), some (.int (iI i))]) rfl ?_
  exact loop 13 x13 i 0 (by omega) (by omega) (by rw [ex13]; exact hsk1.2.2 i (by omega) (by omega)) (by rw [ex13, show (2 * 0 + i : Int) = i by omega]; rfl)
set_option maxHeartbeats 4000000 in
theorem x_X8_codeOf {l : Launch} {E : gE} {X : State → Prop} {Z : Nat → Nat} {Y : Nat → Option Nat} (hE : E.2.1 = clsX) (hX : xOK l E X Z Y) (S : xS) (D : xD) (R : xR) (dx dy : Int) (hx : -40000 ≤ dx ∧ dx ≤ 40000) (hy : -40000 ≤ dy ∧ dy ≤ 40000) (hz : ¬ (dx = 0 ∧ dy = 0)) : xC l E X yX8_codeOf cX8_codeOf 4 (some .int) 1 0 0 [.int (iI dx), .int (iI dy)] S D R (fun rv S' D' R' => rv = some (.int (iI (cdv dx dy 0))) ∧ S' = S ∧ D' = D ∧ R' = R) := by
  refine xC.of hX.1 (by decide) [some (.int (iI dx)), some (.int (iI dy)), none, none] (Nat.le_of_ble_eq_true rfl) rfl rfl (fun Γ hΓ => ?_)
  refine g_iload_n hΓ rfl dX8_codeOf_0 ?_
  refine x_callS (As := [.int (iI dx)]) (rest := []) hΓ (x_J3_abs hE hX S D R dx (by first | assumption | omega)) rfl q928 q220 q129 q221 ndJ3_abs rfl (by decide) (by decide) (Nat.zero_le _) (Nat.zero_le _) rfl (Nat.le_of_ble_eq_true rfl) dX8_codeOf_1 rfl (fun v1 S1 τ1 ρ1 h1 => ?_)
  obtain ⟨rfl, S1e, τ1e, ρ1e⟩ := h1
  have S1e := S1e.symm; subst S1e
  have τ1e := τ1e.symm; subst τ1e
  have ρ1e := ρ1e.symm; subst ρ1e
  show gW Γ E (xM E S D R) _ _ _ _ (.int (iI (if dx < 0 then -dx else dx)) :: _)
  obtain ⟨x2, ex2⟩ : ∃ z9 : Int, z9 = if dx < 0 then -dx else dx := ⟨_, rfl⟩
  refine g_topi ex2.symm ?_
  refine g_istore_n hΓ dX8_codeOf_4 rfl (Nat.le_of_ble_eq_true rfl) (lv' := [some (.int (iI dx)), some (.int (iI dy)), some (.int (iI x2)), none]) rfl ?_
  refine g_iload_n hΓ rfl dX8_codeOf_5 ?_
  refine x_callS (As := [.int (iI dy)]) (rest := []) hΓ (x_J3_abs hE hX S D R dy (by first | assumption | omega)) rfl q928 q220 q129 q221 ndJ3_abs rfl (by decide) (by decide) (Nat.zero_le _) (Nat.zero_le _) rfl (Nat.le_of_ble_eq_true rfl) dX8_codeOf_6 rfl (fun v3 S3 τ3 ρ3 h3 => ?_)
  obtain ⟨rfl, S3e, τ3e, ρ3e⟩ := h3
  have S3e := S3e.symm; subst S3e
  have τ3e := τ3e.symm; subst τ3e
  have ρ3e := ρ3e.symm; subst ρ3e
  show gW Γ E (xM E S D R) _ _ _ _ (.int (iI (if dy < 0 then -dy else dy)) :: _)
  obtain ⟨x4, ex4⟩ : ∃ z9 : Int, z9 = if dy < 0 then -dy else dy := ⟨_, rfl⟩
  refine g_topi ex4.symm ?_
  refine g_istore_n hΓ dX8_codeOf_9 rfl (Nat.le_of_ble_eq_true rfl) (lv' := [some (.int (iI dx)), some (.int (iI dy)), some (.int (iI x2)), some (.int (iI x4))]) rfl ?_
  refine g_bipush hΓ (by decide) dX8_codeOf_10 ?_
  refine g_iload_n hΓ rfl dX8_codeOf_12 ?_
  refine g_imul hΓ dX8_codeOf_13 ?_
  refine g_bipush hΓ (by decide) dX8_codeOf_14 ?_
  refine g_iload_n hΓ rfl dX8_codeOf_16 ?_
  refine g_imul hΓ dX8_codeOf_17 ?_
  refine g_icmp_gt (tgt := 31) hΓ (by omega) (by omega) dX8_codeOf_18 (by decide) (fun c5 => ?_) (fun c5 => ?_)
  · refine g_bipush hΓ (by decide) dX8_codeOf_31 ?_
    refine g_iload_n hΓ rfl dX8_codeOf_33 ?_
    refine g_imul hΓ dX8_codeOf_34 ?_
    refine g_bipush hΓ (by decide) dX8_codeOf_35 ?_
    refine g_iload_n hΓ rfl dX8_codeOf_37 ?_
    refine g_imul hΓ dX8_codeOf_38 ?_
    refine g_icmp_gt (tgt := 53) hΓ (by omega) (by omega) dX8_codeOf_39 (by decide) (fun c6 => ?_) (fun c6 => ?_)
    · refine g_iload_n hΓ rfl dX8_codeOf_53 ?_
      refine g_if_le (tgt := 69) hΓ (by omega) dX8_codeOf_54 (by decide) (fun c7 => ?_) (fun c7 => ?_)
      · refine g_iload_n hΓ rfl dX8_codeOf_69 ?_
        refine g_if_le (tgt := 78) hΓ (by omega) dX8_codeOf_70 (by decide) (fun c8 => ?_) (fun c8 => ?_)
        · refine g_iconst hΓ dX8_codeOf_78 ?_
          exact x_iret hΓ dX8_codeOf_79 (Nat.zero_le _) (Nat.zero_le _) ⟨ri (by rw [cdv]; (repeat' split) <;> first | rfl | omega), rfl, rfl, rfl⟩
        · refine g_bipush hΓ (by decide) dX8_codeOf_73 ?_
          refine g_goto (tgt := 79) hΓ dX8_codeOf_75 (by decide) ?_
          exact x_iret hΓ dX8_codeOf_79 (Nat.zero_le _) (Nat.zero_le _) ⟨ri (by rw [cdv]; (repeat' split) <;> first | rfl | omega), rfl, rfl, rfl⟩
      · refine g_iload_n hΓ rfl dX8_codeOf_57 ?_
        refine g_if_le (tgt := 65) hΓ (by omega) dX8_codeOf_58 (by decide) (fun c9 => ?_) (fun c9 => ?_)
        · refine g_iconst hΓ dX8_codeOf_65 ?_
          refine g_goto (tgt := 79) hΓ dX8_codeOf_66 (by decide) ?_
          exact x_iret hΓ dX8_codeOf_79 (Nat.zero_le _) (Nat.zero_le _) ⟨ri (by rw [cdv]; (repeat' split) <;> first | rfl | omega), rfl, rfl, rfl⟩
        · refine g_iconst hΓ dX8_codeOf_61 ?_
          refine g_goto (tgt := 79) hΓ dX8_codeOf_62 (by decide) ?_
          exact x_iret hΓ dX8_codeOf_79 (Nat.zero_le _) (Nat.zero_le _) ⟨ri (by rw [cdv]; (repeat' split) <;> first | rfl | omega), rfl, rfl, rfl⟩
    · refine g_iload_n hΓ rfl dX8_codeOf_42 ?_
      refine g_if_le (tgt := 50) hΓ (by omega) dX8_codeOf_43 (by decide) (fun c10 => ?_) (fun c10 => ?_)
      · refine g_bipush hΓ (by decide) dX8_codeOf_50 ?_
        exact x_iret hΓ dX8_codeOf_52 (Nat.zero_le _) (Nat.zero_le _) ⟨ri (by rw [cdv]; (repeat' split) <;> first | rfl | omega), rfl, rfl, rfl⟩
      · refine g_iconst hΓ dX8_codeOf_46 ?_
        refine g_goto (tgt := 52) hΓ dX8_codeOf_47 (by decide) ?_
        exact x_iret hΓ dX8_codeOf_52 (Nat.zero_le _) (Nat.zero_le _) ⟨ri (by rw [cdv]; (repeat' split) <;> first | rfl | omega), rfl, rfl, rfl⟩
  · refine g_iload_n hΓ rfl dX8_codeOf_21 ?_
    refine g_if_le (tgt := 29) hΓ (by omega) dX8_codeOf_22 (by decide) (fun c11 => ?_) (fun c11 => ?_)
    · refine g_iconst hΓ dX8_codeOf_29 ?_
      exact x_iret hΓ dX8_codeOf_30 (Nat.zero_le _) (Nat.zero_le _) ⟨ri (by rw [cdv]; (repeat' split) <;> first | rfl | omega), rfl, rfl, rfl⟩
    · refine g_iconst hΓ dX8_codeOf_25 ?_
      refine g_goto (tgt := 30) hΓ dX8_codeOf_26 (by decide) ?_
      exact x_iret hΓ dX8_codeOf_30 (Nat.zero_le _) (Nat.zero_le _) ⟨ri (by rw [cdv]; (repeat' split) <;> first | rfl | omega), rfl, rfl, rfl⟩
