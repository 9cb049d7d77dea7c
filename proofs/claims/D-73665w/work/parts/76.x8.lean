set_option maxRecDepth 100000
set_option maxHeartbeats 4000000 in
theorem x_X2_begins_46 {l : Launch} {E : gE} {X : State → Prop} {Z : Nat → Nat} {Y : Nat → Option Nat} (hE : E.2.1 = clsX) (hX : xOK l E X Z Y) (S : xS) (D : xD) (R : xR) (bx la ma : Nat)  (hbx : (S bx).1 = 3) (hla : R bx 0 = some la ∧ (S la).1 = 46 ∧ (S la).2.1 = 2) (hma : R bx 1 = some ma ∧ (S ma).1 = 47 ∧ (S ma).2.1 = 2) (hAw : ∀ q, wk (S q).1 = true → E.2.2 q) : xC l E X yX2_begins cX2_begins 2 none 0 0 0 [.ref bx] S D R (fun rv S' D' R' => rv = none ∧ (D' la 0 = 99 ∧ D' la 1 = 99 ∧ D' ma 0 = 0 ∧ D' ma 1 = 0) ∧ S' = S ∧ fr S D D' [46, 47] ∧ R' = R) := by
  refine xC.of hX.1 (by decide) [some (.ref bx), none] (Nat.le_of_ble_eq_true rfl) rfl rfl (fun Γ hΓ => ?_)
  refine g_iconst hΓ dX2_begins_0 ?_
  refine g_istore_n hΓ dX2_begins_1 rfl (Nat.le_of_ble_eq_true rfl) (lv' := [some (.ref bx), some (.int (iI 0))]) rfl ?_
  refine g_iload_n hΓ rfl dX2_begins_2 ?_
  refine g_iconst hΓ dX2_begins_3 ?_
  refine g_icmp_ge (tgt := 28) hΓ (by omega) (by omega) dX2_begins_4 (by decide) (fun c1 => ?_) (fun c1 => ?_)
  · exact absurd c1 (by decide)
  · refine g_aload_n hΓ rfl dX2_begins_7 ?_
    refine x_geta (r := some la) (c := 2) hE hΓ in_X2 rfl hbx ⟨by decide, rfl⟩ 0 (ji := 0) rfl (by decide) (by decide) rfl q237 rfl rfl hla.1 dX2_begins_8 ?_
    show gW Γ E (xM E S D R) 0 0 _ _ (.ref la :: _)
    refine g_iload_n hΓ rfl dX2_begins_11 ?_
    refine g_bipush hΓ (by decide) dX2_begins_12 ?_
    refine x_iast hΓ hla.2.1 hla.2.2 ⟨by decide, rfl⟩ (hAw _ (by rw [hla.2.1]; rfl)) (by omega) (by omega) dX2_begins_14 (fun τ2 τ2e => ?_)
    have τ2r : τ2 la 0 = 99 := by rw [τ2e]; exact us_s _ _ _ _
    have τ2f : ∀ (q9 : Nat) (j9 : Int), (q9 ≠ la ∨ j9 ≠ 0) → τ2 q9 j9 = D q9 j9 := fun q9 j9 hh => by rw [τ2e]; exact us_n hh
    refine g_aload_n hΓ rfl dX2_begins_15 ?_
    refine x_geta (r := some ma) (c := 2) hE hΓ in_X2 rfl hbx ⟨by decide, rfl⟩ 1 (ji := 1) rfl (by decide) (by decide) rfl q238 rfl rfl hma.1 dX2_begins_16 ?_
    show gW Γ E (xM E S τ2 R) 0 0 _ _ (.ref ma :: _)
    refine g_iload_n hΓ rfl dX2_begins_19 ?_
    refine g_iconst hΓ dX2_begins_20 ?_
    refine x_iast hΓ hma.2.1 hma.2.2 ⟨by decide, rfl⟩ (hAw _ (by rw [hma.2.1]; rfl)) (by omega) (by omega) dX2_begins_21 (fun τ3 τ3e => ?_)
    have τ3r : τ3 ma 0 = 0 := by rw [τ3e]; exact us_s _ _ _ _
    have τ3f : ∀ (q9 : Nat) (j9 : Int), (q9 ≠ ma ∨ j9 ≠ 0) → τ3 q9 j9 = τ2 q9 j9 := fun q9 j9 hh => by rw [τ3e]; exact us_n hh
    refine g_iinc hΓ dX2_begins_22 rfl rfl (lv' := [some (.ref bx), some (.int (iI 1))]) rfl ?_
    refine g_goto (tgt := 2) hΓ dX2_begins_25 (by decide) ?_
    refine g_iload_n hΓ rfl dX2_begins_2 ?_
    refine g_iconst hΓ dX2_begins_3 ?_
    refine g_icmp_ge (tgt := 28) hΓ (by omega) (by omega) dX2_begins_4 (by decide) (fun c4 => ?_) (fun c4 => ?_)
    · exact absurd c4 (by decide)
    · refine g_aload_n hΓ rfl dX2_begins_7 ?_
      refine x_geta (r := some la) (c := 2) hE hΓ in_X2 rfl hbx ⟨by decide, rfl⟩ 0 (ji := 0) rfl (by decide) (by decide) rfl q237 rfl rfl hla.1 dX2_begins_8 ?_
      show gW Γ E (xM E S τ3 R) 0 0 _ _ (.ref la :: _)
      refine g_iload_n hΓ rfl dX2_begins_11 ?_
      refine g_bipush hΓ (by decide) dX2_begins_12 ?_
      refine x_iast hΓ hla.2.1 hla.2.2 ⟨by decide, rfl⟩ (hAw _ (by rw [hla.2.1]; rfl)) (by omega) (by omega) dX2_begins_14 (fun τ5 τ5e => ?_)
      have τ5r : τ5 la 1 = 99 := by rw [τ5e]; exact us_s _ _ _ _
      have τ5f : ∀ (q9 : Nat) (j9 : Int), (q9 ≠ la ∨ j9 ≠ 1) → τ5 q9 j9 = τ3 q9 j9 := fun q9 j9 hh => by rw [τ5e]; exact us_n hh
      refine g_aload_n hΓ rfl dX2_begins_15 ?_
      refine x_geta (r := some ma) (c := 2) hE hΓ in_X2 rfl hbx ⟨by decide, rfl⟩ 1 (ji := 1) rfl (by decide) (by decide) rfl q238 rfl rfl hma.1 dX2_begins_16 ?_
      show gW Γ E (xM E S τ5 R) 0 0 _ _ (.ref ma :: _)
      refine g_iload_n hΓ rfl dX2_begins_19 ?_
      refine g_iconst hΓ dX2_begins_20 ?_
      refine x_iast hΓ hma.2.1 hma.2.2 ⟨by decide, rfl⟩ (hAw _ (by rw [hma.2.1]; rfl)) (by omega) (by omega) dX2_begins_21 (fun τ6 τ6e => ?_)
      have τ6r : τ6 ma 1 = 0 := by rw [τ6e]; exact us_s _ _ _ _
      have τ6f : ∀ (q9 : Nat) (j9 : Int), (q9 ≠ ma ∨ j9 ≠ 1) → τ6 q9 j9 = τ5 q9 j9 := fun q9 j9 hh => by rw [τ6e]; exact us_n hh
      refine g_iinc hΓ dX2_begins_22 rfl rfl (lv' := [some (.ref bx), some (.int (iI 2))]) rfl ?_
      refine g_goto (tgt := 2) hΓ dX2_begins_25 (by decide) ?_
      refine g_iload_n hΓ rfl dX2_begins_2 ?_
      refine g_iconst hΓ dX2_begins_3 ?_
      refine g_icmp_ge (tgt := 28) hΓ (by omega) (by omega) dX2_begins_4 (by decide) (fun c7 => ?_) (fun c7 => ?_)
      · exact x_vret hΓ dX2_begins_28 (Nat.zero_le _) (Nat.zero_le _) ⟨rfl, ⟨((((τ6f _ _ (Or.inl (ne_k hla.2.1 hma.2.1 (by decide)))).trans (τ5f _ _ (Or.inr (by decide)))).trans (τ3f _ _ (Or.inl (ne_k hla.2.1 hma.2.1 (by decide))))).trans τ2r), ((τ6f _ _ (Or.inl (ne_k hla.2.1 hma.2.1 (by decide)))).trans τ5r), (((τ6f _ _ (Or.inr (by decide))).trans (τ5f _ _ (Or.inl (ne_k hma.2.1 hla.2.1 (by decide))))).trans τ3r), τ6r⟩, rfl, (fun q9 j9 hk9 => by exact ((((τ6f q9 j9 (Or.inl (fun e9 => hk9 (by rw [e9, hma.2.1, mdN _ (by decide)]; decide)))).trans (τ5f q9 j9 (Or.inl (fun e9 => hk9 (by rw [e9, hla.2.1, mdN _ (by decide)]; decide))))).trans (τ3f q9 j9 (Or.inl (fun e9 => hk9 (by rw [e9, hma.2.1, mdN _ (by decide)]; decide))))).trans (τ2f q9 j9 (Or.inl (fun e9 => hk9 (by rw [e9, hla.2.1, mdN _ (by decide)]; decide)))))), rfl⟩
      · exact absurd c7 (by decide)
set_option maxHeartbeats 4000000 in
theorem x_X2_takes_46 {l : Launch} {E : gE} {X : State → Prop} {Z : Nat → Nat} {Y : Nat → Option Nat} (hE : E.2.1 = clsX) (hX : xOK l E X Z Y) (S : xS) (D : xD) (R : xR) (bx la ma : Nat) (s : Nat) (hbx : (S bx).1 = 3) (hla : R bx 0 = some la ∧ (S la).1 = 46 ∧ (S la).2.1 = 2) (hma : R bx 1 = some ma ∧ (S ma).1 = 47 ∧ (S ma).2.1 = 2) (hs : (S s).1 = 8) (hB : strB S D R s) (hrg : (0 ≤ D la 0 ∧ D la 0 ≤ 99) ∧ (0 ≤ D la 1 ∧ D la 1 ≤ 99) ∧ (0 ≤ D ma 0 ∧ D ma 0 ≤ 99) ∧ (0 ≤ D ma 1 ∧ D ma 1 ≤ 99)) (hAw : ∀ q, wk (S q).1 = true → E.2.2 q) : xC l E X yX2_takes cX2_takes 3 none 2 0 0 [.ref bx, .ref s] S D R (fun rv S' D' R' => rv = none ∧ (D' la 0 = min (D la 0) (enF 0 (strN S R s) (D (rf R s 0)) 0) ∧ D' la 1 = min (D la 1) (enF 0 (strN S R s) (D (rf R s 0)) 1) ∧ D' ma 0 = max (D ma 0) (enF 1 (strN S R s) (D (rf R s 0)) 0) ∧ D' ma 1 = max (D ma 1) (enF 1 (strN S R s) (D (rf R s 0)) 1)) ∧ S' = S ∧ fr S D D' [46, 47] ∧ R' = R) := by
  refine xC.of hX.1 (by decide) [some (.ref bx), some (.ref s), none] (Nat.le_of_ble_eq_true rfl) rfl rfl (fun Γ hΓ => ?_)
  have hf0 := hB.1.2.1
  have er := fun b i (hi : i = 0 ∨ i = 1) => enF_r (b := b) hB.2.1 hi
  have e00 := er 0 0 (by decide)
  have e01 := er 0 1 (by decide)
  have e10 := er 1 0 (by decide)
  have e11 := er 1 1 (by decide)
  refine g_iconst hΓ dX2_takes_0 ?_
  refine g_istore_n hΓ dX2_takes_1 rfl (Nat.le_of_ble_eq_true rfl) (lv' := [some (.ref bx), some (.ref s), some (.int (iI 0))]) rfl ?_
  refine g_iload_n hΓ rfl dX2_takes_2 ?_
  refine g_iconst hΓ dX2_takes_3 ?_
  refine g_icmp_ge (tgt := 55) hΓ (by omega) (by omega) dX2_takes_4 (by decide) (fun c1 => ?_) (fun c1 => ?_)
  · exact absurd c1 (by decide)
  · refine g_aload_n hΓ rfl dX2_takes_7 ?_
    refine x_geta (r := some la) (c := 2) hE hΓ in_X2 rfl hbx ⟨by decide, rfl⟩ 0 (ji := 0) rfl (by decide) (by decide) rfl q237 rfl rfl hla.1 dX2_takes_8 ?_
    show gW Γ E (xM E S D R) 0 0 _ _ (.ref la :: _)
    refine g_iload_n hΓ rfl dX2_takes_11 ?_
    refine g_aload_n hΓ rfl dX2_takes_12 ?_
    refine x_geta (r := some la) (c := 2) hE hΓ in_X2 rfl hbx ⟨by decide, rfl⟩ 0 (ji := 0) rfl (by decide) (by decide) rfl q237 rfl rfl hla.1 dX2_takes_13 ?_
    show gW Γ E (xM E S D R) 0 0 _ _ (.ref la :: _)
    refine g_iload_n hΓ rfl dX2_takes_16 ?_
    refine x_iald hΓ hla.2.1 hla.2.2 ⟨by decide, rfl⟩ (by omega) (by omega) dX2_takes_17 ?_
    refine g_aload_n hΓ rfl dX2_takes_18 ?_
    refine g_iload_n hΓ rfl dX2_takes_19 ?_
    refine g_iconst hΓ dX2_takes_20 ?_
    refine x_callV (As := [.int (iI 0), .int (iI 0)]) (rest := [.int (iI (D la 0)), .int (iI 0), .ref la]) (c := 8) hE hΓ (x_X8_end hE hX S D R s 0 0 hs (strB_fr hB hs (m := [46, 47]) (by exact fr_rfl) (by decide)) (by omega) (by omega) ) hs ⟨by decide, rfl⟩ rfl rfl q964 q965 q966 q144 q967 ndX8_end rfl (by decide) (by decide) (Nat.zero_le _) (Nat.zero_le _) rfl (Nat.le_of_ble_eq_true rfl) dX2_takes_21 rfl (fun v2 S2 τ2 ρ2 h2 => ?_)
    obtain ⟨rfl, S2e, τ2e, ρ2e⟩ := h2
    have S2e := S2e.symm; subst S2e
    have τ2e := τ2e.symm; subst τ2e
    have ρ2e := ρ2e.symm; subst ρ2e
    show gW Γ E (xM E S D R) _ _ _ _ (.int (iI (enF 0 (strN S R s) (D (rf R s 0)) 0)) :: _)
    refine x_callS (As := [.int (iI (D la 0)), .int (iI (enF 0 (strN S R s) (D (rf R s 0)) 0))]) (rest := [.int (iI 0), .ref la]) hΓ (x_J3_min hE hX S D R (D la 0) (enF 0 (strN S R s) (D (rf R s 0)) 0) (by first | assumption | omega) (by first | assumption | omega)) rfl q970 q223 q129 q224 ndJ3_min rfl (by decide) (by decide) (Nat.zero_le _) (Nat.zero_le _) rfl (Nat.le_of_ble_eq_true rfl) dX2_takes_24 rfl (fun v3 S3 τ3 ρ3 h3 => ?_)
    obtain ⟨rfl, S3e, τ3e, ρ3e⟩ := h3
    have S3e := S3e.symm; subst S3e
    have τ3e := τ3e.symm; subst τ3e
    have ρ3e := ρ3e.symm; subst ρ3e
    show gW Γ E (xM E S D R) _ _ _ _ (.int (iI (min (D la 0) (enF 0 (strN S R s) (D (rf R s 0)) 0))) :: _)
    refine x_iast hΓ hla.2.1 hla.2.2 ⟨by decide, rfl⟩ (hAw _ (by rw [hla.2.1]; rfl)) (by omega) (by omega) dX2_takes_27 (fun τ4 τ4e => ?_)
    have τ4r : τ4 la 0 = min (D la 0) (enF 0 (strN S R s) (D (rf R s 0)) 0) := by rw [τ4e]; exact us_s _ _ _ _
    have τ4f : ∀ (q9 : Nat) (j9 : Int), (q9 ≠ la ∨ j9 ≠ 0) → τ4 q9 j9 = D q9 j9 := fun q9 j9 hh => by rw [τ4e]; exact us_n hh
    refine g_aload_n hΓ rfl dX2_takes_28 ?_
    refine x_geta (r := some ma) (c := 2) hE hΓ in_X2 rfl hbx ⟨by decide, rfl⟩ 1 (ji := 1) rfl (by decide) (by decide) rfl q238 rfl rfl hma.1 dX2_takes_29 ?_
    show gW Γ E (xM E S τ4 R) 0 0 _ _ (.ref ma :: _)
    refine g_iload_n hΓ rfl dX2_takes_32 ?_
    refine g_aload_n hΓ rfl dX2_takes_33 ?_
    refine x_geta (r := some ma) (c := 2) hE hΓ in_X2 rfl hbx ⟨by decide, rfl⟩ 1 (ji := 1) rfl (by decide) (by decide) rfl q238 rfl rfl hma.1 dX2_takes_34 ?_
    show gW Γ E (xM E S τ4 R) 0 0 _ _ (.ref ma :: _)
    refine g_iload_n hΓ rfl dX2_takes_37 ?_
    refine x_iald hΓ hma.2.1 hma.2.2 ⟨by decide, rfl⟩ (by omega) (by omega) dX2_takes_38 ?_
    refine g_topi ((τ4f ma 0 (Or.inl (ne_k hma.2.1 hla.2.1 (by decide))))) ?_
    refine g_aload_n hΓ rfl dX2_takes_39 ?_
    refine g_iload_n hΓ rfl dX2_takes_40 ?_
    refine g_iconst hΓ dX2_takes_41 ?_
    refine x_callV (As := [.int (iI 0), .int (iI 1)]) (rest := [.int (iI (D ma 0)), .int (iI 0), .ref ma]) (c := 8) hE hΓ (x_X8_end hE hX S τ4 R s 0 1 hs (strB_fr hB hs (m := [46, 47]) (by exact (fun q9 j9 hk9 => by exact (τ4f q9 j9 (Or.inl (fun e9 => hk9 (by rw [e9, hla.2.1, mdN _ (by decide)]; decide)))))) (by decide)) (by omega) (by omega) ) hs ⟨by decide, rfl⟩ rfl rfl q964 q965 q966 q144 q967 ndX8_end rfl (by decide) (by decide) (Nat.zero_le _) (Nat.zero_le _) rfl (Nat.le_of_ble_eq_true rfl) dX2_takes_42 rfl (fun v5 S5 τ5 ρ5 h5 => ?_)
    obtain ⟨rfl, S5e, τ5e, ρ5e⟩ := h5
    have S5e := S5e.symm; subst S5e
    have τ5e := τ5e.symm; subst τ5e
    have ρ5e := ρ5e.symm; subst ρ5e
    rw [show τ4 (rf R s 0) = D (rf R s 0) from fr_row (m := [46, 47]) (fun q9 j9 hk9 => by exact (τ4f q9 j9 (Or.inl (fun e9 => hk9 (by rw [e9, hla.2.1, mdN _ (by decide)]; decide))))) hf0 (by decide) (by decide)]
    show gW Γ E (xM E S τ4 R) _ _ _ _ (.int (iI (enF 1 (strN S R s) (D (rf R s 0)) 0)) :: _)
    refine x_callS (As := [.int (iI (D ma 0)), .int (iI (enF 1 (strN S R s) (D (rf R s 0)) 0))]) (rest := [.int (iI 0), .ref ma]) hΓ (x_J3_max hE hX S τ4 R (D ma 0) (enF 1 (strN S R s) (D (rf R s 0)) 0) (by first | assumption | omega) (by first | assumption | omega)) rfl q971 q722 q129 q723 ndJ3_max rfl (by decide) (by decide) (Nat.zero_le _) (Nat.zero_le _) rfl (Nat.le_of_ble_eq_true rfl) dX2_takes_45 rfl (fun v6 S6 τ6 ρ6 h6 => ?_)
    obtain ⟨rfl, S6e, τ6e, ρ6e⟩ := h6
    have S6e := S6e.symm; subst S6e
    have τ6e := τ6e.symm; subst τ6e
    have ρ6e := ρ6e.symm; subst ρ6e
    show gW Γ E (xM E S τ4 R) _ _ _ _ (.int (iI (max (D ma 0) (enF 1 (strN S R s) (D (rf R s 0)) 0))) :: _)
    refine x_iast hΓ hma.2.1 hma.2.2 ⟨by decide, rfl⟩ (hAw _ (by rw [hma.2.1]; rfl)) (by omega) (by omega) dX2_takes_48 (fun τ7 τ7e => ?_)
    have τ7r : τ7 ma 0 = max (D ma 0) (enF 1 (strN S R s) (D (rf R s 0)) 0) := by rw [τ7e]; exact us_s _ _ _ _
    have τ7f : ∀ (q9 : Nat) (j9 : Int), (q9 ≠ ma ∨ j9 ≠ 0) → τ7 q9 j9 = τ4 q9 j9 := fun q9 j9 hh => by rw [τ7e]; exact us_n hh
    refine g_iinc hΓ dX2_takes_49 rfl rfl (lv' := [some (.ref bx), some (.ref s), some (.int (iI 1))]) rfl ?_
    refine g_goto (tgt := 2) hΓ dX2_takes_52 (by decide) ?_
    refine g_iload_n hΓ rfl dX2_takes_2 ?_
    refine g_iconst hΓ dX2_takes_3 ?_
    refine g_icmp_ge (tgt := 55) hΓ (by omega) (by omega) dX2_takes_4 (by decide) (fun c8 => ?_) (fun c8 => ?_)
    · exact absurd c8 (by decide)
    · refine g_aload_n hΓ rfl dX2_takes_7 ?_
      refine x_geta (r := some la) (c := 2) hE hΓ in_X2 rfl hbx ⟨by decide, rfl⟩ 0 (ji := 0) rfl (by decide) (by decide) rfl q237 rfl rfl hla.1 dX2_takes_8 ?_
      show gW Γ E (xM E S τ7 R) 0 0 _ _ (.ref la :: _)
      refine g_iload_n hΓ rfl dX2_takes_11 ?_
      refine g_aload_n hΓ rfl dX2_takes_12 ?_
      refine x_geta (r := some la) (c := 2) hE hΓ in_X2 rfl hbx ⟨by decide, rfl⟩ 0 (ji := 0) rfl (by decide) (by decide) rfl q237 rfl rfl hla.1 dX2_takes_13 ?_
      show gW Γ E (xM E S τ7 R) 0 0 _ _ (.ref la :: _)
      refine g_iload_n hΓ rfl dX2_takes_16 ?_
      refine x_iald hΓ hla.2.1 hla.2.2 ⟨by decide, rfl⟩ (by omega) (by omega) dX2_takes_17 ?_
      refine g_topi (((τ7f la 1 (Or.inl (ne_k hla.2.1 hma.2.1 (by decide)))).trans (τ4f la 1 (Or.inr (by decide))))) ?_
      refine g_aload_n hΓ rfl dX2_takes_18 ?_
      refine g_iload_n hΓ rfl dX2_takes_19 ?_
      refine g_iconst hΓ dX2_takes_20 ?_
      refine x_callV (As := [.int (iI 1), .int (iI 0)]) (rest := [.int (iI (D la 1)), .int (iI 1), .ref la]) (c := 8) hE hΓ (x_X8_end hE hX S τ7 R s 1 0 hs (strB_fr hB hs (m := [46, 47]) (by exact (fun q9 j9 hk9 => by exact ((τ7f q9 j9 (Or.inl (fun e9 => hk9 (by rw [e9, hma.2.1, mdN _ (by decide)]; decide)))).trans (τ4f q9 j9 (Or.inl (fun e9 => hk9 (by rw [e9, hla.2.1, mdN _ (by decide)]; decide))))))) (by decide)) (by omega) (by omega) ) hs ⟨by decide, rfl⟩ rfl rfl q964 q965 q966 q144 q967 ndX8_end rfl (by decide) (by decide) (Nat.zero_le _) (Nat.zero_le _) rfl (Nat.le_of_ble_eq_true rfl) dX2_takes_21 rfl (fun v9 S9 τ9 ρ9 h9 => ?_)
      obtain ⟨rfl, S9e, τ9e, ρ9e⟩ := h9
      have S9e := S9e.symm; subst S9e
      have τ9e := τ9e.symm; subst τ9e
      have ρ9e := ρ9e.symm; subst ρ9e
      rw [show τ7 (rf R s 0) = D (rf R s 0) from fr_row (m := [46, 47]) (fun q9 j9 hk9 => by exact ((τ7f q9 j9 (Or.inl (fun e9 => hk9 (by rw [e9, hma.2.1, mdN _ (by decide)]; decide)))).trans (τ4f q9 j9 (Or.inl (fun e9 => hk9 (by rw [e9, hla.2.1, mdN _ (by decide)]; decide)))))) hf0 (by decide) (by decide)]
      show gW Γ E (xM E S τ7 R) _ _ _ _ (.int (iI (enF 0 (strN S R s) (D (rf R s 0)) 1)) :: _)
      refine x_callS (As := [.int (iI (D la 1)), .int (iI (enF 0 (strN S R s) (D (rf R s 0)) 1))]) (rest := [.int (iI 1), .ref la]) hΓ (x_J3_min hE hX S τ7 R (D la 1) (enF 0 (strN S R s) (D (rf R s 0)) 1) (by first | assumption | omega) (by first | assumption | omega)) rfl q970 q223 q129 q224 ndJ3_min rfl (by decide) (by decide) (Nat.zero_le _) (Nat.zero_le _) rfl (Nat.le_of_ble_eq_true rfl) dX2_takes_24 rfl (fun v10 S10 τ10 ρ10 h10 => ?_)
      obtain ⟨rfl, S10e, τ10e, ρ10e⟩ := h10
      have S10e := S10e.symm; subst S10e
      have τ10e := τ10e.symm; subst τ10e
      have ρ10e := ρ10e.symm; subst ρ10e
      show gW Γ E (xM E S τ7 R) _ _ _ _ (.int (iI (min (D la 1) (enF 0 (strN S R s) (D (rf R s 0)) 1))) :: _)
      refine x_iast hΓ hla.2.1 hla.2.2 ⟨by decide, rfl⟩ (hAw _ (by rw [hla.2.1]; rfl)) (by omega) (by omega) dX2_takes_27 (fun τ11 τ11e => ?_)
      have τ11r : τ11 la 1 = min (D la 1) (enF 0 (strN S R s) (D (rf R s 0)) 1) := by rw [τ11e]; exact us_s _ _ _ _
      have τ11f : ∀ (q9 : Nat) (j9 : Int), (q9 ≠ la ∨ j9 ≠ 1) → τ11 q9 j9 = τ7 q9 j9 := fun q9 j9 hh => by rw [τ11e]; exact us_n hh
      refine g_aload_n hΓ rfl dX2_takes_28 ?_
      refine x_geta (r := some ma) (c := 2) hE hΓ in_X2 rfl hbx ⟨by decide, rfl⟩ 1 (ji := 1) rfl (by decide) (by decide) rfl q238 rfl rfl hma.1 dX2_takes_29 ?_
      show gW Γ E (xM E S τ11 R) 0 0 _ _ (.ref ma :: _)
      refine g_iload_n hΓ rfl dX2_takes_32 ?_
      refine g_aload_n hΓ rfl dX2_takes_33 ?_
      refine x_geta (r := some ma) (c := 2) hE hΓ in_X2 rfl hbx ⟨by decide, rfl⟩ 1 (ji := 1) rfl (by decide) (by decide) rfl q238 rfl rfl hma.1 dX2_takes_34 ?_
      show gW Γ E (xM E S τ11 R) 0 0 _ _ (.ref ma :: _)
      refine g_iload_n hΓ rfl dX2_takes_37 ?_
      refine x_iald hΓ hma.2.1 hma.2.2 ⟨by decide, rfl⟩ (by omega) (by omega) dX2_takes_38 ?_
      refine g_topi ((((τ11f ma 1 (Or.inl (ne_k hma.2.1 hla.2.1 (by decide)))).trans (τ7f ma 1 (Or.inr (by decide)))).trans (τ4f ma 1 (Or.inl (ne_k hma.2.1 hla.2.1 (by decide)))))) ?_
      refine g_aload_n hΓ rfl dX2_takes_39 ?_
      refine g_iload_n hΓ rfl dX2_takes_40 ?_
      refine g_iconst hΓ dX2_takes_41 ?_
      refine x_callV (As := [.int (iI 1), .int (iI 1)]) (rest := [.int (iI (D ma 1)), .int (iI 1), .ref ma]) (c := 8) hE hΓ (x_X8_end hE hX S τ11 R s 1 1 hs (strB_fr hB hs (m := [46, 47]) (by exact (fun q9 j9 hk9 => by exact (((τ11f q9 j9 (Or.inl (fun e9 => hk9 (by rw [e9, hla.2.1, mdN _ (by decide)]; decide)))).trans (τ7f q9 j9 (Or.inl (fun e9 => hk9 (by rw [e9, hma.2.1, mdN _ (by decide)]; decide))))).trans (τ4f q9 j9 (Or.inl (fun e9 => hk9 (by rw [e9, hla.2.1, mdN _ (by decide)]; decide))))))) (by decide)) (by omega) (by omega) ) hs ⟨by decide, rfl⟩ rfl rfl q964 q965 q966 q144 q967 ndX8_end rfl (by decide) (by decide) (Nat.zero_le _) (Nat.zero_le _) rfl (Nat.le_of_ble_eq_true rfl) dX2_takes_42 rfl (fun v12 S12 τ12 ρ12 h12 => ?_)
      obtain ⟨rfl, S12e, τ12e, ρ12e⟩ := h12
      have S12e := S12e.symm; subst S12e
      have τ12e := τ12e.symm; subst τ12e
      have ρ12e := ρ12e.symm; subst ρ12e
      rw [show τ11 (rf R s 0) = D (rf R s 0) from fr_row (m := [46, 47]) (fun q9 j9 hk9 => by exact (((τ11f q9 j9 (Or.inl (fun e9 => hk9 (by rw [e9, hla.2.1, mdN _ (by decide)]; decide)))).trans (τ7f q9 j9 (Or.inl (fun e9 => hk9 (by rw [e9, hma.2.1, mdN _ (by decide)]; decide))))).trans (τ4f q9 j9 (Or.inl (fun e9 => hk9 (by rw [e9, hla.2.1, mdN _ (by decide)]; decide)))))) hf0 (by decide) (by decide)]
      show gW Γ E (xM E S τ11 R) _ _ _ _ (.int (iI (enF 1 (strN S R s) (D (rf R s 0)) 1)) :: _)
      refine x_callS (As := [.int (iI (D ma 1)), .int (iI (enF 1 (strN S R s) (D (rf R s 0)) 1))]) (rest := [.int (iI 1), .ref ma]) hΓ (x_J3_max hE hX S τ11 R (D ma 1) (enF 1 (strN S R s) (D (rf R s 0)) 1) (by first | assumption | omega) (by first | assumption | omega)) rfl q971 q722 q129 q723 ndJ3_max rfl (by decide) (by decide) (Nat.zero_le _) (Nat.zero_le _) rfl (Nat.le_of_ble_eq_true rfl) dX2_takes_45 rfl (fun v13 S13 τ13 ρ13 h13 => ?_)
      obtain ⟨rfl, S13e, τ13e, ρ13e⟩ := h13
      have S13e := S13e.symm; subst S13e
      have τ13e := τ13e.symm; subst τ13e
      have ρ13e := ρ13e.symm; subst ρ13e
      show gW Γ E (xM E S τ11 R) _ _ _ _ (.int (iI (max (D ma 1) (enF 1 (strN S R s) (D (rf R s 0)) 1))) :: _)
      refine x_iast hΓ hma.2.1 hma.2.2 ⟨by decide, rfl⟩ (hAw _ (by rw [hma.2.1]; rfl)) (by omega) (by omega) dX2_takes_48 (fun τ14 τ14e => ?_)
      have τ14r : τ14 ma 1 = max (D ma 1) (enF 1 (strN S R s) (D (rf R s 0)) 1) := by rw [τ14e]; exact us_s _ _ _ _
      have τ14f : ∀ (q9 : Nat) (j9 : Int), (q9 ≠ ma ∨ j9 ≠ 1) → τ14 q9 j9 = τ11 q9 j9 := fun q9 j9 hh => by rw [τ14e]; exact us_n hh
      refine g_iinc hΓ dX2_takes_49 rfl rfl (lv' := [some (.ref bx), some (.ref s), some (.int (iI 2))]) rfl ?_
      refine g_goto (tgt := 2) hΓ dX2_takes_52 (by decide) ?_
      refine g_iload_n hΓ rfl dX2_takes_2 ?_
      refine g_iconst hΓ dX2_takes_3 ?_
      refine g_icmp_ge (tgt := 55) hΓ (by omega) (by omega) dX2_takes_4 (by decide) (fun c15 => ?_) (fun c15 => ?_)
      · exact x_vret hΓ dX2_takes_55 (Nat.zero_le _) (Nat.zero_le _) ⟨rfl, ⟨((((τ14f _ _ (Or.inl (ne_k hla.2.1 hma.2.1 (by decide)))).trans (τ11f _ _ (Or.inr (by decide)))).trans (τ7f _ _ (Or.inl (ne_k hla.2.1 hma.2.1 (by decide))))).trans τ4r), ((τ14f _ _ (Or.inl (ne_k hla.2.1 hma.2.1 (by decide)))).trans τ11r), (((τ14f _ _ (Or.inr (by decide))).trans (τ11f _ _ (Or.inl (ne_k hma.2.1 hla.2.1 (by decide))))).trans τ7r), τ14r⟩, rfl, (fun q9 j9 hk9 => by exact ((((τ14f q9 j9 (Or.inl (fun e9 => hk9 (by rw [e9, hma.2.1, mdN _ (by decide)]; decide)))).trans (τ11f q9 j9 (Or.inl (fun e9 => hk9 (by rw [e9, hla.2.1, mdN _ (by decide)]; decide))))).trans (τ7f q9 j9 (Or.inl (fun e9 => hk9 (by rw [e9, hma.2.1, mdN _ (by decide)]; decide))))).trans (τ4f q9 j9 (Or.inl (fun e9 => hk9 (by rw [e9, hla.2.1, mdN _ (by decide)]; decide)))))), rfl⟩
      · exact absurd c15 (by decide)
set_option maxHeartbeats 4000000 in
theorem x_X2_around_46 {l : Launch} {E : gE} {X : State → Prop} {Z : Nat → Nat} {Y : Nat → Option Nat} (hE : E.2.1 = clsX) (hX : xOK l E X Z Y) (S : xS) (D : xD) (R : xR) (bx la ma : Nat) (a ka : Nat) (σ : mS) (first many : Int) (hbx : (S bx).1 = 3) (hla : R bx 0 = some la ∧ (S la).1 = 46 ∧ (S la).2.1 = 2) (hma : R bx 1 = some ma ∧ (S ma).1 = 47 ∧ (S ma).2.1 = 2) (hka : (S a).1 = ka) (h3k : ka = 10 ∨ ka = 12 ∨ ka = 13) (hls : lsOK Z S D R a) (hlr : lsR S D R a σ first many) (hle : letS σ first many) (hG : GS S D R) (hAw : ∀ q, wk (S q).1 = true → E.2.2 q) : xC l E X yX2_around cX2_around 3 (some (.object "LetterPen$Box")) 4 0 0 [.ref bx, .ref a] S D R (fun rv S' D' R' => rv = some (.ref bx) ∧ (∀ i, (i = 0 ∨ i = 1) → D' la i = bxF 0 σ i first many.toNat ∧ D' ma i = bxF 1 σ i first many.toNat) ∧ S' = S ∧ fr S D D' [46, 47] ∧ R' = R) := by
  refine xC.of hX.1 (by decide) [some (.ref bx), some (.ref a), none] (Nat.le_of_ble_eq_true rfl) rfl rfl (fun Γ hΓ => ?_)
  have hkr : 10 ≤ ka ∧ ka ≤ 17 := by omega
  obtain ⟨b1, kb1, hbr1, hbe1, hbk1, hbq1, hbc1⟩ := lsOK_b hls (by rw [hka]; exact hkr)
  have hm0 := hle.2.1
  have hm8 := hle.2.2.1
  have hmm := hlr.1
  have loop : ∀ (fu : Nat) (t : xD) (k : Int), (many - k).toNat < fu → (0 ≤ k ∧ k ≤ many) → (fr S D t [46, 47]) → (∀ i, (i = 0 ∨ i = 1) → t la i = bxF 0 σ i first k.toNat ∧ t ma i = bxF 1 σ i first k.toNat) → gW Γ E (xM E S t R) 0 0 6 [some (.ref bx), some (.ref a), some (.int (iI k))] [] := by
    intro fu
    induction fu with
    | zero => intro t k hn; exact absurd hn (Nat.not_lt_zero _)
    | succ fu ih_loop =>
      intro t k hn hk ht hb
      have br := fun b ax (hax : ax = 0 ∨ ax = 1) => bxF_r (b := b) hle hax k.toNat (by omega)
      refine g_iload_n hΓ rfl dX2_around_6 ?_
      refine g_aload_n hΓ rfl dX2_around_7 ?_
      refine x_callV (As := []) (rest := [.int (iI k)]) (c := 10) hE hΓ (x_J2_size hE hX S t R a ka hka hkr ) hka (ks_10_17 hkr) rfl rfl q957 q662 q663 q127 q664 ndJ2_size rfl (by decide) (by decide) (Nat.zero_le _) (Nat.zero_le _) rfl (Nat.le_of_ble_eq_true rfl) dX2_around_8 rfl (fun v2 S2 τ2 ρ2 h2 => ?_)
      obtain ⟨rfl, S2e, τ2e, ρ2e⟩ := h2
      have S2e := S2e.symm; subst S2e
      have τ2e := τ2e.symm; subst τ2e
      have ρ2e := ρ2e.symm; subst ρ2e
      refine g_topi (((fr_at ht (k := ka) hka (by rw [mdN _ (by omega)]; intro h9; simp at h9; omega)).trans hlr.1)) ?_
      show gW Γ E (xM E S t R) _ _ _ _ (.int (iI many) :: _)
      refine g_icmp_ge (tgt := 32) hΓ (by omega) (by omega) dX2_around_11 (by decide) (fun c3 => ?_) (fun c3 => ?_)
      · refine g_aload_n hΓ rfl dX2_around_32 ?_
        exact x_aret hΓ (Or.inl ⟨_, rfl⟩) (Or.inr ⟨_, rfl⟩) dX2_around_33 (Nat.zero_le _) (Nat.zero_le _) ⟨rfl, (fun i hi => by rw [show many.toNat = k.toNat by omega]; exact hb i hi), rfl, ht, rfl⟩
      · refine g_aload_n hΓ rfl dX2_around_14 ?_
        refine g_aload_n hΓ rfl dX2_around_15 ?_
        refine g_iload_n hΓ rfl dX2_around_16 ?_
        have he4 := lsOK_e hls hbe1 (i := k) (by omega)
        have hk4 : (S (lE R a k)).1 = 8 := by rw [he4.2, hka]; rcases h3k with h9 | h9 | h9 <;> rw [h9] <;> rfl
        have hz6 : t a 2 = many := ((fr_at ht (k := ka) hka (by rw [mdN _ (by omega)]; intro h9; simp at h9; omega)).trans hlr.1)
        refine x_callV (As := [.int (iI k)]) (rest := [.ref bx]) (c := 10) hE hΓ (x_J2_get hE hX S t R a b1 (lE R a k) ka kb1 ((S b1).2.1) k hka hkr hbr1 hbk1 hbq1 rfl (by omega) (by omega) he4.1 ) hka (ks_10_17 hkr) rfl rfl q958 q858 q859 q127 q860 ndJ2_get rfl (by decide) (by decide) (Nat.zero_le _) (Nat.zero_le _) rfl (Nat.le_of_ble_eq_true rfl) dX2_around_17 rfl (fun v5 S5 τ5 ρ5 h5 => ?_)
        obtain ⟨rfl, S5e, τ5e, ρ5e⟩ := h5
        have S5e := S5e.symm; subst S5e
        have τ5e := τ5e.symm; subst τ5e
        have ρ5e := ρ5e.symm; subst ρ5e
        show gW Γ E (xM E S t R) _ _ _ _ (.ref (lE R a k) :: _)
        refine x_castS (c := 8) hE hΓ rfl q959 hk4 ⟨by decide, rfl⟩ rfl dX2_around_20 ?_
        have hsk := hlr.2 k (by omega) (by omega)
        have hsr := hle.2.2.2.2 (first + k) (by omega) (by omega)
        refine x_callV (As := [.ref (lE R a k)]) (rest := []) (c := 2) hE hΓ (x_X2_takes_46 hE hX S t R bx la ma (lE R a k) hbx ⟨hla.1, hla.2.1, hla.2.2⟩ ⟨hma.1, hma.2.1, hma.2.2⟩ hk4 (strB_fr (hG _ (hlr.2 k (by omega) (by omega)).1).1 (hlr.2 k (by omega) (by omega)).1 ht (by decide)) ⟨by rw [(hb 0 (by decide)).1]; exact br 0 0 (by decide), by rw [(hb 1 (by decide)).1]; exact br 0 1 (by decide), by rw [(hb 0 (by decide)).2]; exact br 1 0 (by decide), by rw [(hb 1 (by decide)).2]; exact br 1 1 (by decide)⟩ hAw ) hbx ⟨by decide, rfl⟩ rfl rfl q960 q962 qs27 q130 q963 ndX2_takes rfl (by decide) (by decide) (Nat.zero_le _) (Nat.zero_le _) rfl (Nat.le_of_ble_eq_true rfl) dX2_around_23 rfl (fun v7 S7 τ7 ρ7 h7 => ?_)
        obtain ⟨rfl, h7, S7e, τ7f, ρ7e⟩ := h7
        have S7e := S7e.symm; subst S7e
        have ρ7e := ρ7e.symm; subst ρ7e
        obtain ⟨x8, ex8⟩ : ∃ z9 : Int, z9 = k + 1 := ⟨_, rfl⟩
        refine g_iinc hΓ dX2_around_26 rfl rfl (lv' := [some (.ref bx), some (.ref a), some (.int (iI x8))]) (by rw [ex8]; rfl) ?_
        refine g_goto (tgt := 6) hΓ dX2_around_29 (by decide) ?_
        have e0 : t (rf R (lE R a k) 0) = D (rf R (lE R a k) 0) := fr_row ht (hG _ hsk.1).1.1.2.1 (by decide) (by decide)
        have hnn : strN S R (lE R a k) = np σ (first + k) := by have h9 := hsk.2.1; rw [strN]; omega
        have hen : ∀ b ax, (ax = 0 ∨ ax = 1) → enF b (strN S R (lE R a k)) (t (rf R (lE R a k) 0)) ax = edge σ (first + k) 1 ax b := fun b ax hax => by rw [enF_edge, hnn, e0]; exact enF_congr hax (by have := hsr.1; omega) hsk.2.2
        have hbx : ∀ i, (i = 0 ∨ i = 1) → τ7 la i = bxF 0 σ i first x8.toNat ∧ τ7 ma i = bxF 1 σ i first x8.toNat := by
          intro i hi
          rw [show x8.toNat = k.toNat + 1 by omega, bxF, bxF, if_pos rfl, if_neg (by decide), show first + ((k.toNat : Nat) : Int) = first + k by omega, ← hen 0 i hi, ← hen 1 i hi, ← (hb i hi).1, ← (hb i hi).2]
          rcases hi with rfl | rfl
          · exact ⟨h7.1, h7.2.2.1⟩
          · exact ⟨h7.2.1, h7.2.2.2⟩
        exact ih_loop τ7 x8 (by omega) (by omega) (fr_t ht τ7f) hbx
  refine g_aload_n hΓ rfl dX2_around_0 ?_
  refine x_callV (As := []) (rest := []) (c := 2) hE hΓ (x_X2_begins_46 hE hX S D R bx la ma hbx ⟨hla.1, hla.2.1, hla.2.2⟩ ⟨hma.1, hma.2.1, hma.2.2⟩ hAw ) hbx ⟨by decide, rfl⟩ rfl rfl q233 q235 qs1 q130 q236 ndX2_begins rfl (by decide) (by decide) (Nat.zero_le _) (Nat.zero_le _) rfl (Nat.le_of_ble_eq_true rfl) dX2_around_1 rfl (fun v9 S9 τ9 ρ9 h9 => ?_)
  obtain ⟨rfl, h9, S9e, τ9f, ρ9e⟩ := h9
  have S9e := S9e.symm; subst S9e
  have ρ9e := ρ9e.symm; subst ρ9e
  refine g_iconst hΓ dX2_around_4 ?_
  refine g_istore_n hΓ dX2_around_5 rfl (Nat.le_of_ble_eq_true rfl) (lv' := [some (.ref bx), some (.ref a), some (.int (iI 0))]) rfl ?_
  exact loop (many.toNat + 1) τ9 0 (by omega) (by omega) τ9f (fun i hi => by rcases hi with rfl | rfl; exact ⟨h9.1, h9.2.2.1⟩; exact ⟨h9.2.1, h9.2.2.2⟩)
set_option maxHeartbeats 4000000 in
theorem x_X2_cell_46 {l : Launch} {E : gE} {X : State → Prop} {Z : Nat → Nat} {Y : Nat → Option Nat} (hE : E.2.1 = clsX) (hX : xOK l E X Z Y) (S : xS) (D : xD) (R : xR) (bx la ma : Nat) (s : Nat) (i : Int) (hbx : (S bx).1 = 3) (hla : R bx 0 = some la ∧ (S la).1 = 46 ∧ (S la).2.1 = 2) (hma : R bx 1 = some ma ∧ (S ma).1 = 47 ∧ (S ma).2.1 = 2) (hs : (S s).1 = 8) (hB : strB S D R s) (hi : i = 0 ∨ i = 1) (hcl : (0 ≤ D la i ∧ D la i ≤ enF 0 (strN S R s) (D (rf R s 0)) i ∧ D la i ≤ enF 1 (strN S R s) (D (rf R s 0)) i) ∧ (enF 0 (strN S R s) (D (rf R s 0)) i ≤ D ma i ∧ enF 1 (strN S R s) (D (rf R s 0)) i ≤ D ma i ∧ D ma i ≤ 99)) : xC l E X yX2_cell cX2_cell 3 (some .int) 2 0 0 [.ref bx, .ref s, .int (iI i)] S D R (fun rv S' D' R' => rv = some (.int (iI (3 * (enF 0 (strN S R s) (D (rf R s 0)) i + enF 1 (strN S R s) (D (rf R s 0)) i - 2 * D la i) / (2 * (D ma i - D la i) + 1)))) ∧ S' = S ∧ D' = D ∧ R' = R) := by
  refine xC.of hX.1 (by decide) [some (.ref bx), some (.ref s), some (.int (iI i))] (Nat.le_of_ble_eq_true rfl) rfl rfl (fun Γ hΓ => ?_)
  refine g_iconst hΓ dX2_cell_0 ?_
  refine g_aload_n hΓ rfl dX2_cell_1 ?_
  refine g_iload_n hΓ rfl dX2_cell_2 ?_
  refine g_iconst hΓ dX2_cell_3 ?_
  refine x_callV (As := [.int (iI i), .int (iI 0)]) (rest := [.int (iI 3)]) (c := 8) hE hΓ (x_X8_end hE hX S D R s i 0 hs hB (by omega) (by omega) ) hs ⟨by decide, rfl⟩ rfl rfl q964 q965 q966 q144 q967 ndX8_end rfl (by decide) (by decide) (Nat.zero_le _) (Nat.zero_le _) rfl (Nat.le_of_ble_eq_true rfl) dX2_cell_4 rfl (fun v1 S1 τ1 ρ1 h1 => ?_)
  obtain ⟨rfl, S1e, τ1e, ρ1e⟩ := h1
  have S1e := S1e.symm; subst S1e
  have τ1e := τ1e.symm; subst τ1e
  have ρ1e := ρ1e.symm; subst ρ1e
  show gW Γ E (xM E S D R) _ _ _ _ (.int (iI (enF 0 (strN S R s) (D (rf R s 0)) i)) :: _)
  refine g_aload_n hΓ rfl dX2_cell_7 ?_
  refine g_iload_n hΓ rfl dX2_cell_8 ?_
  refine g_iconst hΓ dX2_cell_9 ?_
  refine x_callV (As := [.int (iI i), .int (iI 1)]) (rest := [.int (iI (enF 0 (strN S R s) (D (rf R s 0)) i)), .int (iI 3)]) (c := 8) hE hΓ (x_X8_end hE hX S D R s i 1 hs hB (by omega) (by omega) ) hs ⟨by decide, rfl⟩ rfl rfl q964 q965 q966 q144 q967 ndX8_end rfl (by decide) (by decide) (Nat.zero_le _) (Nat.zero_le _) rfl (Nat.le_of_ble_eq_true rfl) dX2_cell_10 rfl (fun v2 S2 τ2 ρ2 h2 => ?_)
  obtain ⟨rfl, S2e, τ2e, ρ2e⟩ := h2
  have S2e := S2e.symm; subst S2e
  have τ2e := τ2e.symm; subst τ2e
  have ρ2e := ρ2e.symm; subst ρ2e
  show gW Γ E (xM E S D R) _ _ _ _ (.int (iI (enF 1 (strN S R s) (D (rf R s 0)) i)) :: _)
  refine g_iadd hΓ dX2_cell_13 ?_
  refine g_iconst hΓ dX2_cell_14 ?_
  refine g_aload_n hΓ rfl dX2_cell_15 ?_
  refine x_geta (r := some la) (c := 2) hE hΓ in_X2 rfl hbx ⟨by decide, rfl⟩ 0 (ji := 0) rfl (by decide) (by decide) rfl q237 rfl rfl hla.1 dX2_cell_16 ?_
  show gW Γ E (xM E S D R) 0 0 _ _ (.ref la :: _)
  refine g_iload_n hΓ rfl dX2_cell_19 ?_
  refine x_iald hΓ hla.2.1 hla.2.2 ⟨by decide, rfl⟩ (by omega) (by omega) dX2_cell_20 ?_
  refine g_imul hΓ dX2_cell_21 ?_
  refine g_isub hΓ dX2_cell_22 ?_
  refine g_imul hΓ dX2_cell_23 ?_
  refine g_iconst hΓ dX2_cell_24 ?_
  refine g_aload_n hΓ rfl dX2_cell_25 ?_
  refine x_geta (r := some ma) (c := 2) hE hΓ in_X2 rfl hbx ⟨by decide, rfl⟩ 1 (ji := 1) rfl (by decide) (by decide) rfl q238 rfl rfl hma.1 dX2_cell_26 ?_
  show gW Γ E (xM E S D R) 0 0 _ _ (.ref ma :: _)
  refine g_iload_n hΓ rfl dX2_cell_29 ?_
  refine x_iald hΓ hma.2.1 hma.2.2 ⟨by decide, rfl⟩ (by omega) (by omega) dX2_cell_30 ?_
  refine g_aload_n hΓ rfl dX2_cell_31 ?_
  refine x_geta (r := some la) (c := 2) hE hΓ in_X2 rfl hbx ⟨by decide, rfl⟩ 0 (ji := 0) rfl (by decide) (by decide) rfl q237 rfl rfl hla.1 dX2_cell_32 ?_
  show gW Γ E (xM E S D R) 0 0 _ _ (.ref la :: _)
  refine g_iload_n hΓ rfl dX2_cell_35 ?_
  refine x_iald hΓ hla.2.1 hla.2.2 ⟨by decide, rfl⟩ (by omega) (by omega) dX2_cell_36 ?_
  refine g_isub hΓ dX2_cell_37 ?_
  refine g_imul hΓ dX2_cell_38 ?_
  refine g_iconst hΓ dX2_cell_39 ?_
  refine g_iadd hΓ dX2_cell_40 ?_
  refine g_idivN hΓ (by omega) (by omega) (by omega) dX2_cell_41 ?_
  exact x_iret hΓ dX2_cell_42 (Nat.zero_le _) (Nat.zero_le _) ⟨rfl, rfl, rfl, rfl⟩
set_option maxHeartbeats 4000000 in
theorem x_X2_begins_48 {l : Launch} {E : gE} {X : State → Prop} {Z : Nat → Nat} {Y : Nat → Option Nat} (hE : E.2.1 = clsX) (hX : xOK l E X Z Y) (S : xS) (D : xD) (R : xR) (bx la ma : Nat)  (hbx : (S bx).1 = 19) (hla : R bx 0 = some la ∧ (S la).1 = 48 ∧ (S la).2.1 = 2) (hma : R bx 1 = some ma ∧ (S ma).1 = 49 ∧ (S ma).2.1 = 2) (hAw : ∀ q, wk (S q).1 = true → E.2.2 q) : xC l E X yX2_begins cX2_begins 2 none 0 0 0 [.ref bx] S D R (fun rv S' D' R' => rv = none ∧ (D' la 0 = 99 ∧ D' la 1 = 99 ∧ D' ma 0 = 0 ∧ D' ma 1 = 0) ∧ S' = S ∧ fr S D D' [48, 49] ∧ R' = R) := by
  refine xC.of hX.1 (by decide) [some (.ref bx), none] (Nat.le_of_ble_eq_true rfl) rfl rfl (fun Γ hΓ => ?_)
  refine g_iconst hΓ dX2_begins_0 ?_
  refine g_istore_n hΓ dX2_begins_1 rfl (Nat.le_of_ble_eq_true rfl) (lv' := [some (.ref bx), some (.int (iI 0))]) rfl ?_
  refine g_iload_n hΓ rfl dX2_begins_2 ?_
  refine g_iconst hΓ dX2_begins_3 ?_
  refine g_icmp_ge (tgt := 28) hΓ (by omega) (by omega) dX2_begins_4 (by decide) (fun c1 => ?_) (fun c1 => ?_)
  · exact absurd c1 (by decide)
  · refine g_aload_n hΓ rfl dX2_begins_7 ?_
    refine x_geta (r := some la) (c := 2) hE hΓ in_X2 rfl hbx ⟨by decide, rfl⟩ 0 (ji := 0) rfl (by decide) (by decide) rfl q237 rfl rfl hla.1 dX2_begins_8 ?_
    show gW Γ E (xM E S D R) 0 0 _ _ (.ref la :: _)
    refine g_iload_n hΓ rfl dX2_begins_11 ?_
    refine g_bipush hΓ (by decide) dX2_begins_12 ?_
    refine x_iast hΓ hla.2.1 hla.2.2 ⟨by decide, rfl⟩ (hAw _ (by rw [hla.2.1]; rfl)) (by omega) (by omega) dX2_begins_14 (fun τ2 τ2e => ?_)
    have τ2r : τ2 la 0 = 99 := by rw [τ2e]; exact us_s _ _ _ _
    have τ2f : ∀ (q9 : Nat) (j9 : Int), (q9 ≠ la ∨ j9 ≠ 0) → τ2 q9 j9 = D q9 j9 := fun q9 j9 hh => by rw [τ2e]; exact us_n hh
    refine g_aload_n hΓ rfl dX2_begins_15 ?_
    refine x_geta (r := some ma) (c := 2) hE hΓ in_X2 rfl hbx ⟨by decide, rfl⟩ 1 (ji := 1) rfl (by decide) (by decide) rfl q238 rfl rfl hma.1 dX2_begins_16 ?_
    show gW Γ E (xM E S τ2 R) 0 0 _ _ (.ref ma :: _)
    refine g_iload_n hΓ rfl dX2_begins_19 ?_
    refine g_iconst hΓ dX2_begins_20 ?_
    refine x_iast hΓ hma.2.1 hma.2.2 ⟨by decide, rfl⟩ (hAw _ (by rw [hma.2.1]; rfl)) (by omega) (by omega) dX2_begins_21 (fun τ3 τ3e => ?_)
    have τ3r : τ3 ma 0 = 0 := by rw [τ3e]; exact us_s _ _ _ _
    have τ3f : ∀ (q9 : Nat) (j9 : Int), (q9 ≠ ma ∨ j9 ≠ 0) → τ3 q9 j9 = τ2 q9 j9 := fun q9 j9 hh => by rw [τ3e]; exact us_n hh
    refine g_iinc hΓ dX2_begins_22 rfl rfl (lv' := [some (.ref bx), some (.int (iI 1))]) rfl ?_
    refine g_goto (tgt := 2) hΓ dX2_begins_25 (by decide) ?_
    refine g_iload_n hΓ rfl dX2_begins_2 ?_
    refine g_iconst hΓ dX2_begins_3 ?_
    refine g_icmp_ge (tgt := 28) hΓ (by omega) (by omega) dX2_begins_4 (by decide) (fun c4 => ?_) (fun c4 => ?_)
    · exact absurd c4 (by decide)
    · refine g_aload_n hΓ rfl dX2_begins_7 ?_
      refine x_geta (r := some la) (c := 2) hE hΓ in_X2 rfl hbx ⟨by decide, rfl⟩ 0 (ji := 0) rfl (by decide) (by decide) rfl q237 rfl rfl hla.1 dX2_begins_8 ?_
      show gW Γ E (xM E S τ3 R) 0 0 _ _ (.ref la :: _)
      refine g_iload_n hΓ rfl dX2_begins_11 ?_
      refine g_bipush hΓ (by decide) dX2_begins_12 ?_
      refine x_iast hΓ hla.2.1 hla.2.2 ⟨by decide, rfl⟩ (hAw _ (by rw [hla.2.1]; rfl)) (by omega) (by omega) dX2_begins_14 (fun τ5 τ5e => ?_)
      have τ5r : τ5 la 1 = 99 := by rw [τ5e]; exact us_s _ _ _ _
      have τ5f : ∀ (q9 : Nat) (j9 : Int), (q9 ≠ la ∨ j9 ≠ 1) → τ5 q9 j9 = τ3 q9 j9 := fun q9 j9 hh => by rw [τ5e]; exact us_n hh
      refine g_aload_n hΓ rfl dX2_begins_15 ?_
      refine x_geta (r := some ma) (c := 2) hE hΓ in_X2 rfl hbx ⟨by decide, rfl⟩ 1 (ji := 1) rfl (by decide) (by decide) rfl q238 rfl rfl hma.1 dX2_begins_16 ?_
      show gW Γ E (xM E S τ5 R) 0 0 _ _ (.ref ma :: _)
      refine g_iload_n hΓ rfl dX2_begins_19 ?_
      refine g_iconst hΓ dX2_begins_20 ?_
      refine x_iast hΓ hma.2.1 hma.2.2 ⟨by decide, rfl⟩ (hAw _ (by rw [hma.2.1]; rfl)) (by omega) (by omega) dX2_begins_21 (fun τ6 τ6e => ?_)
      have τ6r : τ6 ma 1 = 0 := by rw [τ6e]; exact us_s _ _ _ _
      have τ6f : ∀ (q9 : Nat) (j9 : Int), (q9 ≠ ma ∨ j9 ≠ 1) → τ6 q9 j9 = τ5 q9 j9 := fun q9 j9 hh => by rw [τ6e]; exact us_n hh
      refine g_iinc hΓ dX2_begins_22 rfl rfl (lv' := [some (.ref bx), some (.int (iI 2))]) rfl ?_
      refine g_goto (tgt := 2) hΓ dX2_begins_25 (by decide) ?_
      refine g_iload_n hΓ rfl dX2_begins_2 ?_
      refine g_iconst hΓ dX2_begins_3 ?_
      refine g_icmp_ge (tgt := 28) hΓ (by omega) (by omega) dX2_begins_4 (by decide) (fun c7 => ?_) (fun c7 => ?_)
      · exact x_vret hΓ dX2_begins_28 (Nat.zero_le _) (Nat.zero_le _) ⟨rfl, ⟨((((τ6f _ _ (Or.inl (ne_k hla.2.1 hma.2.1 (by decide)))).trans (τ5f _ _ (Or.inr (by decide)))).trans (τ3f _ _ (Or.inl (ne_k hla.2.1 hma.2.1 (by decide))))).trans τ2r), ((τ6f _ _ (Or.inl (ne_k hla.2.1 hma.2.1 (by decide)))).trans τ5r), (((τ6f _ _ (Or.inr (by decide))).trans (τ5f _ _ (Or.inl (ne_k hma.2.1 hla.2.1 (by decide))))).trans τ3r), τ6r⟩, rfl, (fun q9 j9 hk9 => by exact ((((τ6f q9 j9 (Or.inl (fun e9 => hk9 (by rw [e9, hma.2.1, mdN _ (by decide)]; decide)))).trans (τ5f q9 j9 (Or.inl (fun e9 => hk9 (by rw [e9, hla.2.1, mdN _ (by decide)]; decide))))).trans (τ3f q9 j9 (Or.inl (fun e9 => hk9 (by rw [e9, hma.2.1, mdN _ (by decide)]; decide))))).trans (τ2f q9 j9 (Or.inl (fun e9 => hk9 (by rw [e9, hla.2.1, mdN _ (by decide)]; decide)))))), rfl⟩
      · exact absurd c7 (by decide)
set_option maxHeartbeats 4000000 in
theorem x_X2_takes_48 {l : Launch} {E : gE} {X : State → Prop} {Z : Nat → Nat} {Y : Nat → Option Nat} (hE : E.2.1 = clsX) (hX : xOK l E X Z Y) (S : xS) (D : xD) (R : xR) (bx la ma : Nat) (s : Nat) (hbx : (S bx).1 = 19) (hla : R bx 0 = some la ∧ (S la).1 = 48 ∧ (S la).2.1 = 2) (hma : R bx 1 = some ma ∧ (S ma).1 = 49 ∧ (S ma).2.1 = 2) (hs : (S s).1 = 8) (hB : strB S D R s) (hrg : (0 ≤ D la 0 ∧ D la 0 ≤ 99) ∧ (0 ≤ D la 1 ∧ D la 1 ≤ 99) ∧ (0 ≤ D ma 0 ∧ D ma 0 ≤ 99) ∧ (0 ≤ D ma 1 ∧ D ma 1 ≤ 99)) (hAw : ∀ q, wk (S q).1 = true → E.2.2 q) : xC l E X yX2_takes cX2_takes 3 none 2 0 0 [.ref bx, .ref s] S D R (fun rv S' D' R' => rv = none ∧ (D' la 0 = min (D la 0) (enF 0 (strN S R s) (D (rf R s 0)) 0) ∧ D' la 1 = min (D la 1) (enF 0 (strN S R s) (D (rf R s 0)) 1) ∧ D' ma 0 = max (D ma 0) (enF 1 (strN S R s) (D (rf R s 0)) 0) ∧ D' ma 1 = max (D ma 1) (enF 1 (strN S R s) (D (rf R s 0)) 1)) ∧ S' = S ∧ fr S D D' [48, 49] ∧ R' = R) := by
  refine xC.of hX.1 (by decide) [some (.ref bx), some (.ref s), none] (Nat.le_of_ble_eq_true rfl) rfl rfl (fun Γ hΓ => ?_)
  have hf0 := hB.1.2.1
  have er := fun b i (hi : i = 0 ∨ i = 1) => enF_r (b := b) hB.2.1 hi
  have e00 := er 0 0 (by decide)
  have e01 := er 0 1 (by decide)
  have e10 := er 1 0 (by decide)
  have e11 := er 1 1 (by decide)
  refine g_iconst hΓ dX2_takes_0 ?_
  refine g_istore_n hΓ dX2_takes_1 rfl (Nat.le_of_ble_eq_true rfl) (lv' := [some (.ref bx), some (.ref s), some (.int (iI 0))]) rfl ?_
  refine g_iload_n hΓ rfl dX2_takes_2 ?_
  refine g_iconst hΓ dX2_takes_3 ?_
  refine g_icmp_ge (tgt := 55) hΓ (by omega) (by omega) dX2_takes_4 (by decide) (fun c1 => ?_) (fun c1 => ?_)
  · exact absurd c1 (by decide)
  · refine g_aload_n hΓ rfl dX2_takes_7 ?_
    refine x_geta (r := some la) (c := 2) hE hΓ in_X2 rfl hbx ⟨by decide, rfl⟩ 0 (ji := 0) rfl (by decide) (by decide) rfl q237 rfl rfl hla.1 dX2_takes_8 ?_
    show gW Γ E (xM E S D R) 0 0 _ _ (.ref la :: _)
    refine g_iload_n hΓ rfl dX2_takes_11 ?_
    refine g_aload_n hΓ rfl dX2_takes_12 ?_
    refine x_geta (r := some la) (c := 2) hE hΓ in_X2 rfl hbx ⟨by decide, rfl⟩ 0 (ji := 0) rfl (by decide) (by decide) rfl q237 rfl rfl hla.1 dX2_takes_13 ?_
    show gW Γ E (xM E S D R) 0 0 _ _ (.ref la :: _)
    refine g_iload_n hΓ rfl dX2_takes_16 ?_
    refine x_iald hΓ hla.2.1 hla.2.2 ⟨by decide, rfl⟩ (by omega) (by omega) dX2_takes_17 ?_
    refine g_aload_n hΓ rfl dX2_takes_18 ?_
    refine g_iload_n hΓ rfl dX2_takes_19 ?_
    refine g_iconst hΓ dX2_takes_20 ?_
    refine x_callV (As := [.int (iI 0), .int (iI 0)]) (rest := [.int (iI (D la 0)), .int (iI 0), .ref la]) (c := 8) hE hΓ (x_X8_end hE hX S D R s 0 0 hs (strB_fr hB hs (m := [48, 49]) (by exact fr_rfl) (by decide)) (by omega) (by omega) ) hs ⟨by decide, rfl⟩ rfl rfl q964 q965 q966 q144 q967 ndX8_end rfl (by decide) (by decide) (Nat.zero_le _) (Nat.zero_le _) rfl (Nat.le_of_ble_eq_true rfl) dX2_takes_21 rfl (fun v2 S2 τ2 ρ2 h2 => ?_)
    obtain ⟨rfl, S2e, τ2e, ρ2e⟩ := h2
    have S2e := S2e.symm; subst S2e
    have τ2e := τ2e.symm; subst τ2e
    have ρ2e := ρ2e.symm; subst ρ2e
    show gW Γ E (xM E S D R) _ _ _ _ (.int (iI (enF 0 (strN S R s) (D (rf R s 0)) 0)) :: _)
    refine x_callS (As := [.int (iI (D la 0)), .int (iI (enF 0 (strN S R s) (D (rf R s 0)) 0))]) (rest := [.int (iI 0), .ref la]) hΓ (x_J3_min hE hX S D R (D la 0) (enF 0 (strN S R s) (D (rf R s 0)) 0) (by first | assumption | omega) (by first | assumption | omega)) rfl q970 q223 q129 q224 ndJ3_min rfl (by decide) (by decide) (Nat.zero_le _) (Nat.zero_le _) rfl (Nat.le_of_ble_eq_true rfl) dX2_takes_24 rfl (fun v3 S3 τ3 ρ3 h3 => ?_)
    obtain ⟨rfl, S3e, τ3e, ρ3e⟩ := h3
    have S3e := S3e.symm; subst S3e
    have τ3e := τ3e.symm; subst τ3e
    have ρ3e := ρ3e.symm; subst ρ3e
    show gW Γ E (xM E S D R) _ _ _ _ (.int (iI (min (D la 0) (enF 0 (strN S R s) (D (rf R s 0)) 0))) :: _)
    refine x_iast hΓ hla.2.1 hla.2.2 ⟨by decide, rfl⟩ (hAw _ (by rw [hla.2.1]; rfl)) (by omega) (by omega) dX2_takes_27 (fun τ4 τ4e => ?_)
    have τ4r : τ4 la 0 = min (D la 0) (enF 0 (strN S R s) (D (rf R s 0)) 0) := by rw [τ4e]; exact us_s _ _ _ _
    have τ4f : ∀ (q9 : Nat) (j9 : Int), (q9 ≠ la ∨ j9 ≠ 0) → τ4 q9 j9 = D q9 j9 := fun q9 j9 hh => by rw [τ4e]; exact us_n hh
    refine g_aload_n hΓ rfl dX2_takes_28 ?_
    refine x_geta (r := some ma) (c := 2) hE hΓ in_X2 rfl hbx ⟨by decide, rfl⟩ 1 (ji := 1) rfl (by decide) (by decide) rfl q238 rfl rfl hma.1 dX2_takes_29 ?_
    show gW Γ E (xM E S τ4 R) 0 0 _ _ (.ref ma :: _)
    refine g_iload_n hΓ rfl dX2_takes_32 ?_
    refine g_aload_n hΓ rfl dX2_takes_33 ?_
    refine x_geta (r := some ma) (c := 2) hE hΓ in_X2 rfl hbx ⟨by decide, rfl⟩ 1 (ji := 1) rfl (by decide) (by decide) rfl q238 rfl rfl hma.1 dX2_takes_34 ?_
    show gW Γ E (xM E S τ4 R) 0 0 _ _ (.ref ma :: _)
    refine g_iload_n hΓ rfl dX2_takes_37 ?_
    refine x_iald hΓ hma.2.1 hma.2.2 ⟨by decide, rfl⟩ (by omega) (by omega) dX2_takes_38 ?_
    refine g_topi ((τ4f ma 0 (Or.inl (ne_k hma.2.1 hla.2.1 (by decide))))) ?_
    refine g_aload_n hΓ rfl dX2_takes_39 ?_
    refine g_iload_n hΓ rfl dX2_takes_40 ?_
    refine g_iconst hΓ dX2_takes_41 ?_
    refine x_callV (As := [.int (iI 0), .int (iI 1)]) (rest := [.int (iI (D ma 0)), .int (iI 0), .ref ma]) (c := 8) hE hΓ (x_X8_end hE hX S τ4 R s 0 1 hs (strB_fr hB hs (m := [48, 49]) (by exact (fun q9 j9 hk9 => by exact (τ4f q9 j9 (Or.inl (fun e9 => hk9 (by rw [e9, hla.2.1, mdN _ (by decide)]; decide)))))) (by decide)) (by omega) (by omega) ) hs ⟨by decide, rfl⟩ rfl rfl q964 q965 q966 q144 q967 ndX8_end rfl (by decide) (by decide) (Nat.zero_le _) (Nat.zero_le _) rfl (Nat.le_of_ble_eq_true rfl) dX2_takes_42 rfl (fun v5 S5 τ5 ρ5 h5 => ?_)
    obtain ⟨rfl, S5e, τ5e, ρ5e⟩ := h5
    have S5e := S5e.symm; subst S5e
    have τ5e := τ5e.symm; subst τ5e
    have ρ5e := ρ5e.symm; subst ρ5e
    rw [show τ4 (rf R s 0) = D (rf R s 0) from fr_row (m := [48, 49]) (fun q9 j9 hk9 => by exact (τ4f q9 j9 (Or.inl (fun e9 => hk9 (by rw [e9, hla.2.1, mdN _ (by decide)]; decide))))) hf0 (by decide) (by decide)]
    show gW Γ E (xM E S τ4 R) _ _ _ _ (.int (iI (enF 1 (strN S R s) (D (rf R s 0)) 0)) :: _)
    refine x_callS (As := [.int (iI (D ma 0)), .int (iI (enF 1 (strN S R s) (D (rf R s 0)) 0))]) (rest := [.int (iI 0), .ref ma]) hΓ (x_J3_max hE hX S τ4 R (D ma 0) (enF 1 (strN S R s) (D (rf R s 0)) 0) (by first | assumption | omega) (by first | assumption | omega)) rfl q971 q722 q129 q723 ndJ3_max rfl (by decide) (by decide) (Nat.zero_le _) (Nat.zero_le _) rfl (Nat.le_of_ble_eq_true rfl) dX2_takes_45 rfl (fun v6 S6 τ6 ρ6 h6 => ?_)
    obtain ⟨rfl, S6e, τ6e, ρ6e⟩ := h6
    have S6e := S6e.symm; subst S6e
    have τ6e := τ6e.symm; subst τ6e
    have ρ6e := ρ6e.symm; subst ρ6e
    show gW Γ E (xM E S τ4 R) _ _ _ _ (.int (iI (max (D ma 0) (enF 1 (strN S R s) (D (rf R s 0)) 0))) :: _)
    refine x_iast hΓ hma.2.1 hma.2.2 ⟨by decide, rfl⟩ (hAw _ (by rw [hma.2.1]; rfl)) (by omega) (by omega) dX2_takes_48 (fun τ7 τ7e => ?_)
    have τ7r : τ7 ma 0 = max (D ma 0) (enF 1 (strN S R s) (D (rf R s 0)) 0) := by rw [τ7e]; exact us_s _ _ _ _
    have τ7f : ∀ (q9 : Nat) (j9 : Int), (q9 ≠ ma ∨ j9 ≠ 0) → τ7 q9 j9 = τ4 q9 j9 := fun q9 j9 hh => by rw [τ7e]; exact us_n hh
    refine g_iinc hΓ dX2_takes_49 rfl rfl (lv' := [some (.ref bx), some (.ref s), some (.int (iI 1))]) rfl ?_
    refine g_goto (tgt := 2) hΓ dX2_takes_52 (by decide) ?_
    refine g_iload_n hΓ rfl dX2_takes_2 ?_
    refine g_iconst hΓ dX2_takes_3 ?_
    refine g_icmp_ge (tgt := 55) hΓ (by omega) (by omega) dX2_takes_4 (by decide) (fun c8 => ?_) (fun c8 => ?_)
    · exact absurd c8 (by decide)
    · refine g_aload_n hΓ rfl dX2_takes_7 ?_
      refine x_geta (r := some la) (c := 2) hE hΓ in_X2 rfl hbx ⟨by decide, rfl⟩ 0 (ji := 0) rfl (by decide) (by decide) rfl q237 rfl rfl hla.1 dX2_takes_8 ?_
      show gW Γ E (xM E S τ7 R) 0 0 _ _ (.ref la :: _)
      refine g_iload_n hΓ rfl dX2_takes_11 ?_
      refine g_aload_n hΓ rfl dX2_takes_12 ?_
      refine x_geta (r := some la) (c := 2) hE hΓ in_X2 rfl hbx ⟨by decide, rfl⟩ 0 (ji := 0) rfl (by decide) (by decide) rfl q237 rfl rfl hla.1 dX2_takes_13 ?_
      show gW Γ E (xM E S τ7 R) 0 0 _ _ (.ref la :: _)
      refine g_iload_n hΓ rfl dX2_takes_16 ?_
      refine x_iald hΓ hla.2.1 hla.2.2 ⟨by decide, rfl⟩ (by omega) (by omega) dX2_takes_17 ?_
      refine g_topi (((τ7f la 1 (Or.inl (ne_k hla.2.1 hma.2.1 (by decide)))).trans (τ4f la 1 (Or.inr (by decide))))) ?_
      refine g_aload_n hΓ rfl dX2_takes_18 ?_
      refine g_iload_n hΓ rfl dX2_takes_19 ?_
      refine g_iconst hΓ dX2_takes_20 ?_
      refine x_callV (As := [.int (iI 1), .int (iI 0)]) (rest := [.int (iI (D la 1)), .int (iI 1), .ref la]) (c := 8) hE hΓ (x_X8_end hE hX S τ7 R s 1 0 hs (strB_fr hB hs (m := [48, 49]) (by exact (fun q9 j9 hk9 => by exact ((τ7f q9 j9 (Or.inl (fun e9 => hk9 (by rw [e9, hma.2.1, mdN _ (by decide)]; decide)))).trans (τ4f q9 j9 (Or.inl (fun e9 => hk9 (by rw [e9, hla.2.1, mdN _ (by decide)]; decide))))))) (by decide)) (by omega) (by omega) ) hs ⟨by decide, rfl⟩ rfl rfl q964 q965 q966 q144 q967 ndX8_end rfl (by decide) (by decide) (Nat.zero_le _) (Nat.zero_le _) rfl (Nat.le_of_ble_eq_true rfl) dX2_takes_21 rfl (fun v9 S9 τ9 ρ9 h9 => ?_)
      obtain ⟨rfl, S9e, τ9e, ρ9e⟩ := h9
      have S9e := S9e.symm; subst S9e
      have τ9e := τ9e.symm; subst τ9e
      have ρ9e := ρ9e.symm; subst ρ9e
      rw [show τ7 (rf R s 0) = D (rf R s 0) from fr_row (m := [48, 49]) (fun q9 j9 hk9 => by exact ((τ7f q9 j9 (Or.inl (fun e9 => hk9 (by rw [e9, hma.2.1, mdN _ (by decide)]; decide)))).trans (τ4f q9 j9 (Or.inl (fun e9 => hk9 (by rw [e9, hla.2.1, mdN _ (by decide)]; decide)))))) hf0 (by decide) (by decide)]
      show gW Γ E (xM E S τ7 R) _ _ _ _ (.int (iI (enF 0 (strN S R s) (D (rf R s 0)) 1)) :: _)
      refine x_callS (As := [.int (iI (D la 1)), .int (iI (enF 0 (strN S R s) (D (rf R s 0)) 1))]) (rest := [.int (iI 1), .ref la]) hΓ (x_J3_min hE hX S τ7 R (D la 1) (enF 0 (strN S R s) (D (rf R s 0)) 1) (by first | assumption | omega) (by first | assumption | omega)) rfl q970 q223 q129 q224 ndJ3_min rfl (by decide) (by decide) (Nat.zero_le _) (Nat.zero_le _) rfl (Nat.le_of_ble_eq_true rfl) dX2_takes_24 rfl (fun v10 S10 τ10 ρ10 h10 => ?_)
      obtain ⟨rfl, S10e, τ10e, ρ10e⟩ := h10
      have S10e := S10e.symm; subst S10e
      have τ10e := τ10e.symm; subst τ10e
      have ρ10e := ρ10e.symm; subst ρ10e
      show gW Γ E (xM E S τ7 R) _ _ _ _ (.int (iI (min (D la 1) (enF 0 (strN S R s) (D (rf R s 0)) 1))) :: _)
      refine x_iast hΓ hla.2.1 hla.2.2 ⟨by decide, rfl⟩ (hAw _ (by rw [hla.2.1]; rfl)) (by omega) (by omega) dX2_takes_27 (fun τ11 τ11e => ?_)
      have τ11r : τ11 la 1 = min (D la 1) (enF 0 (strN S R s) (D (rf R s 0)) 1) := by rw [τ11e]; exact us_s _ _ _ _
      have τ11f : ∀ (q9 : Nat) (j9 : Int), (q9 ≠ la ∨ j9 ≠ 1) → τ11 q9 j9 = τ7 q9 j9 := fun q9 j9 hh => by rw [τ11e]; exact us_n hh
      refine g_aload_n hΓ rfl dX2_takes_28 ?_
      refine x_geta (r := some ma) (c := 2) hE hΓ in_X2 rfl hbx ⟨by decide, rfl⟩ 1 (ji := 1) rfl (by decide) (by decide) rfl q238 rfl rfl hma.1 dX2_takes_29 ?_
      show gW Γ E (xM E S τ11 R) 0 0 _ _ (.ref ma :: _)
      refine g_iload_n hΓ rfl dX2_takes_32 ?_
      refine g_aload_n hΓ rfl dX2_takes_33 ?_
      refine x_geta (r := some ma) (c := 2) hE hΓ in_X2 rfl hbx ⟨by decide, rfl⟩ 1 (ji := 1) rfl (by decide) (by decide) rfl q238 rfl rfl hma.1 dX2_takes_34 ?_
      show gW Γ E (xM E S τ11 R) 0 0 _ _ (.ref ma :: _)
      refine g_iload_n hΓ rfl dX2_takes_37 ?_
      refine x_iald hΓ hma.2.1 hma.2.2 ⟨by decide, rfl⟩ (by omega) (by omega) dX2_takes_38 ?_
      refine g_topi ((((τ11f ma 1 (Or.inl (ne_k hma.2.1 hla.2.1 (by decide)))).trans (τ7f ma 1 (Or.inr (by decide)))).trans (τ4f ma 1 (Or.inl (ne_k hma.2.1 hla.2.1 (by decide)))))) ?_
      refine g_aload_n hΓ rfl dX2_takes_39 ?_
      refine g_iload_n hΓ rfl dX2_takes_40 ?_
      refine g_iconst hΓ dX2_takes_41 ?_
      refine x_callV (As := [.int (iI 1), .int (iI 1)]) (rest := [.int (iI (D ma 1)), .int (iI 1), .ref ma]) (c := 8) hE hΓ (x_X8_end hE hX S τ11 R s 1 1 hs (strB_fr hB hs (m := [48, 49]) (by exact (fun q9 j9 hk9 => by exact (((τ11f q9 j9 (Or.inl (fun e9 => hk9 (by rw [e9, hla.2.1, mdN _ (by decide)]; decide)))).trans (τ7f q9 j9 (Or.inl (fun e9 => hk9 (by rw [e9, hma.2.1, mdN _ (by decide)]; decide))))).trans (τ4f q9 j9 (Or.inl (fun e9 => hk9 (by rw [e9, hla.2.1, mdN _ (by decide)]; decide))))))) (by decide)) (by omega) (by omega) ) hs ⟨by decide, rfl⟩ rfl rfl q964 q965 q966 q144 q967 ndX8_end rfl (by decide) (by decide) (Nat.zero_le _) (Nat.zero_le _) rfl (Nat.le_of_ble_eq_true rfl) dX2_takes_42 rfl (fun v12 S12 τ12 ρ12 h12 => ?_)
      obtain ⟨rfl, S12e, τ12e, ρ12e⟩ := h12
      have S12e := S12e.symm; subst S12e
      have τ12e := τ12e.symm; subst τ12e
      have ρ12e := ρ12e.symm; subst ρ12e
      rw [show τ11 (rf R s 0) = D (rf R s 0) from fr_row (m := [48, 49]) (fun q9 j9 hk9 => by exact (((τ11f q9 j9 (Or.inl (fun e9 => hk9 (by rw [e9, hla.2.1, mdN _ (by decide)]; decide)))).trans (τ7f q9 j9 (Or.inl (fun e9 => hk9 (by rw [e9, hma.2.1, mdN _ (by decide)]; decide))))).trans (τ4f q9 j9 (Or.inl (fun e9 => hk9 (by rw [e9, hla.2.1, mdN _ (by decide)]; decide)))))) hf0 (by decide) (by decide)]
      show gW Γ E (xM E S τ11 R) _ _ _ _ (.int (iI (enF 1 (strN S R s) (D (rf R s 0)) 1)) :: _)
      refine x_callS (As := [.int (iI (D ma 1)), .int (iI (enF 1 (strN S R s) (D (rf R s 0)) 1))]) (rest := [.int (iI 1), .ref ma]) hΓ (x_J3_max hE hX S τ11 R (D ma 1) (enF 1 (strN S R s) (D (rf R s 0)) 1) (by first | assumption | omega) (by first | assumption | omega)) rfl q971 q722 q129 q723 ndJ3_max rfl (by decide) (by decide) (Nat.zero_le _) (Nat.zero_le _) rfl (Nat.le_of_ble_eq_true rfl) dX2_takes_45 rfl (fun v13 S13 τ13 ρ13 h13 => ?_)
      obtain ⟨rfl, S13e, τ13e, ρ13e⟩ := h13
      have S13e := S13e.symm; subst S13e
      have τ13e := τ13e.symm; subst τ13e
      have ρ13e := ρ13e.symm; subst ρ13e
      show gW Γ E (xM E S τ11 R) _ _ _ _ (.int (iI (max (D ma 1) (enF 1 (strN S R s) (D (rf R s 0)) 1))) :: _)
      refine x_iast hΓ hma.2.1 hma.2.2 ⟨by decide, rfl⟩ (hAw _ (by rw [hma.2.1]; rfl)) (by omega) (by omega) dX2_takes_48 (fun τ14 τ14e => ?_)
      have τ14r : τ14 ma 1 = max (D ma 1) (enF 1 (strN S R s) (D (rf R s 0)) 1) := by rw [τ14e]; exact us_s _ _ _ _
      have τ14f : ∀ (q9 : Nat) (j9 : Int), (q9 ≠ ma ∨ j9 ≠ 1) → τ14 q9 j9 = τ11 q9 j9 := fun q9 j9 hh => by rw [τ14e]; exact us_n hh
      refine g_iinc hΓ dX2_takes_49 rfl rfl (lv' := [some (.ref bx), some (.ref s), some (.int (iI 2))]) rfl ?_
      refine g_goto (tgt := 2) hΓ dX2_takes_52 (by decide) ?_
      refine g_iload_n hΓ rfl dX2_takes_2 ?_
      refine g_iconst hΓ dX2_takes_3 ?_
      refine g_icmp_ge (tgt := 55) hΓ (by omega) (by omega) dX2_takes_4 (by decide) (fun c15 => ?_) (fun c15 => ?_)
      · exact x_vret hΓ dX2_takes_55 (Nat.zero_le _) (Nat.zero_le _) ⟨rfl, ⟨((((τ14f _ _ (Or.inl (ne_k hla.2.1 hma.2.1 (by decide)))).trans (τ11f _ _ (Or.inr (by decide)))).trans (τ7f _ _ (Or.inl (ne_k hla.2.1 hma.2.1 (by decide))))).trans τ4r), ((τ14f _ _ (Or.inl (ne_k hla.2.1 hma.2.1 (by decide)))).trans τ11r), (((τ14f _ _ (Or.inr (by decide))).trans (τ11f _ _ (Or.inl (ne_k hma.2.1 hla.2.1 (by decide))))).trans τ7r), τ14r⟩, rfl, (fun q9 j9 hk9 => by exact ((((τ14f q9 j9 (Or.inl (fun e9 => hk9 (by rw [e9, hma.2.1, mdN _ (by decide)]; decide)))).trans (τ11f q9 j9 (Or.inl (fun e9 => hk9 (by rw [e9, hla.2.1, mdN _ (by decide)]; decide))))).trans (τ7f q9 j9 (Or.inl (fun e9 => hk9 (by rw [e9, hma.2.1, mdN _ (by decide)]; decide))))).trans (τ4f q9 j9 (Or.inl (fun e9 => hk9 (by rw [e9, hla.2.1, mdN _ (by decide)]; decide)))))), rfl⟩
      · exact absurd c15 (by decide)
set_option maxHeartbeats 4000000 in
theorem x_X2_around_48 {l : Launch} {E : gE} {X : State → Prop} {Z : Nat → Nat} {Y : Nat → Option Nat} (hE : E.2.1 = clsX) (hX : xOK l E X Z Y) (S : xS) (D : xD) (R : xR) (bx la ma : Nat) (a ka : Nat) (σ : mS) (first many : Int) (hbx : (S bx).1 = 19) (hla : R bx 0 = some la ∧ (S la).1 = 48 ∧ (S la).2.1 = 2) (hma : R bx 1 = some ma ∧ (S ma).1 = 49 ∧ (S ma).2.1 = 2) (hka : (S a).1 = ka) (h3k : ka = 10 ∨ ka = 12 ∨ ka = 13) (hls : lsOK Z S D R a) (hlr : lsR S D R a σ first many) (hle : letS σ first many) (hG : GS S D R) (hAw : ∀ q, wk (S q).1 = true → E.2.2 q) : xC l E X yX2_around cX2_around 3 (some (.object "LetterPen$Box")) 4 0 0 [.ref bx, .ref a] S D R (fun rv S' D' R' => rv = some (.ref bx) ∧ (∀ i, (i = 0 ∨ i = 1) → D' la i = bxF 0 σ i first many.toNat ∧ D' ma i = bxF 1 σ i first many.toNat) ∧ S' = S ∧ fr S D D' [48, 49] ∧ R' = R) := by
  refine xC.of hX.1 (by decide) [some (.ref bx), some (.ref a), none] (Nat.le_of_ble_eq_true rfl) rfl rfl (fun Γ hΓ => ?_)
  have hkr : 10 ≤ ka ∧ ka ≤ 17 := by omega
  obtain ⟨b1, kb1, hbr1, hbe1, hbk1, hbq1, hbc1⟩ := lsOK_b hls (by rw [hka]; exact hkr)
  have hm0 := hle.2.1
  have hm8 := hle.2.2.1
  have hmm := hlr.1
  have loop : ∀ (fu : Nat) (t : xD) (k : Int), (many - k).toNat < fu → (0 ≤ k ∧ k ≤ many) → (fr S D t [48, 49]) → (∀ i, (i = 0 ∨ i = 1) → t la i = bxF 0 σ i first k.toNat ∧ t ma i = bxF 1 σ i first k.toNat) → gW Γ E (xM E S t R) 0 0 6 [some (.ref bx), some (.ref a), some (.int (iI k))] [] := by
    intro fu
    induction fu with
    | zero => intro t k hn; exact absurd hn (Nat.not_lt_zero _)
    | succ fu ih_loop =>
      intro t k hn hk ht hb
      have br := fun b ax (hax : ax = 0 ∨ ax = 1) => bxF_r (b := b) hle hax k.toNat (by omega)
      refine g_iload_n hΓ rfl dX2_around_6 ?_
      refine g_aload_n hΓ rfl dX2_around_7 ?_
      refine x_callV (As := []) (rest := [.int (iI k)]) (c := 10) hE hΓ (x_J2_size hE hX S t R a ka hka hkr ) hka (ks_10_17 hkr) rfl rfl q957 q662 q663 q127 q664 ndJ2_size rfl (by decide) (by decide) (Nat.zero_le _) (Nat.zero_le _) rfl (Nat.le_of_ble_eq_true rfl) dX2_around_8 rfl (fun v2 S2 τ2 ρ2 h2 => ?_)
      obtain ⟨rfl, S2e, τ2e, ρ2e⟩ := h2
      have S2e := S2e.symm; subst S2e
      have τ2e := τ2e.symm; subst τ2e
      have ρ2e := ρ2e.symm; subst ρ2e
      refine g_topi (((fr_at ht (k := ka) hka (by rw [mdN _ (by omega)]; intro h9; simp at h9; omega)).trans hlr.1)) ?_
      show gW Γ E (xM E S t R) _ _ _ _ (.int (iI many) :: _)
      refine g_icmp_ge (tgt := 32) hΓ (by omega) (by omega) dX2_around_11 (by decide) (fun c3 => ?_) (fun c3 => ?_)
      · refine g_aload_n hΓ rfl dX2_around_32 ?_
        exact x_aret hΓ (Or.inl ⟨_, rfl⟩) (Or.inr ⟨_, rfl⟩) dX2_around_33 (Nat.zero_le _) (Nat.zero_le _) ⟨rfl, (fun i hi => by rw [show many.toNat = k.toNat by omega]; exact hb i hi), rfl, ht, rfl⟩
      · refine g_aload_n hΓ rfl dX2_around_14 ?_
        refine g_aload_n hΓ rfl dX2_around_15 ?_
        refine g_iload_n hΓ rfl dX2_around_16 ?_
        have he4 := lsOK_e hls hbe1 (i := k) (by omega)
        have hk4 : (S (lE R a k)).1 = 8 := by rw [he4.2, hka]; rcases h3k with h9 | h9 | h9 <;> rw [h9] <;> rfl
        have hz6 : t a 2 = many := ((fr_at ht (k := ka) hka (by rw [mdN _ (by omega)]; intro h9; simp at h9; omega)).trans hlr.1)
        refine x_callV (As := [.int (iI k)]) (rest := [.ref bx]) (c := 10) hE hΓ (x_J2_get hE hX S t R a b1 (lE R a k) ka kb1 ((S b1).2.1) k hka hkr hbr1 hbk1 hbq1 rfl (by omega) (by omega) he4.1 ) hka (ks_10_17 hkr) rfl rfl q958 q858 q859 q127 q860 ndJ2_get rfl (by decide) (by decide) (Nat.zero_le _) (Nat.zero_le _) rfl (Nat.le_of_ble_eq_true rfl) dX2_around_17 rfl (fun v5 S5 τ5 ρ5 h5 => ?_)
        obtain ⟨rfl, S5e, τ5e, ρ5e⟩ := h5
        have S5e := S5e.symm; subst S5e
        have τ5e := τ5e.symm; subst τ5e
        have ρ5e := ρ5e.symm; subst ρ5e
        show gW Γ E (xM E S t R) _ _ _ _ (.ref (lE R a k) :: _)
        refine x_castS (c := 8) hE hΓ rfl q959 hk4 ⟨by decide, rfl⟩ rfl dX2_around_20 ?_
        have hsk := hlr.2 k (by omega) (by omega)
        have hsr := hle.2.2.2.2 (first + k) (by omega) (by omega)
        refine x_callV (As := [.ref (lE R a k)]) (rest := []) (c := 2) hE hΓ (x_X2_takes_48 hE hX S t R bx la ma (lE R a k) hbx ⟨hla.1, hla.2.1, hla.2.2⟩ ⟨hma.1, hma.2.1, hma.2.2⟩ hk4 (strB_fr (hG _ (hlr.2 k (by omega) (by omega)).1).1 (hlr.2 k (by omega) (by omega)).1 ht (by decide)) ⟨by rw [(hb 0 (by decide)).1]; exact br 0 0 (by decide), by rw [(hb 1 (by decide)).1]; exact br 0 1 (by decide), by rw [(hb 0 (by decide)).2]; exact br 1 0 (by decide), by rw [(hb 1 (by decide)).2]; exact br 1 1 (by decide)⟩ hAw ) hbx ⟨by decide, rfl⟩ rfl rfl q960 q962 qs27 q130 q963 ndX2_takes rfl (by decide) (by decide) (Nat.zero_le _) (Nat.zero_le _) rfl (Nat.le_of_ble_eq_true rfl) dX2_around_23 rfl (fun v7 S7 τ7 ρ7 h7 => ?_)
        obtain ⟨rfl, h7, S7e, τ7f, ρ7e⟩ := h7
        have S7e := S7e.symm; subst S7e
        have ρ7e := ρ7e.symm; subst ρ7e
        obtain ⟨x8, ex8⟩ : ∃ z9 : Int, z9 = k + 1 := ⟨_, rfl⟩
        refine g_iinc hΓ dX2_around_26 rfl rfl (lv' := [some (.ref bx), some (.ref a), some (.int (iI x8))]) (by rw [ex8]; rfl) ?_
        refine g_goto (tgt := 6) hΓ dX2_around_29 (by decide) ?_
        have e0 : t (rf R (lE R a k) 0) = D (rf R (lE R a k) 0) := fr_row ht (hG _ hsk.1).1.1.2.1 (by decide) (by decide)
        have hnn : strN S R (lE R a k) = np σ (first + k) := by have h9 := hsk.2.1; rw [strN]; omega
        have hen : ∀ b ax, (ax = 0 ∨ ax = 1) → enF b (strN S R (lE R a k)) (t (rf R (lE R a k) 0)) ax = edge σ (first + k) 1 ax b := fun b ax hax => by rw [enF_edge, hnn, e0]; exact enF_congr hax (by have := hsr.1; omega) hsk.2.2
        have hbx : ∀ i, (i = 0 ∨ i = 1) → τ7 la i = bxF 0 σ i first x8.toNat ∧ τ7 ma i = bxF 1 σ i first x8.toNat := by
          intro i hi
          rw [show x8.toNat = k.toNat + 1 by omega, bxF, bxF, if_pos rfl, if_neg (by decide), show first + ((k.toNat : Nat) : Int) = first + k by omega, ← hen 0 i hi, ← hen 1 i hi, ← (hb i hi).1, ← (hb i hi).2]
          rcases hi with rfl | rfl
          · exact ⟨h7.1, h7.2.2.1⟩
          · exact ⟨h7.2.1, h7.2.2.2⟩
        exact ih_loop τ7 x8 (by omega) (by omega) (fr_t ht τ7f) hbx
  refine g_aload_n hΓ rfl dX2_around_0 ?_
  refine x_callV (As := []) (rest := []) (c := 2) hE hΓ (x_X2_begins_48 hE hX S D R bx la ma hbx ⟨hla.1, hla.2.1, hla.2.2⟩ ⟨hma.1, hma.2.1, hma.2.2⟩ hAw ) hbx ⟨by decide, rfl⟩ rfl rfl q233 q235 qs1 q130 q236 ndX2_begins rfl (by decide) (by decide) (Nat.zero_le _) (Nat.zero_le _) rfl (Nat.le_of_ble_eq_true rfl) dX2_around_1 rfl (fun v9 S9 τ9 ρ9 h9 => ?_)
  obtain ⟨rfl, h9, S9e, τ9f, ρ9e⟩ := h9
  have S9e := S9e.symm; subst S9e
  have ρ9e := ρ9e.symm; subst ρ9e
  refine g_iconst hΓ dX2_around_4 ?_
  refine g_istore_n hΓ dX2_around_5 rfl (Nat.le_of_ble_eq_true rfl) (lv' := [some (.ref bx), some (.ref a), some (.int (iI 0))]) rfl ?_
  exact loop (many.toNat + 1) τ9 0 (by omega) (by omega) τ9f (fun i hi => by rcases hi with rfl | rfl; exact ⟨h9.1, h9.2.2.1⟩; exact ⟨h9.2.1, h9.2.2.2⟩)
set_option maxHeartbeats 4000000 in
theorem x_X2_cell_48 {l : Launch} {E : gE} {X : State → Prop} {Z : Nat → Nat} {Y : Nat → Option Nat} (hE : E.2.1 = clsX) (hX : xOK l E X Z Y) (S : xS) (D : xD) (R : xR) (bx la ma : Nat) (s : Nat) (i : Int) (hbx : (S bx).1 = 19) (hla : R bx 0 = some la ∧ (S la).1 = 48 ∧ (S la).2.1 = 2) (hma : R bx 1 = some ma ∧ (S ma).1 = 49 ∧ (S ma).2.1 = 2) (hs : (S s).1 = 8) (hB : strB S D R s) (hi : i = 0 ∨ i = 1) (hcl : (0 ≤ D la i ∧ D la i ≤ enF 0 (strN S R s) (D (rf R s 0)) i ∧ D la i ≤ enF 1 (strN S R s) (D (rf R s 0)) i) ∧ (enF 0 (strN S R s) (D (rf R s 0)) i ≤ D ma i ∧ enF 1 (strN S R s) (D (rf R s 0)) i ≤ D ma i ∧ D ma i ≤ 99)) : xC l E X yX2_cell cX2_cell 3 (some .int) 2 0 0 [.ref bx, .ref s, .int (iI i)] S D R (fun rv S' D' R' => rv = some (.int (iI (3 * (enF 0 (strN S R s) (D (rf R s 0)) i + enF 1 (strN S R s) (D (rf R s 0)) i - 2 * D la i) / (2 * (D ma i - D la i) + 1)))) ∧ S' = S ∧ D' = D ∧ R' = R) := by
  refine xC.of hX.1 (by decide) [some (.ref bx), some (.ref s), some (.int (iI i))] (Nat.le_of_ble_eq_true rfl) rfl rfl (fun Γ hΓ => ?_)
  refine g_iconst hΓ dX2_cell_0 ?_
  refine g_aload_n hΓ rfl dX2_cell_1 ?_
  refine g_iload_n hΓ rfl dX2_cell_2 ?_
  refine g_iconst hΓ dX2_cell_3 ?_
  refine x_callV (As := [.int (iI i), .int (iI 0)]) (rest := [.int (iI 3)]) (c := 8) hE hΓ (x_X8_end hE hX S D R s i 0 hs hB (by omega) (by omega) ) hs ⟨by decide, rfl⟩ rfl rfl q964 q965 q966 q144 q967 ndX8_end rfl (by decide) (by decide) (Nat.zero_le _) (Nat.zero_le _) rfl (Nat.le_of_ble_eq_true rfl) dX2_cell_4 rfl (fun v1 S1 τ1 ρ1 h1 => ?_)
  obtain ⟨rfl, S1e, τ1e, ρ1e⟩ := h1
  have S1e := S1e.symm; subst S1e
  have τ1e := τ1e.symm; subst τ1e
  have ρ1e := ρ1e.symm; subst ρ1e
  show gW Γ E (xM E S D R) _ _ _ _ (.int (iI (enF 0 (strN S R s) (D (rf R s 0)) i)) :: _)
  refine g_aload_n hΓ rfl dX2_cell_7 ?_
  refine g_iload_n hΓ rfl dX2_cell_8 ?_
  refine g_iconst hΓ dX2_cell_9 ?_
  refine x_callV (As := [.int (iI i), .int (iI 1)]) (rest := [.int (iI (enF 0 (strN S R s) (D (rf R s 0)) i)), .int (iI 3)]) (c := 8) hE hΓ (x_X8_end hE hX S D R s i 1 hs hB (by omega) (by omega) ) hs ⟨by decide, rfl⟩ rfl rfl q964 q965 q966 q144 q967 ndX8_end rfl (by decide) (by decide) (Nat.zero_le _) (Nat.zero_le _) rfl (Nat.le_of_ble_eq_true rfl) dX2_cell_10 rfl (fun v2 S2 τ2 ρ2 h2 => ?_)
  obtain ⟨rfl, S2e, τ2e, ρ2e⟩ := h2
  have S2e := S2e.symm; subst S2e
  have τ2e := τ2e.symm; subst τ2e
  have ρ2e := ρ2e.symm; subst ρ2e
  show gW Γ E (xM E S D R) _ _ _ _ (.int (iI (enF 1 (strN S R s) (D (rf R s 0)) i)) :: _)
  refine g_iadd hΓ dX2_cell_13 ?_
  refine g_iconst hΓ dX2_cell_14 ?_
  refine g_aload_n hΓ rfl dX2_cell_15 ?_
  refine x_geta (r := some la) (c := 2) hE hΓ in_X2 rfl hbx ⟨by decide, rfl⟩ 0 (ji := 0) rfl (by decide) (by decide) rfl q237 rfl rfl hla.1 dX2_cell_16 ?_
  show gW Γ E (xM E S D R) 0 0 _ _ (.ref la :: _)
  refine g_iload_n hΓ rfl dX2_cell_19 ?_
  refine x_iald hΓ hla.2.1 hla.2.2 ⟨by decide, rfl⟩ (by omega) (by omega) dX2_cell_20 ?_
  refine g_imul hΓ dX2_cell_21 ?_
  refine g_isub hΓ dX2_cell_22 ?_
  refine g_imul hΓ dX2_cell_23 ?_
  refine g_iconst hΓ dX2_cell_24 ?_
  refine g_aload_n hΓ rfl dX2_cell_25 ?_
  refine x_geta (r := some ma) (c := 2) hE hΓ in_X2 rfl hbx ⟨by decide, rfl⟩ 1 (ji := 1) rfl (by decide) (by decide) rfl q238 rfl rfl hma.1 dX2_cell_26 ?_
  show gW Γ E (xM E S D R) 0 0 _ _ (.ref ma :: _)
  refine g_iload_n hΓ rfl dX2_cell_29 ?_
  refine x_iald hΓ hma.2.1 hma.2.2 ⟨by decide, rfl⟩ (by omega) (by omega) dX2_cell_30 ?_
  refine g_aload_n hΓ rfl dX2_cell_31 ?_
  refine x_geta (r := some la) (c := 2) hE hΓ in_X2 rfl hbx ⟨by decide, rfl⟩ 0 (ji := 0) rfl (by decide) (by decide) rfl q237 rfl rfl hla.1 dX2_cell_32 ?_
  show gW Γ E (xM E S D R) 0 0 _ _ (.ref la :: _)
  refine g_iload_n hΓ rfl dX2_cell_35 ?_
  refine x_iald hΓ hla.2.1 hla.2.2 ⟨by decide, rfl⟩ (by omega) (by omega) dX2_cell_36 ?_
  refine g_isub hΓ dX2_cell_37 ?_
  refine g_imul hΓ dX2_cell_38 ?_
  refine g_iconst hΓ dX2_cell_39 ?_
  refine g_iadd hΓ dX2_cell_40 ?_
  refine g_idivN hΓ (by omega) (by omega) (by omega) dX2_cell_41 ?_
  exact x_iret hΓ dX2_cell_42 (Nat.zero_le _) (Nat.zero_le _) ⟨rfl, rfl, rfl, rfl⟩
