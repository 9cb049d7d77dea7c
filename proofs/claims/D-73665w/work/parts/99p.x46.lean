set_option maxRecDepth 100000
set_option maxHeartbeats 4000000 in
theorem x_X0_last {l : Launch} {E : gE} {X : State → Prop} {Z : Nat → Nat} {Y : Nat → Option Nat} (hE : E.2.1 = clsX) (hX : xOK l E X Z Y) (S : xS) (D : xD) (R : xR) (a ka na : Nat) (n : Int) (f : Int → Int) (ha : (S a).1 = ka) (hka : ka ≠ 0 ∧ kty ka = 1) (hna : (S a).2.1 = na) (hn : 0 ≤ n ∧ n ≤ (na : Int) ∧ na ≤ 1600) (hf : ∀ j, 0 ≤ j → j < n → D a j = f j ∧ 0 ≤ f j ∧ f j < 256) : xC l E X yX0_last cX0_last 4 (some .int) 0 0 0 [.ref a, .int (iI n)] S D R (fun rv S' D' R' => rv = some (.int (iI (ckF f n.toNat))) ∧ S' = S ∧ D' = D ∧ R' = R) := by
  refine xC.of hX.1 (by decide) [some (.ref a), some (.int (iI n)), none, none] (Nat.le_of_ble_eq_true rfl) rfl rfl (fun Γ hΓ => ?_)
  have loop : ∀ (fu : Nat) (c : Int) (k : Int), (n - k).toNat < fu → (0 ≤ k ∧ k ≤ n) → (c = ckF f k.toNat) → gW Γ E (xM E S D R) 0 0 6 [some (.ref a), some (.int (iI n)), some (.int (iI c)), some (.int (iI k))] [] := by
    intro fu
    induction fu with
    | zero => intro c k hn; exact absurd hn (Nat.not_lt_zero _)
    | succ fu ih_loop =>
      intro c k hn hk hc
      have hcr := ckF_r f k.toNat
      rw [← hc] at hcr
      refine g_iload_n hΓ rfl dX0_last_6 ?_
      refine g_iload_n hΓ rfl dX0_last_7 ?_
      refine g_icmp_ge (tgt := 29) hΓ (by omega) (by omega) dX0_last_8 (by decide) (fun c1 => ?_) (fun c1 => ?_)
      · refine g_iload_n hΓ rfl dX0_last_29 ?_
        exact x_iret hΓ dX0_last_30 (Nat.zero_le _) (Nat.zero_le _) ⟨ri (by rw [hc, show k.toNat = n.toNat by omega]), rfl, rfl, rfl⟩
      · refine g_iconst hΓ dX0_last_11 ?_
        refine g_iload_n hΓ rfl dX0_last_12 ?_
        refine g_imul hΓ dX0_last_13 ?_
        refine g_aload_n hΓ rfl dX0_last_14 ?_
        refine g_iload_n hΓ rfl dX0_last_15 ?_
        have hfk := (hf k (by omega) (by omega)).2
        refine x_cald hΓ ha hna hka (by omega) (by omega) dX0_last_16 ?_
        refine g_topi ((hf k (by omega) (by omega)).1) ?_
        refine g_iadd hΓ dX0_last_17 ?_
        refine g_sipush hΓ (by decide) dX0_last_18 ?_
        refine g_iremN hΓ (by omega) (by omega) (by omega) dX0_last_21 ?_
        obtain ⟨x2, ex2⟩ : ∃ z9 : Int, z9 = ((3 * c) + (f k)) % 251 := ⟨_, rfl⟩
        refine g_topi ex2.symm ?_
        refine g_istore_n hΓ dX0_last_22 rfl (Nat.le_of_ble_eq_true rfl) (lv' := [some (.ref a), some (.int (iI n)), some (.int (iI x2)), some (.int (iI k))]) rfl ?_
        obtain ⟨x3, ex3⟩ : ∃ z9 : Int, z9 = k + 1 := ⟨_, rfl⟩
        refine g_iinc hΓ dX0_last_23 rfl rfl (lv' := [some (.ref a), some (.int (iI n)), some (.int (iI x2)), some (.int (iI x3))]) (by rw [ex3]; rfl) ?_
        refine g_goto (tgt := 6) hΓ dX0_last_26 (by decide) ?_
        exact ih_loop x2 x3 (by omega) (by omega) (by rw [show x3.toNat = k.toNat + 1 by omega, ckF, show ((k.toNat : Nat) : Int) = k by omega, ← hc, ex2])
  refine g_sipush hΓ (by decide) dX0_last_0 ?_
  refine g_istore_n hΓ dX0_last_3 rfl (Nat.le_of_ble_eq_true rfl) (lv' := [some (.ref a), some (.int (iI n)), some (.int (iI 157)), none]) rfl ?_
  refine g_iconst hΓ dX0_last_4 ?_
  refine g_istore_n hΓ dX0_last_5 rfl (Nat.le_of_ble_eq_true rfl) (lv' := [some (.ref a), some (.int (iI n)), some (.int (iI 157)), some (.int (iI 0))]) rfl ?_
  exact loop (n.toNat + 1) 157 0 (by omega) (by omega) rfl
set_option maxHeartbeats 4000000 in
theorem x_X0_writes {l : Launch} {E : gE} {X : State → Prop} {Z : Nat → Nat} {Y : Nat → Option Nat} (hE : E.2.1 = clsX) (hX : xOK l E X Z Y) (S : xS) (D : xD) (R : xR) (P : xPk) (σ : mS) (v : Int) (hx : Rx E Z S D R P σ) (hv : 0 ≤ v ∧ v < 256) (ho : σ 40 0 < 202) : xC l E X yX0_writes cX0_writes 2 none 0 0 0 [.ref (P.1), .int (iI v)] S D R (fun rv S' D' R' => rv = none ∧ (Rx E Z S D' R P (wrS σ v)) ∧ S' = S ∧ fr S D D' [86, 1037] ∧ R' = R) := by
  refine xC.of hX.1 (by decide) [some (.ref (P.1)), some (.int (iI v))] (Nat.le_of_ble_eq_true rfl) rfl rfl (fun Γ hΓ => ?_)
  obtain ⟨hg, hp, hki, hro, hnw, hbh, hsa, hpd⟩ := id hx
  obtain ⟨N, NI, NM, NV, hN⟩ := (hx).now
  have hAw := hg.2.2.2.2.2.2
  have hG : GS S D R := hg.1
  obtain ⟨h1000, h1009, h1042, h1043, h1044, h1045, h1046, h1047, hms, hsi, hsm, hnm⟩ := id hro
  have eN := hN.2.2.2.2.2.2.2.2.2.2.2.2
  have kNV : (S NV).1 = 45 := by rw [hN.2.2.2.1.2]
  have nNV : (S NV).2.1 = 6 := by rw [hN.2.2.2.1.2]
  have hoc := hpd.2.2.2.2.2.1.2
  refine g_aload_n hΓ rfl dX0_writes_0 ?_
  refine x_geta (r := some (P.2.1 36)) (c := 0) hE hΓ in_X0 rfl hp.1 ⟨by decide, rfl⟩ 36 (ji := 36) rfl (by decide) (by decide) rfl q282 rfl rfl (pA_r hp 36 rfl rfl) dX0_writes_1 ?_
  show gW Γ E (xM E S D R) 0 0 _ _ (.ref (P.2.1 36) :: _)
  refine g_aload_n hΓ rfl dX0_writes_4 ?_
  refine x_geti (c := 0) hE hΓ in_X0 rfl hp.1 ⟨by decide, rfl⟩ 37 (ji := 37) rfl (by decide) (by decide) rfl q283 rfl rfl dX0_writes_5 ?_
  refine g_topi (hpd.2.2.2.2.2.1.1) ?_
  refine g_iload_n hΓ rfl dX0_writes_8 ?_
  refine g_i2c (a := v) hΓ (i2c_r (by omega)) dX0_writes_9 ?_
  refine x_cast hΓ (pA_k hp 36 rfl (n := 86) rfl) (pA_n hp 36 rfl (n := 202) rfl) ⟨by decide, rfl⟩ (hAw _ (by rw [(pA_k hp 36 rfl (n := 86) rfl)]; rfl)) (by omega) (by omega) (narC (by omega)) dX0_writes_10 (fun τ1 τ1e => ?_)
  have τ1r : τ1 (P.2.1 36) (σ 40 0) = v := by rw [τ1e]; exact us_s _ _ _ _
  have τ1f : ∀ (q9 : Nat) (j9 : Int), (q9 ≠ (P.2.1 36) ∨ j9 ≠ (σ 40 0)) → τ1 q9 j9 = D q9 j9 := fun q9 j9 hh => by rw [τ1e]; exact us_n hh
  refine g_aload_n hΓ rfl dX0_writes_11 ?_
  refine g_dup hΓ rfl dX0_writes_12 ?_
  refine x_geti (c := 0) hE hΓ in_X0 rfl hp.1 ⟨by decide, rfl⟩ 37 (ji := 37) rfl (by decide) (by decide) rfl q283 rfl rfl dX0_writes_13 ?_
  refine g_topi (((τ1f (P.1) 37 (Or.inl (ne_k hp.1 (pA_k hp 36 rfl (n := 86) rfl) (by decide)))).trans hpd.2.2.2.2.2.1.1)) ?_
  refine g_iconst hΓ dX0_writes_16 ?_
  refine g_iadd hΓ dX0_writes_17 ?_
  refine x_puti (c := 0) hE hΓ in_X0 rfl hp.1 ⟨by decide, rfl⟩ tyX0 tyX0_ok nmX0 (hAw _ (by rw [hp.1]; rfl)) 37 (ji := 37) rfl (by decide) (by decide) rfl q283 rfl rfl rfl rfl rfl rfl dX0_writes_18 (fun τ2 τ2e => ?_)
  have τ2r : τ2 (P.1) 37 = (σ 40 0) + 1 := by rw [τ2e]; exact us_s _ _ _ _
  have τ2f : ∀ (q9 : Nat) (j9 : Int), (q9 ≠ (P.1) ∨ j9 ≠ 37) → τ2 q9 j9 = τ1 q9 j9 := fun q9 j9 hh => by rw [τ2e]; exact us_n hh
  have hf9 : fr S D τ2 [86, 1037] := (fun q9 j9 hk9 => by exact ((τ2f q9 j9 (by by_cases e9 : q9 = (P.1); exact Or.inr (fun e8 => hk9 (by rw [e9, e8, hp.1]; decide)); exact Or.inl e9)).trans (τ1f q9 j9 (Or.inl (fun e9 => hk9 (by rw [e9, (pA_k hp 36 rfl (n := 86) rfl), mdN _ (by decide)]; decide))))))
  exact x_vret hΓ dX0_writes_21 (Nat.zero_le _) (Nat.zero_le _) ⟨rfl, (Rx_pen hx hf9 (by decide) (wrS_f (by decide)) (wrS_f (by decide)) (congrFun (wrS_f (by decide)) 0) (congrFun (wrS_f (by decide)) 0) (wrS_f (by decide)) (wrS_f (by decide)) (wrS_f (by decide)) (wrS_f (by decide)) ⟨by rw [show τ2 P.1 1 = D P.1 1 from fr_at hf9 hp.1 (by decide)]; exact hpd.1, by rw [show τ2 (P.2.1 0) = D (P.2.1 0) from fr_row hf9 (pA_k hp 0 rfl (n := 50) rfl) (by decide) (by decide)]; exact hpd.2.1, by rw [show τ2 (P.2.1 2) = D (P.2.1 2) from fr_row hf9 (pA_k hp 2 rfl (n := 52) rfl) (by decide) (by decide)]; exact hpd.2.2.1, by rw [show τ2 P.1 7 = D P.1 7 from fr_at hf9 hp.1 (by decide), show τ2 P.1 8 = D P.1 8 from fr_at hf9 hp.1 (by decide)]; exact hpd.2.2.2.1, by rw [show τ2 P.1 35 = D P.1 35 from fr_at hf9 hp.1 (by decide)]; exact hpd.2.2.2.2.1, ⟨by rw [wrS_40]; exact τ2r, by rw [wrS_40]; omega⟩, fun j x9 y9 => by
    rw [wrS_39]
    by_cases c9 : j = σ 40 0
    · rw [c9, up_s]; exact (τ2f _ _ (Or.inl (ne_k (pA_k hp 36 rfl (n := 86) rfl) hp.1 (by decide)))).trans τ1r
    · rw [up_n c9]; exact (τ2f _ _ (Or.inl (ne_k (pA_k hp 36 rfl (n := 86) rfl) hp.1 (by decide)))).trans ((τ1f _ _ (Or.inr c9)).trans (hpd.2.2.2.2.2.2 j x9 y9))⟩), rfl, (fun q9 j9 hk9 => by exact ((τ2f q9 j9 (by by_cases e9 : q9 = (P.1); exact Or.inr (fun e8 => hk9 (by rw [e9, e8, hp.1]; decide)); exact Or.inl e9)).trans (τ1f q9 j9 (Or.inl (fun e9 => hk9 (by rw [e9, (pA_k hp 36 rfl (n := 86) rfl), mdN _ (by decide)]; decide)))))), rfl⟩
set_option maxHeartbeats 4000000 in
theorem x_X0_image {l : Launch} {E : gE} {X : State → Prop} {Z : Nat → Nat} {Y : Nat → Option Nat} (hE : E.2.1 = clsX) (hX : xOK l E X Z Y) (S : xS) (D : xD) (R : xR) (P : xPk) (σ : mS)  (hx : Rx E Z S D R P σ) : xC l E X yX0_image cX0_image 7 (some .int) 4 0 0 [.ref (P.1)] S D R (fun rv S' D' R' => rv = some (.int (iI ((imE σ).2))) ∧ (Rx E Z S D' R P (imgS σ)) ∧ S' = S ∧ fr S D D' [86, 1037] ∧ R' = R) := by
  refine xC.of hX.1 (by decide) [some (.ref (P.1)), none, none, none, none, none, none] (Nat.le_of_ble_eq_true rfl) rfl rfl (fun Γ hΓ => ?_)
  obtain ⟨hg, hp, hki, hro, hnw, hbh, hsa, hpd⟩ := id hx
  obtain ⟨N, NI, NM, NV, hN⟩ := (hx).now
  have hAw := hg.2.2.2.2.2.2
  have hG : GS S D R := hg.1
  obtain ⟨h1000, h1009, h1042, h1043, h1044, h1045, h1046, h1047, hms, hsi, hsm, hnm⟩ := id hro
  have eN := hN.2.2.2.2.2.2.2.2.2.2.2.2
  have kNV : (S NV).1 = 45 := by rw [hN.2.2.2.1.2]
  have nNV : (S NV).2.1 = 6 := by rw [hN.2.2.2.1.2]
  refine g_aload_n hΓ rfl dX0_image_0 ?_
  refine g_iconst hΓ dX0_image_1 ?_
  refine x_puti (c := 0) hE hΓ in_X0 rfl hp.1 ⟨by decide, rfl⟩ tyX0 tyX0_ok nmX0 (hAw _ (by rw [hp.1]; rfl)) 37 (ji := 37) rfl (by decide) (by decide) rfl q283 rfl rfl rfl rfl rfl rfl dX0_image_2 (fun τ1 τ1e => ?_)
  have τ1r : τ1 (P.1) 37 = 0 := by rw [τ1e]; exact us_s _ _ _ _
  have τ1f : ∀ (q9 : Nat) (j9 : Int), (q9 ≠ (P.1) ∨ j9 ≠ 37) → τ1 q9 j9 = D q9 j9 := fun q9 j9 hh => by rw [τ1e]; exact us_n hh
  have hf9 : fr S D τ1 [1037] := (fun q9 j9 hk9 => by exact (τ1f q9 j9 (by by_cases e9 : q9 = (P.1); exact Or.inr (fun e8 => hk9 (by rw [e9, e8, hp.1]; decide)); exact Or.inl e9)))
  have hx0 : Rx E Z S τ1 R P (us σ 40 0 0) := (Rx_pen hx hf9 (by decide) (us_f (by decide)) (us_f (by decide)) (us_n (Or.inl (by decide))) (us_n (Or.inl (by decide))) (us_f (by decide)) (us_f (by decide)) (us_f (by decide)) (us_f (by decide)) ⟨by rw [show τ1 P.1 1 = D P.1 1 from fr_at hf9 hp.1 (by decide)]; exact hpd.1, by rw [show τ1 (P.2.1 0) = D (P.2.1 0) from fr_row hf9 (pA_k hp 0 rfl (n := 50) rfl) (by decide) (by decide)]; exact hpd.2.1, by rw [show τ1 (P.2.1 2) = D (P.2.1 2) from fr_row hf9 (pA_k hp 2 rfl (n := 52) rfl) (by decide) (by decide)]; exact hpd.2.2.1, by rw [show τ1 P.1 7 = D P.1 7 from fr_at hf9 hp.1 (by decide), show τ1 P.1 8 = D P.1 8 from fr_at hf9 hp.1 (by decide)]; exact hpd.2.2.2.1, by rw [show τ1 P.1 35 = D P.1 35 from fr_at hf9 hp.1 (by decide)]; exact hpd.2.2.2.2.1, ⟨by rw [us_s]; exact τ1r, by rw [us_s]; decide⟩, by rw [show τ1 (P.2.1 36) = D (P.2.1 36) from fr_row hf9 (pA_k hp 36 rfl (n := 86) rfl) (by decide) (by decide)]; exact hpd.2.2.2.2.2.2⟩)
  have out : ∀ (fu : Nat) (t : xD) (τ : mS) (k : Int), (σ 0 1009 - k).toNat < fu → (Rx E Z S t R P τ) → (fr S D t [86, 1037]) → (∀ q, q ≠ 39 → q ≠ 40 → τ q = σ q) → (∀ j, 0 ≤ j → j < τ 40 0 → 0 ≤ τ 39 j ∧ τ 39 j ≤ 99) → (0 ≤ k ∧ k ≤ σ 0 1009) → (τ 39 = (imS (σ 0) k.toNat (ptI (σ 39, 0) (σ 0 1009))).1) → (τ 40 0 = (imS (σ 0) k.toNat (ptI (σ 39, 0) (σ 0 1009))).2) → (1 ≤ τ 40 0 ∧ τ 40 0 ≤ 1 + 25 * k) → gW Γ E (xM E S t R) 0 0 21 [some (.ref (P.1)), some (.int (iI k)), none, none, none, none, none] [] := by
    intro fu
    induction fu with
    | zero => intro t τ k hn; exact absurd hn (Nat.not_lt_zero _)
    | succ fu ih_out =>
      intro t τ k hn hx1 tf hr hV hk h39 h40 hp2
      refine g_iload_n hΓ rfl dX0_image_21 ?_
      refine g_aload_n hΓ rfl dX0_image_22 ?_
      refine x_geta (r := some N) (c := 0) hE hΓ in_X0 rfl hp.1 ⟨by decide, rfl⟩ 4 (ji := 4) rfl (by decide) (by decide) rfl q250 rfl rfl hN.1.1 dX0_image_23 ?_
      show gW Γ E (xM E S t R) 0 0 _ _ (.ref N :: _)
      refine x_geta (r := some NI) (c := 1) hE hΓ in_X1 rfl hN.1.2 ⟨by decide, rfl⟩ 1 (ji := 1) rfl (by decide) (by decide) rfl q200 rfl rfl hN.2.2.1.1 dX0_image_26 ?_
      show gW Γ E (xM E S t R) 0 0 _ _ (.ref NI :: _)
      refine x_callV (As := []) (rest := [.int (iI k)]) (c := 10) hE hΓ (x_J2_size hE hX S t R NI 10 hN.2.2.1.2 (by decide) ) hN.2.2.1.2 ⟨by decide, rfl⟩ rfl rfl q845 q662 q663 q127 q664 ndJ2_size rfl (by decide) (by decide) (Nat.zero_le _) (Nat.zero_le _) rfl (Nat.le_of_ble_eq_true rfl) dX0_image_29 rfl (fun v2 S2 τ2 ρ2 h2 => ?_)
      obtain ⟨rfl, S2e, τ2e, ρ2e⟩ := h2
      have S2e := S2e.symm; subst S2e
      have τ2e := τ2e.symm; subst τ2e
      have ρ2e := ρ2e.symm; subst ρ2e
      refine g_topi (((tf NI 2 (by rw [hN.2.2.1.2, mdN _ (by decide)]; decide)).trans hN.2.2.2.2.1)) ?_
      show gW Γ E (xM E S t R) _ _ _ _ (.int (iI (σ 0 1009)) :: _)
      refine g_icmp_ge (tgt := 101) hΓ (by omega) (by omega) dX0_image_32 (by decide) (fun c3 => ?_) (fun c3 => ?_)
      · have hB : imB σ = (τ 39, τ 40 0) := by
          rw [imB, show (σ 0 1009).toNat = k.toNat by omega, h39, h40]
        have hck := ckF_r (τ 39) (τ 40 0).toNat
        refine g_aload_n hΓ rfl dX0_image_101 ?_
        refine g_aload_n hΓ rfl dX0_image_102 ?_
        refine x_geta (r := some (P.2.1 36)) (c := 0) hE hΓ in_X0 rfl hp.1 ⟨by decide, rfl⟩ 36 (ji := 36) rfl (by decide) (by decide) rfl q282 rfl rfl (pA_r hp 36 rfl rfl) dX0_image_103 ?_
        show gW Γ E (xM E S t R) 0 0 _ _ (.ref (P.2.1 36) :: _)
        refine g_aload_n hΓ rfl dX0_image_106 ?_
        refine x_geti (c := 0) hE hΓ in_X0 rfl hp.1 ⟨by decide, rfl⟩ 37 (ji := 37) rfl (by decide) (by decide) rfl q283 rfl rfl dX0_image_107 ?_
        refine g_topi (hx1.2.2.2.2.2.2.2.2.2.2.2.2.1.1) ?_
        refine x_callS (As := [.ref (P.2.1 36), .int (iI (τ 40 0))]) (rest := [.ref (P.1)]) hΓ (x_X0_last hE hX S t R (P.2.1 36) 86 202 (τ 40 0) (τ 39) (pA_k hp 36 rfl (n := 86) rfl) ⟨by decide, rfl⟩ (pA_n hp 36 rfl (n := 202) rfl) (by omega) (fun j9 x9 y9 => ⟨hx1.2.2.2.2.2.2.2.2.2.2.2.2.2 j9 x9 (by omega), by have h9 := hV j9 x9 (by omega); omega⟩) ) rfl q1331 q1332 q123 q1333 ndX0_last rfl (by decide) (by decide) (Nat.zero_le _) (Nat.zero_le _) rfl (Nat.le_of_ble_eq_true rfl) dX0_image_110 rfl (fun v4 S4 τ4 ρ4 h4 => ?_)
        obtain ⟨rfl, S4e, τ4e, ρ4e⟩ := h4
        have S4e := S4e.symm; subst S4e
        have τ4e := τ4e.symm; subst τ4e
        have ρ4e := ρ4e.symm; subst ρ4e
        show gW Γ E (xM E S t R) _ _ _ _ (.int (iI (ckF (τ 39) (τ 40 0).toNat)) :: _)
        refine x_callV (As := [.int (iI (ckF (τ 39) (τ 40 0).toNat))]) (rest := []) (c := 0) hE hΓ (x_X0_writes hE hX S t R P τ (ckF (τ 39) (τ 40 0).toNat) hx1 (by omega) (by omega) ) hp.1 ⟨by decide, rfl⟩ rfl rfl q1327 q1329 qs54 q123 q1330 ndX0_writes rfl (by decide) (by decide) (Nat.zero_le _) (Nat.zero_le _) rfl (Nat.le_of_ble_eq_true rfl) dX0_image_113 rfl (fun v5 S5 τ5 ρ5 h5 => ?_)
        obtain ⟨rfl, h5, S5e, τ5f, ρ5e⟩ := h5
        have S5e := S5e.symm; subst S5e
        have ρ5e := ρ5e.symm; subst ρ5e
        refine g_aload_n hΓ rfl dX0_image_116 ?_
        refine x_geti (c := 0) hE hΓ in_X0 rfl hp.1 ⟨by decide, rfl⟩ 37 (ji := 37) rfl (by decide) (by decide) rfl q283 rfl rfl dX0_image_117 ?_
        refine g_topi ((show _ = τ 40 0 + 1 from h5.2.2.2.2.2.2.2.2.2.2.2.2.1.1)) ?_
        have hxf : Rx E Z S τ5 R P (imgS σ) := Rx_same h5 (fun k9 h9 => by
          by_cases c9 : k9 = 39
          · rw [c9, wrS_39]; funext j9; show (imE σ).1 j9 = _; rw [imE, hB, ptI]
          · have c8 : k9 ≠ 40 := by simp at h9; omega
            rw [wrS_f ⟨c9, c8⟩, hr k9 c9 c8]; funext j9; rw [imgS, if_neg c9, if_neg (fun z => c8 z.1)]) (fun k9 h9 => by
          by_cases c9 : k9 = 40
          · rw [c9, wrS_40]; show (imE σ).2 = _; rw [imE, hB, ptI]
          · have c8 : k9 ≠ 39 := by simp at h9; omega
            rw [wrS_f ⟨c8, c9⟩, hr k9 c8 c9, imgS, if_neg c8, if_neg (fun z => c9 z.1)])
        exact x_iret hΓ dX0_image_120 (Nat.zero_le _) (Nat.zero_le _) ⟨ri (by rw [imE, hB, ptI]), hxf, rfl, fr_t tf τ5f, rfl⟩
      · have hsq := hsi k (by omega) (by omega)
        have hsq1 := hsq.1
        have hsq2 := hsq.2.1
        have hsk := hnw.2.2.2.2.1 k (by omega) (by omega)
        rw [← eN.1, ← eN.2.2.1] at hsk
        have hsf := (hG _ hsk.1).1.1
        have hni := hN.2.2.2.2.1
        have hpl9 := hsk.2.1
        obtain ⟨b6, kb6, hbr6, hbe6, hbk6, hbq6, hbc6⟩ := lsOK_b (hg.2.1 NI (by rw [hN.2.2.1.2]; decide) (by rw [hN.2.2.1.2]; decide)) (by rw [hN.2.2.1.2]; decide)
        have he7 := lsOK_e (hg.2.1 NI (by rw [hN.2.2.1.2]; decide) (by rw [hN.2.2.1.2]; decide)) hbe6 (i := k) (by have := hN.2.2.2.2.1; omega)
        have hk7 : (S (lE R NI k)).1 = 8 := by rw [he7.2, hN.2.2.1.2]; rfl
        refine g_aload_n hΓ rfl dX0_image_35 ?_
        refine x_geta (r := some N) (c := 0) hE hΓ in_X0 rfl hp.1 ⟨by decide, rfl⟩ 4 (ji := 4) rfl (by decide) (by decide) rfl q250 rfl rfl hN.1.1 dX0_image_36 ?_
        show gW Γ E (xM E S t R) 0 0 _ _ (.ref N :: _)
        refine x_geta (r := some NI) (c := 1) hE hΓ in_X1 rfl hN.1.2 ⟨by decide, rfl⟩ 1 (ji := 1) rfl (by decide) (by decide) rfl q200 rfl rfl hN.2.2.1.1 dX0_image_39 ?_
        show gW Γ E (xM E S t R) 0 0 _ _ (.ref NI :: _)
        refine g_iload_n hΓ rfl dX0_image_42 ?_
        have hz9 : t NI 2 = σ 0 1009 := ((tf NI 2 (by rw [hN.2.2.1.2, mdN _ (by decide)]; decide)).trans hN.2.2.2.2.1)
        refine x_callV (As := [.int (iI k)]) (rest := []) (c := 10) hE hΓ (x_J2_get hE hX S t R NI b6 (lE R NI k) 10 kb6 ((S b6).2.1) k hN.2.2.1.2 (by decide) hbr6 hbk6 hbq6 rfl (by omega) (by omega) he7.1 ) hN.2.2.1.2 ⟨by decide, rfl⟩ rfl rfl q857 q858 q859 q127 q860 ndJ2_get rfl (by decide) (by decide) (Nat.zero_le _) (Nat.zero_le _) rfl (Nat.le_of_ble_eq_true rfl) dX0_image_43 rfl (fun v8 S8 τ8 ρ8 h8 => ?_)
        obtain ⟨rfl, S8e, τ8e, ρ8e⟩ := h8
        have S8e := S8e.symm; subst S8e
        have τ8e := τ8e.symm; subst τ8e
        have ρ8e := ρ8e.symm; subst ρ8e
        show gW Γ E (xM E S t R) _ _ _ _ (.ref (lE R NI k) :: _)
        refine x_castS (c := 8) hE hΓ rfl q915 hk7 ⟨by decide, rfl⟩ rfl dX0_image_46 ?_
        refine g_astore_n hΓ dX0_image_49 rfl (Nat.le_of_ble_eq_true rfl) (lv' := [some (.ref (P.1)), some (.int (iI k)), some (.ref (lE R NI k)), none, none, none, none]) rfl ?_
        refine g_aload_n hΓ rfl dX0_image_50 ?_
        refine g_aload_n hΓ rfl dX0_image_51 ?_
        refine x_callV (As := []) (rest := [.ref (P.1)]) (c := 8) hE hΓ (x_X8_many hE hX S t R (lE R NI k) hk7 (strB_fr (hG _ hsk.1).1 hsk.1 tf (by decide)) ) hk7 ⟨by decide, rfl⟩ rfl rfl q929 q930 q931 q144 q932 ndX8_many rfl (by decide) (by decide) (Nat.zero_le _) (Nat.zero_le _) rfl (Nat.le_of_ble_eq_true rfl) dX0_image_52 rfl (fun v10 S10 τ10 ρ10 h10 => ?_)
        obtain ⟨rfl, S10e, τ10e, ρ10e⟩ := h10
        have S10e := S10e.symm; subst S10e
        have τ10e := τ10e.symm; subst τ10e
        have ρ10e := ρ10e.symm; subst ρ10e
        refine g_topi (show strN S R (lE R NI k) = σ 0 (960 + k) by have h9 := hsk.2.1; rw [strN]; omega) ?_
        show gW Γ E (xM E S t R) _ _ _ _ (.int (iI (σ 0 (960 + k))) :: _)
        refine x_callV (As := [.int (iI (σ 0 (960 + k)))]) (rest := []) (c := 0) hE hΓ (x_X0_writes hE hX S t R P τ (σ 0 (960 + k)) hx1 (by omega) (by omega) ) hp.1 ⟨by decide, rfl⟩ rfl rfl q1327 q1329 qs54 q123 q1330 ndX0_writes rfl (by decide) (by decide) (Nat.zero_le _) (Nat.zero_le _) rfl (Nat.le_of_ble_eq_true rfl) dX0_image_55 rfl (fun v11 S11 τ11 ρ11 h11 => ?_)
        obtain ⟨rfl, h11, S11e, τ11f, ρ11e⟩ := h11
        have S11e := S11e.symm; subst S11e
        have ρ11e := ρ11e.symm; subst ρ11e
        refine g_aload_n hΓ rfl dX0_image_58 ?_
        refine x_getaN (r := some (rf R (lE R NI k) 0)) (c := 8) hE hΓ in_X8 rfl hk7 ⟨by decide, rfl⟩ 0 (ji := 0) rfl (by decide) (by decide) rfl (xn_803 hX) rfl rfl hsf.1 dX0_image_59 ?_
        show gW Γ E (xM E S τ11 R) 0 0 _ _ (.ref (rf R (lE R NI k) 0) :: _)
        refine g_astore_n hΓ dX0_image_62 rfl (Nat.le_of_ble_eq_true rfl) (lv' := [some (.ref (P.1)), some (.int (iI k)), some (.ref (lE R NI k)), some (.ref (rf R (lE R NI k) 0)), none, none, none]) rfl ?_
        refine g_aload_n hΓ rfl dX0_image_63 ?_
        refine x_alen hΓ hsf.2.1 rfl ⟨by decide, by decide⟩ dX0_image_64 ?_
        refine g_topi (show (((S (rf R (lE R NI k) 0)).2.1 : Nat) : Int) = (2 * σ 0 (960 + k)) by have h9 := hsk.2.1; omega) ?_
        obtain ⟨x12, ex12⟩ : ∃ z9 : Int, z9 = (2 * σ 0 (960 + k)) := ⟨_, rfl⟩
        refine g_topi ex12.symm ?_
        refine g_istore hΓ dX0_image_65 rfl (Nat.le_of_ble_eq_true rfl) (lv' := [some (.ref (P.1)), some (.int (iI k)), some (.ref (lE R NI k)), some (.ref (rf R (lE R NI k) 0)), some (.int (iI x12)), none, none]) rfl ?_
        have inn : ∀ (fu : Nat) (t : xD) (τ : mS) (i : Int), (2 * σ 0 (960 + k) - i).toNat < fu → (Rx E Z S t R P τ) → (fr S D t [86, 1037]) → (∀ q, q ≠ 39 → q ≠ 40 → τ q = σ q) → (∀ j, 0 ≤ j → j < τ 40 0 → 0 ≤ τ 39 j ∧ τ 39 j ≤ 99) → (0 ≤ i ∧ i ≤ 2 * σ 0 (960 + k)) → (τ 39 = (imK (σ 0) k i.toNat (ptI (imS (σ 0) k.toNat (ptI (σ 39, 0) (σ 0 1009))) (σ 0 (960 + k)))).1) → (τ 40 0 = (imK (σ 0) k i.toNat (ptI (imS (σ 0) k.toNat (ptI (σ 39, 0) (σ 0 1009))) (σ 0 (960 + k)))).2) → (1 ≤ τ 40 0 ∧ τ 40 0 ≤ 2 + 25 * k + i) → gW Γ E (xM E S t R) 0 0 70 [some (.ref (P.1)), some (.int (iI k)), some (.ref (lE R NI k)), some (.ref (rf R (lE R NI k) 0)), some (.int (iI x12)), some (.int (iI i)), none] [] := by
          intro fu
          induction fu with
          | zero => intro t τ i hn; exact absurd hn (Nat.not_lt_zero _)
          | succ fu ih_inn =>
            intro t τ i hn hx1 tf hr hV hi h39 h40 hp2
            refine g_iload hΓ rfl dX0_image_70 ?_
            refine g_iload hΓ rfl dX0_image_72 ?_
            refine g_icmp_ge (tgt := 95) hΓ (by omega) (by omega) dX0_image_74 (by decide) (fun c13 => ?_) (fun c13 => ?_)
            · obtain ⟨x14, ex14⟩ : ∃ z9 : Int, z9 = k + 1 := ⟨_, rfl⟩
              refine g_iinc hΓ dX0_image_95 rfl rfl (lv' := [some (.ref (P.1)), some (.int (iI x14)), some (.ref (lE R NI k)), some (.ref (rf R (lE R NI k) 0)), some (.int (iI x12)), some (.int (iI i)), none]) (by rw [ex14]; rfl) ?_
              refine g_goto (tgt := 21) hΓ dX0_image_98 (by decide) ?_
              refine g_lvw (lv' := [some (.ref (P.1)), some (.int (iI x14)), none, none, none, none, none]) ⟨rfl, ⟨rfl, trivial⟩⟩ ?_
              exact ih_out t τ x14 (by omega) hx1 tf hr hV (by omega) (h39.trans (by rw [show x14.toNat = k.toNat + 1 by omega, imS, show ((k.toNat : Nat) : Int) = k by omega, show i.toNat = (2 * σ 0 (960 + k)).toNat by omega])) (h40.trans (by rw [show x14.toNat = k.toNat + 1 by omega, imS, show ((k.toNat : Nat) : Int) = k by omega, show i.toNat = (2 * σ 0 (960 + k)).toNat by omega])) (by omega)
            · refine g_aload_n hΓ rfl dX0_image_77 ?_
              refine g_iload hΓ rfl dX0_image_78 ?_
              refine x_iald hΓ hsf.2.1 rfl ⟨by decide, rfl⟩ (by omega) (by omega) dX0_image_80 ?_
              refine g_topi (((tf _ _ (by rw [hsf.2.1, mdN _ (by decide)]; decide)).trans (hsk.2.2 i (by omega) (by omega)))) ?_
              have hpt : 0 ≤ σ 0 (24 * k + i) ∧ σ 0 (24 * k + i) ≤ 99 := hsq.2.2 i (by omega) (by omega)
              obtain ⟨x15, ex15⟩ : ∃ z9 : Int, z9 = σ 0 (24 * k + i) := ⟨_, rfl⟩
              refine g_topi ex15.symm ?_
              refine g_istore hΓ dX0_image_81 rfl (Nat.le_of_ble_eq_true rfl) (lv' := [some (.ref (P.1)), some (.int (iI k)), some (.ref (lE R NI k)), some (.ref (rf R (lE R NI k) 0)), some (.int (iI x12)), some (.int (iI i)), some (.int (iI x15))]) rfl ?_
              refine g_aload_n hΓ rfl dX0_image_83 ?_
              refine g_iload hΓ rfl dX0_image_84 ?_
              refine x_callV (As := [.int (iI x15)]) (rest := []) (c := 0) hE hΓ (x_X0_writes hE hX S t R P τ x15 hx1 (by omega) (by omega) ) hp.1 ⟨by decide, rfl⟩ rfl rfl q1327 q1329 qs54 q123 q1330 ndX0_writes rfl (by decide) (by decide) (Nat.zero_le _) (Nat.zero_le _) rfl (Nat.le_of_ble_eq_true rfl) dX0_image_86 rfl (fun v16 S16 τ16 ρ16 h16 => ?_)
              obtain ⟨rfl, h16, S16e, τ16f, ρ16e⟩ := h16
              have S16e := S16e.symm; subst S16e
              have ρ16e := ρ16e.symm; subst ρ16e
              obtain ⟨x17, ex17⟩ : ∃ z9 : Int, z9 = i + 1 := ⟨_, rfl⟩
              refine g_iinc hΓ dX0_image_89 rfl rfl (lv' := [some (.ref (P.1)), some (.int (iI k)), some (.ref (lE R NI k)), some (.ref (rf R (lE R NI k) 0)), some (.int (iI x12)), some (.int (iI x17)), some (.int (iI x15))]) (by rw [ex17]; rfl) ?_
              refine g_goto (tgt := 70) hΓ dX0_image_92 (by decide) ?_
              refine g_lvw (lv' := [some (.ref (P.1)), some (.int (iI k)), some (.ref (lE R NI k)), some (.ref (rf R (lE R NI k) 0)), some (.int (iI x12)), some (.int (iI x17)), none]) ⟨rfl, ⟨rfl, ⟨rfl, ⟨rfl, ⟨rfl, ⟨rfl, trivial⟩⟩⟩⟩⟩⟩ ?_
              exact ih_inn τ16 (wrS τ (σ 0 (24 * k + i))) x17 (by omega) (by rw [← ex15]; exact h16) (fr_t tf τ16f) (fun q9 n1 n2 => by rw [wrS_f ⟨n1, n2⟩]; exact hr q9 n1 n2) (fun j9 x9 y9 => by
                rw [wrS_39]
                rw [wrS_40] at y9
                by_cases c9 : j9 = τ 40 0
                · rw [c9, up_s]; omega
                · rw [up_n c9]; exact hV j9 x9 (by omega)) (by omega) (by rw [wrS_39, show x17.toNat = i.toNat + 1 by omega, imK, ptI, h39, h40, show 24 * k + ((i.toNat : Nat) : Int) = 24 * k + i by omega]) (by rw [wrS_40, show x17.toNat = i.toNat + 1 by omega, imK, ptI, h40]) (by rw [wrS_40]; omega)
        refine g_iconst hΓ dX0_image_67 ?_
        refine g_istore hΓ dX0_image_68 rfl (Nat.le_of_ble_eq_true rfl) (lv' := [some (.ref (P.1)), some (.int (iI k)), some (.ref (lE R NI k)), some (.ref (rf R (lE R NI k) 0)), some (.int (iI x12)), some (.int (iI 0)), none]) rfl ?_
        exact inn 25 τ11 (wrS τ (σ 0 (960 + k))) 0 (by omega) (by exact h11) (fr_t tf τ11f) (fun q9 n1 n2 => by rw [wrS_f ⟨n1, n2⟩]; exact hr q9 n1 n2) (fun j9 x9 y9 => by
          rw [wrS_39]
          rw [wrS_40] at y9
          by_cases c9 : j9 = τ 40 0
          · rw [c9, up_s]; omega
          · rw [up_n c9]; exact hV j9 x9 (by omega)) (by omega) (by rw [wrS_39, h39, h40]; rfl) (by rw [wrS_40, h40]; rfl) (by rw [wrS_40]; omega)
  refine g_aload_n hΓ rfl dX0_image_5 ?_
  refine g_aload_n hΓ rfl dX0_image_6 ?_
  refine x_geta (r := some N) (c := 0) hE hΓ in_X0 rfl hp.1 ⟨by decide, rfl⟩ 4 (ji := 4) rfl (by decide) (by decide) rfl q250 rfl rfl hN.1.1 dX0_image_7 ?_
  show gW Γ E (xM E S τ1 R) 0 0 _ _ (.ref N :: _)
  refine x_geta (r := some NI) (c := 1) hE hΓ in_X1 rfl hN.1.2 ⟨by decide, rfl⟩ 1 (ji := 1) rfl (by decide) (by decide) rfl q200 rfl rfl hN.2.2.1.1 dX0_image_10 ?_
  show gW Γ E (xM E S τ1 R) 0 0 _ _ (.ref NI :: _)
  refine x_callV (As := []) (rest := [.ref (P.1)]) (c := 10) hE hΓ (x_J2_size hE hX S τ1 R NI 10 hN.2.2.1.2 (by decide) ) hN.2.2.1.2 ⟨by decide, rfl⟩ rfl rfl q845 q662 q663 q127 q664 ndJ2_size rfl (by decide) (by decide) (Nat.zero_le _) (Nat.zero_le _) rfl (Nat.le_of_ble_eq_true rfl) dX0_image_13 rfl (fun v18 S18 τ18 ρ18 h18 => ?_)
  obtain ⟨rfl, S18e, τ18e, ρ18e⟩ := h18
  have S18e := S18e.symm; subst S18e
  have τ18e := τ18e.symm; subst τ18e
  have ρ18e := ρ18e.symm; subst ρ18e
  refine g_topi (((τ1f NI 2 (Or.inl (ne_k hN.2.2.1.2 hp.1 (by decide)))).trans hN.2.2.2.2.1)) ?_
  show gW Γ E (xM E S τ1 R) _ _ _ _ (.int (iI (σ 0 1009)) :: _)
  refine x_callV (As := [.int (iI (σ 0 1009))]) (rest := []) (c := 0) hE hΓ (x_X0_writes hE hX S τ1 R P (us σ 40 0 0) (σ 0 1009) hx0 (by omega) (by rw [us_s]; decide) ) hp.1 ⟨by decide, rfl⟩ rfl rfl q1327 q1329 qs54 q123 q1330 ndX0_writes rfl (by decide) (by decide) (Nat.zero_le _) (Nat.zero_le _) rfl (Nat.le_of_ble_eq_true rfl) dX0_image_16 rfl (fun v19 S19 τ19 ρ19 h19 => ?_)
  obtain ⟨rfl, h19, S19e, τ19f, ρ19e⟩ := h19
  have S19e := S19e.symm; subst S19e
  have ρ19e := ρ19e.symm; subst ρ19e
  refine g_iconst hΓ dX0_image_19 ?_
  refine g_istore_n hΓ dX0_image_20 rfl (Nat.le_of_ble_eq_true rfl) (lv' := [some (.ref (P.1)), some (.int (iI 0)), none, none, none, none, none]) rfl ?_
  exact out 9 τ19 (wrS (us σ 40 0 0) (σ 0 1009)) 0 (by omega) h19 (fr_t (fr_w hf9 (by decide)) τ19f) (fun q9 n1 n2 => by rw [wrS_f ⟨n1, n2⟩, us_f n2]) (fun j9 x9 y9 => by
    have y8 : j9 < 0 + 1 := y9
    rw [wrS_39, us_s, show j9 = 0 by omega, up_s]; omega) (by omega) (by rw [wrS_39, us_s, us_f (by decide)]; rfl) (by rw [wrS_40, us_s]; rfl) (by rw [wrS_40, us_s]; omega)
