set_option maxRecDepth 100000
set_option maxHeartbeats 4000000 in
theorem x_X0_wobbled {l : Launch} {E : gE} {X : State → Prop} {Z : Nat → Nat} {Y : Nat → Option Nat} (hE : E.2.1 = clsX) (hX : xOK l E X Z Y) (S : xS) (D : xD) (R : xR) (P : xPk) (σ : mS) (s : Nat) (n np : Int) (f : Int → Int) (hx : Rx E Z S D R P σ) (hs : skR S D R s np f) (hn : 1 ≤ n ∧ n ≤ 9) : xC l E X yX0_wobbled cX0_wobbled 4 (some (.object "LetterPen$Stroke")) 3 6 108 [.ref (P.1), .ref s, .int (iI n)] S D R (fun rv S' D' R' => ∃ q9 : Nat, rv = some (.ref q9) ∧ (Rx E Z S' D' R' P (us σ 5 0 (sdN (σ 5 0) (2 * np).toNat)) ∧ skR S' D' R' q9 np (fun j => wbV (f j) n (sdN (σ 5 0) j.toNat)) ∧ (∀ p, (S p).1 ≠ 0 → R' p = R p) ∧ ∀ p, (S p).1 ≠ 0 → (S p).1 ≠ 1 → (S p).1 ≠ 53 → (S p).1 ≠ 1035 → D' p = D p) ∧ sle S S') := by
  refine xC.of hX.1 (by decide) [some (.ref (P.1)), some (.ref s), some (.int (iI n)), none] (Nat.le_of_ble_eq_true rfl) rfl rfl (fun Γ hΓ => ?_)
  obtain ⟨hg, hp, hki, hro, hnw, hbh, hsa, hpd⟩ := id hx
  obtain ⟨N, NI, NM, NV, hN⟩ := (hx).now
  have hAw := hg.2.2.2.2.2.2
  have hG : GS S D R := hg.1
  obtain ⟨h1000, h1009, h1042, h1043, h1044, h1045, h1046, h1047, hms, hsi, hsm, hnm⟩ := id hro
  have eN := hN.2.2.2.2.2.2.2.2.2.2.2.2
  have kNV : (S NV).1 = 45 := by rw [hN.2.2.2.1.2]
  have nNV : (S NV).2.1 = 6 := by rw [hN.2.2.2.1.2]
  have hok := skOK_of hG hs
  have hn1 := hok.1
  have hn2 := hok.2.1
  have hsf := (hG s hs.1).1.1
  have hpl := hs.2.1
  have hsd := hpd.2.2.2.2.1.2
  have loop : ∀ (fu : Nat) (t : xD) (k : Int), (2 * np - k).toNat < fu → (0 ≤ k ∧ k ≤ 2 * np) → (Rx E Z S t R P (us σ 5 0 (sdN (σ 5 0) k.toNat))) → (∀ (p : Nat) (j : Int), (S p).1 ≠ 1 → (S p).1 ≠ 53 → (S p).1 ≠ 1035 → t p j = D p j) → (∀ j, 0 ≤ j → j < k → t (P.2.1 3) j = wbV (f j) n (sdN (σ 5 0) j.toNat)) → gW Γ E (xM E S t R) 0 0 2 [some (.ref (P.1)), some (.ref s), some (.int (iI n)), some (.int (iI k))] [] := by
    intro fu
    induction fu with
    | zero => intro t k hn; exact absurd hn (Nat.not_lt_zero _)
    | succ fu ih_loop =>
      intro t k hn hk hx1 ht hw
      have hpd2 := hx1.2.2.2.2.2.2.2
      have hsk2 := sdN_r hsd k.toNat
      refine g_iload_n hΓ rfl dX0_wobbled_2 ?_
      refine g_aload_n hΓ rfl dX0_wobbled_3 ?_
      refine x_getaN (r := some (rf R s 0)) (c := 8) hE hΓ in_X8 rfl hs.1 ⟨by decide, rfl⟩ 0 (ji := 0) rfl (by decide) (by decide) rfl (xn_803 hX) rfl rfl hsf.1 dX0_wobbled_4 ?_
      show gW Γ E (xM E S t R) 0 0 _ _ (.ref (rf R s 0) :: _)
      refine x_alen hΓ hsf.2.1 rfl ⟨by decide, by decide⟩ dX0_wobbled_7 ?_
      refine g_topi (show (((S (rf R s 0)).2.1 : Nat) : Int) = (2 * np) by omega) ?_
      refine g_icmp_ge (tgt := 50) hΓ (by omega) (by omega) dX0_wobbled_8 (by decide) (fun c1 => ?_) (fun c1 => ?_)
      · refine x_new (c := 8) hE hΓ (xn_new hX) 8 0 in_X8 rfl ⟨by decide, rfl⟩ tyX8 tyX8_ok rfl q915 q786 q144 fs0_8 (by omega) (by omega) dX0_wobbled_50 (fun q2 S2 δ2 ρ2 q2z q2w S2e δ2e ρ2e => ?_)
        have S2f : ∀ q9 : Nat, (S q9).1 ≠ 0 → S2 q9 = S q9 := fun q9 h9 => by rw [S2e]; exact uS_n (fun e9 => h9 (by rw [e9]; exact q2z))
        have S2q : S2 q2 = (8, 7, 0) := by rw [S2e]; exact uS_s _ _ _ _ _
        have δ2z : ∀ j9 : Int, δ2 q2 j9 = 0 := fun j9 => by rw [δ2e, uN_s]
        have δ2f : ∀ (q9 : Nat) (j9 : Int), q9 ≠ q2 → δ2 q9 j9 = t q9 j9 := fun q9 j9 h9 => by rw [δ2e, uN_n h9]
        have ρ2z : ∀ j9 : Int, ρ2 q2 j9 = none := fun j9 => by rw [ρ2e, uN_s]
        have ρ2f : ∀ (q9 : Nat) (j9 : Int), q9 ≠ q2 → ρ2 q9 j9 = R q9 j9 := fun q9 j9 h9 => by rw [ρ2e, uN_n h9]
        have kd3 : (S2 (P.1)).1 = 1 := kup hp.1 (by decide) S2f
        have kd4 : (S2 N).1 = 2 := kup hN.1.2 (by decide) S2f
        have kd5 : (S2 NI).1 = 10 := kup hN.2.2.1.2 (by decide) S2f
        have kd6 : (S2 NM).1 = 11 := kup hN.2.1.2 (by decide) S2f
        have kd7 : (S2 NV).1 = 45 := kup kNV (by decide) S2f
        have ln7 : (S2 NV).2.1 = 6 := nup kNV (by decide) nNV S2f
        have kd8 : (S2 s).1 = 8 := kup hs.1 (by decide) S2f
        have kd9 : (S2 (rf R s 0)).1 = 40 := kup hsf.2.1 (by decide) S2f
        have ln9 : (S2 (rf R s 0)).2.1 = (S (rf R s 0)).2.1 := nup hsf.2.1 (by decide) rfl S2f
        have kdq2 : (S2 q2).1 = 8 := by rw [S2q]
        have lnq2 : (S2 q2).2.1 = 7 := by rw [S2q]
        refine g_dup hΓ rfl dX0_wobbled_53 ?_
        refine g_aload_n hΓ rfl dX0_wobbled_54 ?_
        refine x_geta (r := some (P.2.1 3)) (c := 0) hE hΓ in_X0 rfl kd3 ⟨by decide, rfl⟩ 3 (ji := 3) rfl (by decide) (by decide) rfl q248 rfl rfl ((ρ2f (P.1) 3 (ne_k hp.1 q2z (by decide))).trans (pA_r hp 3 rfl rfl)) dX0_wobbled_55 ?_
        show gW Γ E (xM E S2 δ2 ρ2) (0 + 1) (0 + 7) _ _ (.ref (P.2.1 3) :: _)
        refine g_aload_n hΓ rfl dX0_wobbled_58 ?_
        refine x_getaN (r := some (rf R s 0)) (c := 8) hE hΓ in_X8 rfl kd8 ⟨by decide, rfl⟩ 0 (ji := 0) rfl (by decide) (by decide) rfl (xn_803 hX) rfl rfl ((ρ2f s 0 (ne_k hs.1 q2z (by decide))).trans hsf.1) dX0_wobbled_59 ?_
        show gW Γ E (xM E S2 δ2 ρ2) (0 + 1) (0 + 7) _ _ (.ref (rf R s 0) :: _)
        refine x_alen hΓ kd9 ln9 ⟨by decide, by decide⟩ dX0_wobbled_62 ?_
        refine g_topi (show (((S (rf R s 0)).2.1 : Nat) : Int) = (2 * np) by omega) ?_
        have k53 := pA_k hp 3 rfl (n := 53) rfl
        have hdn := del_new hx1.1 q2z S2e δ2e ρ2e
        have er9 : ∀ j9, 0 ≤ j9 → j9 < 2 * np → δ2 (P.2.1 3) j9 = wbV (f j9) n (sdN (σ 5 0) j9.toNat) := fun j9 x9 y9 => (δ2f _ _ (ne_k k53 q2z (by decide))).trans (hw j9 x9 (by omega))
        refine x_callI (As := [.ref (P.2.1 3), .int (iI (2 * np))]) (rest := [.ref q2]) hΓ (x_X8_init hE hX S2 δ2 ρ2 q2 (P.2.1 3) 0 (2 * np) S2q q2w hdn.1 (kup k53 (by decide) S2f) (nup k53 (by decide) (pA_n hp 3 rfl (n := 24) rfl) S2f) (hAw _ (by rw [k53]; rfl)) (by omega) (fun j9 x9 y9 => by rw [er9 j9 x9 y9]; exact wbV_r _ _ _) δ2z ) rfl q1274 q788 q144 q789 ndX8_init rfl rfl (by decide) (by decide) (by omega) (by omega) rfl (Nat.le_of_ble_eq_true rfl) dX0_wobbled_63 rfl (fun v10 S10 τ10 ρ10 h10 => ?_)
        obtain ⟨rfl, h10, S10f⟩ := h10
        have kd11 : (S10 (P.1)).1 = 1 := kup kd3 (by decide) S10f
        have kd12 : (S10 N).1 = 2 := kup kd4 (by decide) S10f
        have kd13 : (S10 NI).1 = 10 := kup kd5 (by decide) S10f
        have kd14 : (S10 NM).1 = 11 := kup kd6 (by decide) S10f
        have kd15 : (S10 NV).1 = 45 := kup kd7 (by decide) S10f
        have ln15 : (S10 NV).2.1 = 6 := nup kd7 (by decide) ln7 S10f
        have kd16 : (S10 s).1 = 8 := kup kd8 (by decide) S10f
        have kd17 : (S10 (rf R s 0)).1 = 40 := kup kd9 (by decide) S10f
        have ln17 : (S10 (rf R s 0)).2.1 = (S (rf R s 0)).2.1 := nup kd9 (by decide) ln9 S10f
        have kd18 : (S10 q2).1 = 8 := kup kdq2 (by decide) S10f
        have ln18 : (S10 q2).2.1 = 7 := nup kdq2 (by decide) lnq2 S10f
        exact x_aret hΓ (Or.inl ⟨_, rfl⟩) (Or.inr ⟨_, rfl⟩) dX0_wobbled_66 (by omega) (by omega) ⟨q2, rfl, ⟨by rw [show (2 * np).toNat = k.toNat by omega]; exact Rx_ext0 (ext_t hdn.2 h10.2.1) hx1 h10.1, skR_to h10.2.2 (by omega) (fun j9 x9 y9 => (er9 j9 x9 (by omega)).symm), fun p9 h9 => (ext_t hdn.2 h10.2.1).2.2 p9 h9, fun p9 h9 n1 n2 n3 => ((ext_t hdn.2 h10.2.1).2.1 p9 h9).trans (funext fun j9 => ht p9 j9 n1 n2 n3)⟩, (sle_t S2f S10f)⟩
      · refine g_aload_n hΓ rfl dX0_wobbled_11 ?_
        refine x_geta (r := some (P.2.1 3)) (c := 0) hE hΓ in_X0 rfl hp.1 ⟨by decide, rfl⟩ 3 (ji := 3) rfl (by decide) (by decide) rfl q248 rfl rfl (pA_r hp 3 rfl rfl) dX0_wobbled_12 ?_
        show gW Γ E (xM E S t R) 0 0 _ _ (.ref (P.2.1 3) :: _)
        refine g_iload_n hΓ rfl dX0_wobbled_15 ?_
        refine g_iconst hΓ dX0_wobbled_16 ?_
        refine g_bipush hΓ (by decide) dX0_wobbled_17 ?_
        refine g_aload_n hΓ rfl dX0_wobbled_19 ?_
        refine x_getaN (r := some (rf R s 0)) (c := 8) hE hΓ in_X8 rfl hs.1 ⟨by decide, rfl⟩ 0 (ji := 0) rfl (by decide) (by decide) rfl (xn_803 hX) rfl rfl hsf.1 dX0_wobbled_20 ?_
        show gW Γ E (xM E S t R) 0 0 _ _ (.ref (rf R s 0) :: _)
        refine g_iload_n hΓ rfl dX0_wobbled_23 ?_
        have hfk := hok.2.2 k (by omega) (by omega)
        refine x_iald hΓ hsf.2.1 rfl ⟨by decide, rfl⟩ (by omega) (by omega) dX0_wobbled_24 ?_
        refine g_topi (((ht (rf R s 0) k (by rw [hsf.2.1]; decide) (by rw [hsf.2.1]; decide) (by rw [hsf.2.1]; decide)).trans (hs.2.2 k (by omega) (by omega)))) ?_
        refine g_aload_n hΓ rfl dX0_wobbled_25 ?_
        refine g_iconst hΓ dX0_wobbled_26 ?_
        refine g_iload_n hΓ rfl dX0_wobbled_27 ?_
        refine g_imul hΓ dX0_wobbled_28 ?_
        refine g_iconst hΓ dX0_wobbled_29 ?_
        refine g_iadd hΓ dX0_wobbled_30 ?_
        refine x_callV (As := [.int (iI ((2 * n) + 1))]) (rest := [.int (iI (f k)), .int (iI 99), .int (iI 0), .int (iI k), .ref (P.2.1 3)]) (c := 0) hE hΓ (x_X0_drawOf hE hX S t R P (us σ 5 0 (sdN (σ 5 0) k.toNat)) ((2 * n) + 1) hx1 (by omega) ) hp.1 ⟨by decide, rfl⟩ rfl rfl q1311 q1313 qs53 q123 q1314 ndX0_drawOf rfl (by decide) (by decide) (Nat.zero_le _) (Nat.zero_le _) rfl (Nat.le_of_ble_eq_true rfl) dX0_wobbled_31 rfl (fun v19 S19 τ19 ρ19 h19 => ?_)
        obtain ⟨rfl, h19, S19e, τ19f, ρ19e⟩ := h19
        have S19e := S19e.symm; subst S19e
        have ρ19e := ρ19e.symm; subst ρ19e
        rw [us_us, us_s] at h19
        have hdr : 0 ≤ sdF (sdN (σ 5 0) k.toNat) / 64 % (2 * n + 1) ∧ sdF (sdN (σ 5 0) k.toNat) / 64 % (2 * n + 1) ≤ 18 := ⟨Int.emod_nonneg _ (by omega), by have h9 := Int.emod_lt_of_pos (sdF (sdN (σ 5 0) k.toNat) / 64) (show 0 < 2 * n + 1 by omega); omega⟩
        rw [us_s]
        show gW Γ E (xM E S τ19 R) _ _ _ _ (.int (iI (sdF (sdN (σ 5 0) k.toNat) / 64 % ((2 * n) + 1))) :: _)
        refine g_iadd hΓ dX0_wobbled_34 ?_
        refine g_iload_n hΓ rfl dX0_wobbled_35 ?_
        refine g_isub hΓ dX0_wobbled_36 ?_
        refine x_callS (As := [.int (iI 99), .int (iI (((f k) + (sdF (sdN (σ 5 0) k.toNat) / 64 % ((2 * n) + 1))) - n))]) (rest := [.int (iI 0), .int (iI k), .ref (P.2.1 3)]) hΓ (x_J3_min hE hX S τ19 R 99 (((f k) + (sdF (sdN (σ 5 0) k.toNat) / 64 % ((2 * n) + 1))) - n) (by first | assumption | omega) (by first | assumption | omega)) rfl q222 q223 q129 q224 ndJ3_min rfl (by decide) (by decide) (Nat.zero_le _) (Nat.zero_le _) rfl (Nat.le_of_ble_eq_true rfl) dX0_wobbled_37 rfl (fun v20 S20 τ20 ρ20 h20 => ?_)
        obtain ⟨rfl, S20e, τ20e, ρ20e⟩ := h20
        have S20e := S20e.symm; subst S20e
        have τ20e := τ20e.symm; subst τ20e
        have ρ20e := ρ20e.symm; subst ρ20e
        show gW Γ E (xM E S τ19 R) _ _ _ _ (.int (iI (min 99 (((f k) + (sdF (sdN (σ 5 0) k.toNat) / 64 % ((2 * n) + 1))) - n))) :: _)
        refine x_callS (As := [.int (iI 0), .int (iI (min 99 (((f k) + (sdF (sdN (σ 5 0) k.toNat) / 64 % ((2 * n) + 1))) - n)))]) (rest := [.int (iI k), .ref (P.2.1 3)]) hΓ (x_J3_max hE hX S τ19 R 0 (min 99 (((f k) + (sdF (sdN (σ 5 0) k.toNat) / 64 % ((2 * n) + 1))) - n)) (by first | assumption | omega) (by first | assumption | omega)) rfl q1019 q722 q129 q723 ndJ3_max rfl (by decide) (by decide) (Nat.zero_le _) (Nat.zero_le _) rfl (Nat.le_of_ble_eq_true rfl) dX0_wobbled_40 rfl (fun v21 S21 τ21 ρ21 h21 => ?_)
        obtain ⟨rfl, S21e, τ21e, ρ21e⟩ := h21
        have S21e := S21e.symm; subst S21e
        have τ21e := τ21e.symm; subst τ21e
        have ρ21e := ρ21e.symm; subst ρ21e
        show gW Γ E (xM E S τ19 R) _ _ _ _ (.int (iI (max 0 (min 99 (((f k) + (sdF (sdN (σ 5 0) k.toNat) / 64 % ((2 * n) + 1))) - n)))) :: _)
        refine x_iast hΓ (pA_k hp 3 rfl (n := 53) rfl) (pA_n hp 3 rfl (n := 24) rfl) ⟨by decide, rfl⟩ (hAw _ (by rw [(pA_k hp 3 rfl (n := 53) rfl)]; rfl)) (by omega) (by omega) dX0_wobbled_43 (fun τ22 τ22e => ?_)
        have τ22r : τ22 (P.2.1 3) k = max 0 (min 99 (((f k) + (sdF (sdN (σ 5 0) k.toNat) / 64 % ((2 * n) + 1))) - n)) := by rw [τ22e]; exact us_s _ _ _ _
        have τ22f : ∀ (q9 : Nat) (j9 : Int), (q9 ≠ (P.2.1 3) ∨ j9 ≠ k) → τ22 q9 j9 = τ19 q9 j9 := fun q9 j9 hh => by rw [τ22e]; exact us_n hh
        obtain ⟨x23, ex23⟩ : ∃ z9 : Int, z9 = k + 1 := ⟨_, rfl⟩
        refine g_iinc hΓ dX0_wobbled_44 rfl rfl (lv' := [some (.ref (P.1)), some (.ref s), some (.int (iI n)), some (.int (iI x23))]) (by rw [ex23]; rfl) ?_
        refine g_goto (tgt := 2) hΓ dX0_wobbled_47 (by decide) ?_
        have hfr : fr S τ19 τ22 [53] := (fun q9 j9 hk9 => by exact (τ22f q9 j9 (Or.inl (fun e9 => hk9 (by rw [e9, (pA_k hp 3 rfl (n := 53) rfl), mdN _ (by decide)]; decide)))))
        have hx5 := Rx_tmp h19 hfr (by decide) (by decide)
        have hv9 : max 0 (min 99 (((f k) + (sdF (sdN (σ 5 0) k.toNat) / 64 % ((2 * n) + 1))) - n)) = wbV (f k) n (sdN (σ 5 0) k.toNat) := by rw [wbV]; congr 2; omega
        have k53 := pA_k hp 3 rfl (n := 53) rfl
        exact ih_loop τ22 x23 (by omega) (by omega) (by rw [show x23.toNat = k.toNat + 1 by omega, sdN]; exact hx5) (fun p9 j9 n1 n2 n3 => (τ22f p9 j9 (Or.inl (fun e9 => n2 (by rw [e9]; exact k53)))).trans ((fr_35 τ19f n1 n3 j9).trans (ht p9 j9 n1 n2 n3))) (fun j9 x9 y9 => by
          by_cases c9 : j9 = k
          · rw [c9]; exact τ22r.trans hv9
          · exact (τ22f _ _ (Or.inr c9)).trans ((τ19f _ _ (by rw [k53, mdN _ (by decide)]; decide)).trans (hw j9 x9 (by omega))))
  refine g_iconst hΓ dX0_wobbled_0 ?_
  refine g_istore_n hΓ dX0_wobbled_1 rfl (Nat.le_of_ble_eq_true rfl) (lv' := [some (.ref (P.1)), some (.ref s), some (.int (iI n)), some (.int (iI 0))]) rfl ?_
  exact loop 25 D 0 (by omega) (by omega) (Rx_same hx (fun k9 h9 => us_f (by simp at h9; omega)) (fun k9 h9 => by
    by_cases c9 : k9 = 5
    · rw [c9]; exact us_s _ _ _ _
    · exact us_n (Or.inl c9))) (fun _ _ _ _ _ => rfl) (fun j9 x9 y9 => absurd x9 (by omega))
set_option maxHeartbeats 4000000 in
theorem x_X0_wobble {l : Launch} {E : gE} {X : State → Prop} {Z : Nat → Nat} {Y : Nat → Option Nat} (hE : E.2.1 = clsX) (hX : xOK l E X Z Y) (S : xS) (D : xD) (R : xR) (P : xPk) (σ : mS) (n : Int) (hx : Rx E Z S D R P σ) (hn : r32 n) : xC l E X yX0_wobble cX0_wobble 4 (some .int) 8 60 1100 [.ref (P.1), .int (iI n)] S D R (fun rv S' D' R' => rv = some (.int (iI (if wobC σ n then wbM (fun s => σ 0 (960 + s)) (σ 0 1009).toNat else -1))) ∧ (Rx E Z S' D' R' P (if wobC σ n then wobS σ n else us σ 13 2 (σ 13 2 + 1))) ∧ sle S S') := by
  refine xC.of hX.1 (by decide) [some (.ref (P.1)), some (.int (iI n)), none, none] (Nat.le_of_ble_eq_true rfl) rfl rfl (fun Γ hΓ => ?_)
  obtain ⟨hg, hp, hki, hro, hnw, hbh, hsa, hpd⟩ := id hx
  obtain ⟨N, NI, NM, NV, hN⟩ := (hx).now
  have hAw := hg.2.2.2.2.2.2
  have hG : GS S D R := hg.1
  obtain ⟨h1000, h1009, h1042, h1043, h1044, h1045, h1046, h1047, hms, hsi, hsm, hnm⟩ := id hro
  have eN := hN.2.2.2.2.2.2.2.2.2.2.2.2
  have kNV : (S NV).1 = 45 := by rw [hN.2.2.2.1.2]
  have nNV : (S NV).2.1 = 6 := by rw [hN.2.2.2.1.2]
  have hro1 := hro
  have hsi1 := hsi
  refine g_iload_n hΓ rfl dX0_wobble_0 ?_
  refine g_i2l hΓ (by omega) dX0_wobble_1 ?_
  refine g_lconst (a := 1) hΓ rfl dX0_wobble_2 ?_
  refine g_ldc2 (n := 9) hΓ rfl q1306 (by decide) dX0_wobble_3 ?_
  refine x_callS (As := [.long (lI n), .long (lI 1), .long (lI 9)]) (rest := []) hΓ (x_X0_isIn hE hX S D R n 1 9 (by first | assumption | omega) (by first | assumption | omega) (by first | assumption | omega)) rfl q387 q388 q123 q389 ndX0_isIn rfl (by decide) (by decide) (Nat.zero_le _) (Nat.zero_le _) rfl (Nat.le_of_ble_eq_true rfl) dX0_wobble_6 rfl (fun v1 S1 τ1 ρ1 h1 => ?_)
  obtain ⟨rfl, S1e, τ1e, ρ1e⟩ := h1
  have S1e := S1e.symm; subst S1e
  have τ1e := τ1e.symm; subst τ1e
  have ρ1e := ρ1e.symm; subst ρ1e
  show gW Γ E (xM E S D R) _ _ _ _ (.int (iI (if 1 ≤ n ∧ n ≤ 9 then 1 else 0)) :: _)
  refine g_ifB_eq (tgt := 25) hΓ  dX0_wobble_9 (by decide) (fun c2 => ?_) (fun c2 => ?_)
  · refine g_aload_n hΓ rfl dX0_wobble_25 ?_
    refine g_iconst hΓ dX0_wobble_26 ?_
    refine x_callV (As := [.int (iI 2)]) (rest := []) (c := 0) hE hΓ (x_X0_refused hE hX S D R P σ 2 hx (by first | assumption | omega) ) hp.1 ⟨by decide, rfl⟩ rfl rfl q366 q368 qs2 q123 q369 ndX0_refused rfl (by decide) (by decide) (Nat.zero_le _) (Nat.zero_le _) rfl (Nat.le_of_ble_eq_true rfl) dX0_wobble_27 rfl (fun v3 S3 τ3 ρ3 h3 => ?_)
    obtain ⟨rfl, h3, S3e, τ3f, ρ3e⟩ := h3
    have S3e := S3e.symm; subst S3e
    have ρ3e := ρ3e.symm; subst ρ3e
    show gW Γ E (xM E S τ3 R) _ _ _ _ (.int (iI (-1)) :: _)
    exact x_iret hΓ dX0_wobble_30 (Nat.zero_le _) (Nat.zero_le _) ⟨ri (by rw [if_neg (by omega)]), (by rw [if_neg (by omega)]; exact h3), (fun q h => rfl)⟩
  · refine g_aload_n hΓ rfl dX0_wobble_12 ?_
    refine x_geta (r := some N) (c := 0) hE hΓ in_X0 rfl hp.1 ⟨by decide, rfl⟩ 4 (ji := 4) rfl (by decide) (by decide) rfl q250 rfl rfl hN.1.1 dX0_wobble_13 ?_
    show gW Γ E (xM E S D R) 0 0 _ _ (.ref N :: _)
    refine x_geta (r := some NI) (c := 1) hE hΓ in_X1 rfl hN.1.2 ⟨by decide, rfl⟩ 1 (ji := 1) rfl (by decide) (by decide) rfl q200 rfl rfl hN.2.2.1.1 dX0_wobble_16 ?_
    show gW Γ E (xM E S D R) 0 0 _ _ (.ref NI :: _)
    have hz5 : D NI 2 = σ 0 1009 := hN.2.2.2.2.1
    refine x_callV (As := []) (rest := []) (c := 10) hE hΓ (x_J2_isEmpty hE hX S D R NI 10 hN.2.2.1.2 (by decide) (by omega) ) hN.2.2.1.2 ⟨by decide, rfl⟩ rfl rfl q1143 q1144 q1145 q127 q1146 ndJ2_isEmpty rfl (by decide) (by decide) (Nat.zero_le _) (Nat.zero_le _) rfl (Nat.le_of_ble_eq_true rfl) dX0_wobble_19 rfl (fun v4 S4 τ4 ρ4 h4 => ?_)
    obtain ⟨rfl, S4e, τ4e, ρ4e⟩ := h4
    have S4e := S4e.symm; subst S4e
    have τ4e := τ4e.symm; subst τ4e
    have ρ4e := ρ4e.symm; subst ρ4e
    refine g_topi (show (if D NI 2 = 0 then 1 else 0 : Int) = (if σ 0 1009 = 0 then 1 else 0) by rw [hN.2.2.2.2.1]) ?_
    show gW Γ E (xM E S D R) _ _ _ _ (.int (iI (if σ 0 1009 = 0 then 1 else 0)) :: _)
    refine g_ifB_eq (tgt := 31) hΓ  dX0_wobble_22 (by decide) (fun c6 => ?_) (fun c6 => ?_)
    · refine g_aload_n hΓ rfl dX0_wobble_31 ?_
      refine x_callV (As := []) (rest := []) (c := 0) hE hΓ (x_X0_keeps hE hX S D R P σ  hx  ) hp.1 ⟨by decide, rfl⟩ rfl rfl q1264 q1266 qs51 q123 q1267 ndX0_keeps rfl (by decide) (by decide) (by omega) (by omega) rfl (Nat.le_of_ble_eq_true rfl) dX0_wobble_32 rfl (fun v7 S7 τ7 ρ7 h7 => ?_)
      obtain ⟨rfl, h7, S7f⟩ := h7
      have kd8 : (S7 (P.1)).1 = 1 := kup hp.1 (by decide) S7f
      have kd9 : (S7 N).1 = 2 := kup hN.1.2 (by decide) S7f
      have kd10 : (S7 NI).1 = 10 := kup hN.2.2.1.2 (by decide) S7f
      have kd11 : (S7 NM).1 = 11 := kup hN.2.1.2 (by decide) S7f
      have kd12 : (S7 NV).1 = 45 := kup kNV (by decide) S7f
      have ln12 : (S7 NV).2.1 = 6 := nup kNV (by decide) nNV S7f
      have hx1 := h7.1
      have e3k := h7.2
      obtain ⟨hg, hp, hki, hro0, hnw, hbh, hsa, hpd⟩ := id hx1
      have hro : rowOK (σ 0) := hro0
      obtain ⟨N, NI, NM, NV, hN0⟩ := (hx1).now
      have hN : nowF S7 τ7 ρ7 P σ N NI NM NV := hN0
      have hAw := hg.2.2.2.2.2.2
      have hG : GS S7 τ7 ρ7 := hg.1
      obtain ⟨h1000, h1009, h1042, h1043, h1044, h1045, h1046, h1047, hms, hsi, hsm, hnm⟩ := id hro
      have eN := hN.2.2.2.2.2.2.2.2.2.2.2.2
      have kNV : (S7 NV).1 = 45 := by rw [hN.2.2.2.1.2]
      have nNV : (S7 NV).2.1 = 6 := by rw [hN.2.2.2.1.2]
      have eNI : NI = rf ρ7 (rf ρ7 P.1 4) 1 := by rw [eN.2.2.1, eN.1]
      have eNM : NM = rf ρ7 (rf ρ7 P.1 4) 0 := by rw [eN.2.1, eN.1]
      have eNV : NV = rf ρ7 (rf ρ7 P.1 4) 2 := by rw [eN.2.2.2, eN.1]
      refine g_iconst hΓ dX0_wobble_35 ?_
      refine g_istore_n hΓ dX0_wobble_36 rfl (Nat.le_of_ble_eq_true rfl) (lv' := [some (.ref (P.1)), some (.int (iI n)), some (.int (iI 0)), none]) rfl ?_
      refine g_iconst hΓ dX0_wobble_37 ?_
      have hwc : wobC σ n := ⟨by omega, by omega⟩
      have loop : ∀ (fu : Nat) (S1 : xS) (D1 : xD) (R1 : xR) (τ : mS) (mm : Int) (k : Int), (σ 0 1009 - k).toNat < fu → (sle S S1) → (Rx E Z S1 D1 R1 P τ) → (τ 0 = (wbS n (fun s => σ 0 (960 + s)) k.toNat (σ 0, σ 5 0)).1) → (τ 5 0 = (wbS n (fun s => σ 0 (960 + s)) k.toNat (σ 0, σ 5 0)).2) → (∀ q, q ≠ 0 → q ≠ 5 → τ q = remS σ q) → (0 ≤ k ∧ k ≤ σ 0 1009) → (mm = wbM (fun s => σ 0 (960 + s)) k.toNat) → (0 ≤ mm ∧ mm ≤ 12 * k) → gW Γ E (xM E S1 D1 R1) (9 + 6 * k.toNat) (215 + 108 * k.toNat) 39 [some (.ref (P.1)), some (.int (iI n)), some (.int (iI mm)), some (.int (iI k))] [] := by
        intro fu
        induction fu with
        | zero => intro S1 D1 R1 τ mm k hn; exact absurd hn (Nat.not_lt_zero _)
        | succ fu ih_loop =>
          intro S1 D1 R1 τ mm k hn hsl hx1 h0 h5 hr hk hm hmr
          obtain ⟨hg, hp, hki, hro, hnw, hbh, hsa, hpd⟩ := id hx1
          obtain ⟨N, NI, NM, NV, hN⟩ := (hx1).now
          have hAw := hg.2.2.2.2.2.2
          have hG : GS S1 D1 R1 := hg.1
          obtain ⟨h1000, h1009, h1042, h1043, h1044, h1045, h1046, h1047, hms, hsi, hsm, hnm⟩ := id hro
          have eN := hN.2.2.2.2.2.2.2.2.2.2.2.2
          have kNV : (S1 NV).1 = 45 := by rw [hN.2.2.2.1.2]
          have nNV : (S1 NV).2.1 = 6 := by rw [hN.2.2.2.1.2]
          have eNI : NI = rf R1 (rf R1 P.1 4) 1 := by rw [eN.2.2.1, eN.1]
          have h19 := hro1.2.1
          have wh := wbS_hi n (fun s => σ 0 (960 + s)) (N := σ 0 1009) (fun s9 x9 y9 => (hsi1 s9 x9 y9).2.1) (a := (σ 0, σ 5 0)) k.toNat (by omega)
          have e9 : τ 0 1009 = σ 0 1009 := by rw [h0]; exact wh 1009 (by decide) (by omega)
          refine g_iload_n hΓ rfl dX0_wobble_39 ?_
          refine g_aload_n hΓ rfl dX0_wobble_40 ?_
          refine x_geta (r := some N) (c := 0) hE hΓ in_X0 rfl hp.1 ⟨by decide, rfl⟩ 4 (ji := 4) rfl (by decide) (by decide) rfl q250 rfl rfl hN.1.1 dX0_wobble_41 ?_
          show gW Γ E (xM E S1 D1 R1) (9 + 6 * k.toNat) (215 + 108 * k.toNat) _ _ (.ref N :: _)
          refine x_geta (r := some NI) (c := 1) hE hΓ in_X1 rfl hN.1.2 ⟨by decide, rfl⟩ 1 (ji := 1) rfl (by decide) (by decide) rfl q200 rfl rfl hN.2.2.1.1 dX0_wobble_44 ?_
          show gW Γ E (xM E S1 D1 R1) (9 + 6 * k.toNat) (215 + 108 * k.toNat) _ _ (.ref NI :: _)
          refine x_callV (As := []) (rest := [.int (iI k)]) (c := 10) hE hΓ (x_J2_size hE hX S1 D1 R1 NI 10 hN.2.2.1.2 (by decide) ) hN.2.2.1.2 ⟨by decide, rfl⟩ rfl rfl q845 q662 q663 q127 q664 ndJ2_size rfl (by decide) (by decide) (by omega) (by omega) rfl (Nat.le_of_ble_eq_true rfl) dX0_wobble_47 rfl (fun v13 S13 τ13 ρ13 h13 => ?_)
          obtain ⟨rfl, S13e, τ13e, ρ13e⟩ := h13
          have S13e := S13e.symm; subst S13e
          have τ13e := τ13e.symm; subst τ13e
          have ρ13e := ρ13e.symm; subst ρ13e
          refine g_topi (hN.2.2.2.2.1) ?_
          show gW Γ E (xM E S1 D1 R1) _ _ _ _ (.int (iI (τ 0 1009)) :: _)
          refine g_icmp_ge (tgt := 110) hΓ (by omega) (by omega) dX0_wobble_50 (by decide) (fun c14 => ?_) (fun c14 => ?_)
          · refine g_iload_n hΓ rfl dX0_wobble_110 ?_
            have hkk : k.toNat = (σ 0 1009).toNat := by omega
            rw [hkk] at h0 h5 hm
            have hxf : Rx E Z S1 D1 R1 P (wobS σ n) := Rx_same hx1 (fun k9 h9 => by
              by_cases c9 : k9 = 0
              · rw [c9, h0]; funext j9; rfl
              · have c8 : k9 ≠ 5 := by simp at h9; omega
                rw [hr k9 c9 c8]; funext j9; rw [wobS, if_neg c9, if_neg (fun z => c8 z.1)]) (fun k9 h9 => by
              by_cases c9 : k9 = 5
              · rw [c9, h5]; rfl
              · have c8 : k9 ≠ 0 := by simp at h9; omega
                rw [hr k9 c8 c9, wobS, if_neg c8, if_neg (fun z => c9 z.1)])
            exact x_iret hΓ dX0_wobble_111 (by omega) (by omega) ⟨ri (by rw [if_pos hwc]; exact hm), (by rw [if_pos hwc]; exact hxf), hsl⟩
          · have ek : τ 0 (960 + k) = σ 0 (960 + k) := by rw [h0]; exact wh (960 + k) (by omega) (by omega)
            have hsk := hnw.2.2.2.2.1 k (by omega) (by omega)
            rw [← eN.1, ← eN.2.2.1] at hsk
            have hsk1 := (hsi1 k (by omega) (by omega))
            have hk12 := hsk1.2.1
            have hk2 := hsk1.1
            obtain ⟨b15, kb15, hbr15, hbe15, hbk15, hbq15, hbc15⟩ := lsOK_b (hg.2.1 NI (by rw [hN.2.2.1.2]; decide) (by rw [hN.2.2.1.2]; decide)) (by rw [hN.2.2.1.2]; decide)
            have he16 := lsOK_e (hg.2.1 NI (by rw [hN.2.2.1.2]; decide) (by rw [hN.2.2.1.2]; decide)) hbe15 (i := k) (by have := hN.2.2.2.2.1; omega)
            have hk16 : (S1 (lE R1 NI k)).1 = 8 := by rw [he16.2, hN.2.2.1.2]; rfl
            refine g_iload_n hΓ rfl dX0_wobble_53 ?_
            refine g_aload_n hΓ rfl dX0_wobble_54 ?_
            refine x_geta (r := some N) (c := 0) hE hΓ in_X0 rfl hp.1 ⟨by decide, rfl⟩ 4 (ji := 4) rfl (by decide) (by decide) rfl q250 rfl rfl hN.1.1 dX0_wobble_55 ?_
            show gW Γ E (xM E S1 D1 R1) ((9 + 6 * k.toNat) + 0) ((215 + 108 * k.toNat) + 0) _ _ (.ref N :: _)
            refine x_geta (r := some NI) (c := 1) hE hΓ in_X1 rfl hN.1.2 ⟨by decide, rfl⟩ 1 (ji := 1) rfl (by decide) (by decide) rfl q200 rfl rfl hN.2.2.1.1 dX0_wobble_58 ?_
            show gW Γ E (xM E S1 D1 R1) ((9 + 6 * k.toNat) + 0) ((215 + 108 * k.toNat) + 0) _ _ (.ref NI :: _)
            refine g_iload_n hΓ rfl dX0_wobble_61 ?_
            have hz18 : D1 NI 2 = τ 0 1009 := hN.2.2.2.2.1
            refine x_callV (As := [.int (iI k)]) (rest := [.int (iI mm)]) (c := 10) hE hΓ (x_J2_get hE hX S1 D1 R1 NI b15 (lE R1 NI k) 10 kb15 ((S1 b15).2.1) k hN.2.2.1.2 (by decide) hbr15 hbk15 hbq15 rfl (by omega) (by omega) he16.1 ) hN.2.2.1.2 ⟨by decide, rfl⟩ rfl rfl q857 q858 q859 q127 q860 ndJ2_get rfl (by decide) (by decide) (by omega) (by omega) rfl (Nat.le_of_ble_eq_true rfl) dX0_wobble_62 rfl (fun v17 S17 τ17 ρ17 h17 => ?_)
            obtain ⟨rfl, S17e, τ17e, ρ17e⟩ := h17
            have S17e := S17e.symm; subst S17e
            have τ17e := τ17e.symm; subst τ17e
            have ρ17e := ρ17e.symm; subst ρ17e
            show gW Γ E (xM E S1 D1 R1) _ _ _ _ (.ref (lE R1 NI k) :: _)
            refine x_castS (c := 8) hE hΓ rfl q915 hk16 ⟨by decide, rfl⟩ rfl dX0_wobble_65 ?_
            refine x_callV (As := []) (rest := [.int (iI mm)]) (c := 8) hE hΓ (x_X8_many hE hX S1 D1 R1 (lE R1 NI k) hk16 (hg.1 (lE R1 NI k) hk16).1 ) hk16 ⟨by decide, rfl⟩ rfl rfl q929 q930 q931 q144 q932 ndX8_many rfl (by decide) (by decide) (by omega) (by omega) rfl (Nat.le_of_ble_eq_true rfl) dX0_wobble_68 rfl (fun v19 S19 τ19 ρ19 h19 => ?_)
            obtain ⟨rfl, S19e, τ19e, ρ19e⟩ := h19
            have S19e := S19e.symm; subst S19e
            have τ19e := τ19e.symm; subst τ19e
            have ρ19e := ρ19e.symm; subst ρ19e
            refine g_topi (show strN S1 R1 (lE R1 NI k) = σ 0 (960 + k) by have h9 := hsk.2.1; rw [strN]; omega) ?_
            show gW Γ E (xM E S1 D1 R1) _ _ _ _ (.int (iI (σ 0 (960 + k))) :: _)
            refine g_iadd hΓ dX0_wobble_71 ?_
            obtain ⟨x20, ex20⟩ : ∃ z9 : Int, z9 = mm + (σ 0 (960 + k)) := ⟨_, rfl⟩
            refine g_topi ex20.symm ?_
            refine g_istore_n hΓ dX0_wobble_72 rfl (Nat.le_of_ble_eq_true rfl) (lv' := [some (.ref (P.1)), some (.int (iI n)), some (.int (iI x20)), some (.int (iI k))]) rfl ?_
            refine g_aload_n hΓ rfl dX0_wobble_73 ?_
            refine x_geta (r := some N) (c := 0) hE hΓ in_X0 rfl hp.1 ⟨by decide, rfl⟩ 4 (ji := 4) rfl (by decide) (by decide) rfl q250 rfl rfl hN.1.1 dX0_wobble_74 ?_
            show gW Γ E (xM E S1 D1 R1) ((9 + 6 * k.toNat) + 0 + 0 + 0) ((215 + 108 * k.toNat) + 0 + 0 + 0) _ _ (.ref N :: _)
            refine x_geta (r := some NI) (c := 1) hE hΓ in_X1 rfl hN.1.2 ⟨by decide, rfl⟩ 1 (ji := 1) rfl (by decide) (by decide) rfl q200 rfl rfl hN.2.2.1.1 dX0_wobble_77 ?_
            show gW Γ E (xM E S1 D1 R1) ((9 + 6 * k.toNat) + 0 + 0 + 0) ((215 + 108 * k.toNat) + 0 + 0 + 0) _ _ (.ref NI :: _)
            refine g_iload_n hΓ rfl dX0_wobble_80 ?_
            refine g_aload_n hΓ rfl dX0_wobble_81 ?_
            refine g_aload_n hΓ rfl dX0_wobble_82 ?_
            refine x_geta (r := some N) (c := 0) hE hΓ in_X0 rfl hp.1 ⟨by decide, rfl⟩ 4 (ji := 4) rfl (by decide) (by decide) rfl q250 rfl rfl hN.1.1 dX0_wobble_83 ?_
            show gW Γ E (xM E S1 D1 R1) ((9 + 6 * k.toNat) + 0 + 0 + 0) ((215 + 108 * k.toNat) + 0 + 0 + 0) _ _ (.ref N :: _)
            refine x_geta (r := some NI) (c := 1) hE hΓ in_X1 rfl hN.1.2 ⟨by decide, rfl⟩ 1 (ji := 1) rfl (by decide) (by decide) rfl q200 rfl rfl hN.2.2.1.1 dX0_wobble_86 ?_
            show gW Γ E (xM E S1 D1 R1) ((9 + 6 * k.toNat) + 0 + 0 + 0) ((215 + 108 * k.toNat) + 0 + 0 + 0) _ _ (.ref NI :: _)
            refine g_iload_n hΓ rfl dX0_wobble_89 ?_
            have hz22 : D1 NI 2 = τ 0 1009 := hN.2.2.2.2.1
            refine x_callV (As := [.int (iI k)]) (rest := [.ref (P.1), .int (iI k), .ref NI]) (c := 10) hE hΓ (x_J2_get hE hX S1 D1 R1 NI b15 (lE R1 NI k) 10 kb15 ((S1 b15).2.1) k hN.2.2.1.2 (by decide) hbr15 hbk15 hbq15 rfl (by omega) (by omega) he16.1 ) hN.2.2.1.2 ⟨by decide, rfl⟩ rfl rfl q857 q858 q859 q127 q860 ndJ2_get rfl (by decide) (by decide) (by omega) (by omega) rfl (Nat.le_of_ble_eq_true rfl) dX0_wobble_90 rfl (fun v21 S21 τ21 ρ21 h21 => ?_)
            obtain ⟨rfl, S21e, τ21e, ρ21e⟩ := h21
            have S21e := S21e.symm; subst S21e
            have τ21e := τ21e.symm; subst τ21e
            have ρ21e := ρ21e.symm; subst ρ21e
            show gW Γ E (xM E S1 D1 R1) _ _ _ _ (.ref (lE R1 NI k) :: _)
            refine x_castS (c := 8) hE hΓ rfl q915 hk16 ⟨by decide, rfl⟩ rfl dX0_wobble_93 ?_
            refine g_iload_n hΓ rfl dX0_wobble_96 ?_
            refine x_callV (As := [.ref (lE R1 NI k), .int (iI n)]) (rest := [.int (iI k), .ref NI]) (c := 0) hE hΓ (x_X0_wobbled hE hX S1 D1 R1 P τ (lE R1 NI k) n (τ 0 (960 + k)) (fun j => τ 0 (24 * k + j)) hx1 hsk (by omega) ) hp.1 ⟨by decide, rfl⟩ rfl rfl q1307 q1309 qs52 q123 q1310 ndX0_wobbled rfl (by decide) (by decide) (by omega) (by omega) rfl (Nat.le_of_ble_eq_true rfl) dX0_wobble_97 rfl (fun v23 S23 τ23 ρ23 h23 => ?_)
            obtain ⟨q23, rfl, h23, S23f⟩ := h23
            have kd24 : (S23 (P.1)).1 = 1 := kup hp.1 (by decide) S23f
            have kd25 : (S23 N).1 = 2 := kup hN.1.2 (by decide) S23f
            have kd26 : (S23 NI).1 = 10 := kup hN.2.2.1.2 (by decide) S23f
            have kd27 : (S23 NM).1 = 11 := kup hN.2.1.2 (by decide) S23f
            have kd28 : (S23 NV).1 = 45 := kup kNV (by decide) S23f
            have ln28 : (S23 NV).2.1 = 6 := nup kNV (by decide) nNV S23f
            have kd29 : (S23 b15).1 = kb15 := kup hbk15 (by omega) S23f
            have ln29 : (S23 b15).2.1 = (S1 b15).2.1 := nup hbk15 (by omega) rfl S23f
            have kd30 : (S23 (lE R1 NI k)).1 = 8 := kup hk16 (by decide) S23f
            have hx2 := h23.1
            have kq9 := h23.2.1.1
            have hN2 : nowF S23 τ23 ρ23 P τ N NI NM NV := nowF_w S23f h23.2.2.1 (fun q9 h9 => h23.2.2.2 q9 (by omega) (by omega) (by omega) (by omega)) hp.1 hN
            replace hN := hN2
            obtain ⟨hg, hp, hki, hro, hnw, hbh, hsa, hpd⟩ := id hx2
            have hAw := hg.2.2.2.2.2.2
            have hG : GS S23 τ23 ρ23 := hg.1
            obtain ⟨h1000, h1009, h1042, h1043, h1044, h1045, h1046, h1047, hms, hsi, hsm, hnm⟩ := id hro
            have eN := hN.2.2.2.2.2.2.2.2.2.2.2.2
            have kNV : (S23 NV).1 = 45 := by rw [hN.2.2.2.1.2]
            have nNV : (S23 NV).2.1 = 6 := by rw [hN.2.2.2.1.2]
            have eNI : NI = rf ρ23 (rf ρ23 P.1 4) 1 := by rw [eN.2.2.1, eN.1]
            show gW Γ E (xM E S23 τ23 ρ23) _ _ _ _ (.ref q23 :: _)
            refine x_callV (As := [.int (iI k), .ref q23]) (rest := []) (c := 10) hE hΓ (x_J2_set hE hX S23 τ23 ρ23 NI q23 10 8 k hN.2.2.1.2 (by decide) hx2.1 kq9 rfl (by have := hN.2.2.2.2.1; omega) ) hN.2.2.1.2 ⟨by decide, rfl⟩ rfl rfl q1319 q1320 q1321 q127 q1322 ndJ2_set rfl (by decide) (by decide) (by omega) (by omega) rfl (Nat.le_of_ble_eq_true rfl) dX0_wobble_100 rfl (fun v31 S31 τ31 ρ31 h31 => ?_)
            obtain ⟨rfl, h31, S31e⟩ := h31
            have S31e := S31e.symm; subst S31e
            show gW Γ E (xM E S23 τ31 ρ31) _ _ _ _ (.ref (lE ρ23 NI k) :: _)
            refine g_pop hΓ rfl dX0_wobble_103 ?_
            obtain ⟨x32, ex32⟩ : ∃ z9 : Int, z9 = k + 1 := ⟨_, rfl⟩
            refine g_iinc hΓ dX0_wobble_104 rfl rfl (lv' := [some (.ref (P.1)), some (.int (iI n)), some (.int (iI x20)), some (.int (iI x32))]) (by rw [ex32]; rfl) ?_
            refine g_goto (tgt := 39) hΓ dX0_wobble_107 (by decide) ?_
            rw [eNI] at h31
            have hwk := wbK_sp (n := n) (s := k) (2 * τ 0 (960 + k)).toNat (τ 0, τ 5 0)
            have hwS : (wbS n (fun s => σ 0 (960 + s)) x32.toNat (σ 0, σ 5 0)) = wbK n k (2 * τ 0 (960 + k)).toNat (τ 0, τ 5 0) := by rw [show x32.toNat = k.toNat + 1 by omega, wbS, show ((k.toNat : Nat) : Int) = k by omega, h0, h5, show (wbS n (fun s => σ 0 (960 + s)) k.toNat (σ 0, σ 5 0)).1 (960 + k) = σ 0 (960 + k) from wh (960 + k) (by omega) (by omega)]
            have hxw := act_wob (r' := (wbS n (fun s => σ 0 (960 + s)) x32.toNat (σ 0, σ 5 0)).1) hx2 (k := k) (show 0 ≤ k ∧ k < τ 0 1009 by omega) (show skR S23 _ _ q23 (τ 0 (960 + k)) _ from h23.2.1) h31 (fun j9 (h9 : j9 < 24 * k ∨ 24 * k + 2 * τ 0 (960 + k) ≤ j9) => by rw [hwS]; exact wbK_off _ _ _ (by omega)) (fun j9 x9 (y9 : j9 < 2 * τ 0 (960 + k)) => by rw [hwS]; exact hwk.2 j9 x9 (by omega))
            refine g_wid (c' := 9 + 6 * x32.toNat) (s' := 215 + 108 * x32.toNat) (by omega) (by omega) ?_
            exact ih_loop S23 τ31 ρ31 (rowS (us τ 5 0 (sdN (τ 5 0) (2 * τ 0 (960 + k)).toNat)) (wbS n (fun s => σ 0 (960 + s)) x32.toNat (σ 0, σ 5 0)).1) x20 x32 (by omega) (sle_t hsl S23f) hxw (rowS_0 _ _) (by rw [hwS]; exact hwk.1.symm) (fun q9 n1 n2 => by rw [rowS_f n1, us_f n2]; exact hr q9 n1 n2) (by omega) (by rw [show x32.toNat = k.toNat + 1 by omega, wbM, ← hm, show ((k.toNat : Nat) : Int) = k by omega]; omega) (by omega)
      refine g_istore_n hΓ dX0_wobble_38 rfl (Nat.le_of_ble_eq_true rfl) (lv' := [some (.ref (P.1)), some (.int (iI n)), some (.int (iI 0)), some (.int (iI 0))]) rfl ?_
      refine g_wid (c' := 9 + 6 * (0 : Int).toNat) (s' := 215 + 108 * (0 : Int).toNat) (by omega) (by omega) ?_
      exact loop 9 S7 τ7 ρ7 (remS σ) 0 0 (by omega) S7f hx1 rfl rfl (fun _ _ _ => rfl) (by omega) rfl (by omega)
    · refine g_aload_n hΓ rfl dX0_wobble_25 ?_
      refine g_iconst hΓ dX0_wobble_26 ?_
      refine x_callV (As := [.int (iI 2)]) (rest := []) (c := 0) hE hΓ (x_X0_refused hE hX S D R P σ 2 hx (by first | assumption | omega) ) hp.1 ⟨by decide, rfl⟩ rfl rfl q366 q368 qs2 q123 q369 ndX0_refused rfl (by decide) (by decide) (Nat.zero_le _) (Nat.zero_le _) rfl (Nat.le_of_ble_eq_true rfl) dX0_wobble_27 rfl (fun v33 S33 τ33 ρ33 h33 => ?_)
      obtain ⟨rfl, h33, S33e, τ33f, ρ33e⟩ := h33
      have S33e := S33e.symm; subst S33e
      have ρ33e := ρ33e.symm; subst ρ33e
      show gW Γ E (xM E S τ33 R) _ _ _ _ (.int (iI (-1)) :: _)
      exact x_iret hΓ dX0_wobble_30 (Nat.zero_le _) (Nat.zero_le _) ⟨ri (by rw [if_neg (by omega)]), (by rw [if_neg (by omega)]; exact h33), (fun q h => rfl)⟩
