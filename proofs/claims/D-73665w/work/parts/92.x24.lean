set_option maxRecDepth 100000
set_option maxHeartbeats 4000000 in
theorem x_X0_ranks {l : Launch} {E : gE} {X : State → Prop} {Z : Nat → Nat} {Y : Nat → Option Nat} (hE : E.2.1 = clsX) (hX : xOK l E X Z Y) (hL : xLam l E X (Z 20) (Z 21)) (S : xS) (D : xD) (R : xR) (P : xPk) (σ : mS) (a ka : Nat) (sA nA : Int) (hx : Rx E Z S D R P σ) (hka : (S a).1 = ka) (hk3a : ka = 10 ∨ ka = 12 ∨ ka = 13) (hla : lsR S D R a σ sA nA) (hleA : letS σ sA nA) : xC l E X yX0_ranks cX0_ranks 4 none 13 0 0 [.ref (P.1), .ref a] S D R (fun rv S' D' R' => rv = none ∧ (Rx E Z S D' R' P σ ∧ (∀ m, 0 ≤ m → m < σ 0 1000 → D' (P.2.1 23) m = scM σ sA nA m) ∧ ∀ k, 0 ≤ k → k < σ 0 1000 → (0 ≤ D' (P.2.1 24) k ∧ D' (P.2.1 24) k < σ 0 1000) ∧ D' (P.2.1 24) k = moA (scM σ sA nA) (nMod σ) k) ∧ S' = S ∧ fr S D D' [8003, 42, 43, 44, 112, 115, 116, 117, 46, 47, 48, 49, 1022, 68, 69, 73, 74] ∧ fr S R R' [1009, 1010]) := by
  refine xC.of hX.1 (by decide) [some (.ref (P.1)), some (.ref a), none, none] (Nat.le_of_ble_eq_true rfl) rfl rfl (fun Γ hΓ => ?_)
  obtain ⟨hg, hp, hki, hro, hnw, hbh, hsa, hpd⟩ := id hx
  obtain ⟨N, NI, NM, NV, hN⟩ := (hx).now
  have hAw := hg.2.2.2.2.2.2
  have hG : GS S D R := hg.1
  obtain ⟨h1000, h1009, h1042, h1043, h1044, h1045, h1046, h1047, hms, hsi, hsm, hnm⟩ := id hro
  have eN := hN.2.2.2.2.2.2.2.2.2.2.2.2
  have kNV : (S NV).1 = 45 := by rw [hN.2.2.2.1.2]
  have nNV : (S NV).2.1 = 6 := by rw [hN.2.2.2.1.2]
  have hg0 := hg
  have hkra : 10 ≤ ka ∧ ka ≤ 17 := by omega
  have out : ∀ (fu : Nat) (t : xD) (ρ : xR) (m : Int), (σ 0 1000 - m).toNat < fu → (Rx E Z S t ρ P σ) → (fr S D t [8003, 42, 43, 44, 112, 115, 116, 117, 46, 47, 48, 49, 1022, 68, 69, 73, 74]) → (fr S R ρ [1009, 1010]) → (0 ≤ m ∧ m ≤ σ 0 1000) → (∀ o, 0 ≤ o → o < m → t (P.2.1 23) o = scM σ sA nA o) → (rkI (scM σ sA nA) m.toNat (t (P.2.1 24))) → gW Γ E (xM E S t ρ) 0 0 2 [some (.ref (P.1)), some (.ref a), some (.int (iI m)), none] [] := by
    intro fu
    induction fu with
    | zero => intro t ρ m hn; exact absurd hn (Nat.not_lt_zero _)
    | succ fu ih_out =>
      intro t ρ m hn hx1 ht hr hm hsc hrk
      obtain ⟨hg, hp, hki, hro, hnw, hbh, hsa, hpd⟩ := id hx1
      obtain ⟨N, NI, NM, NV, hN⟩ := (hx1).now
      have hAw := hg.2.2.2.2.2.2
      have hG : GS S t ρ := hg.1
      obtain ⟨h1000, h1009, h1042, h1043, h1044, h1045, h1046, h1047, hms, hsi, hsm, hnm⟩ := id hro
      have eN := hN.2.2.2.2.2.2.2.2.2.2.2.2
      have kNV : (S NV).1 = 45 := by rw [hN.2.2.2.1.2]
      have nNV : (S NV).2.1 = 6 := by rw [hN.2.2.2.1.2]
      have hlA := lsR_scr hg0 (fr_w ht (by decide)) (fr_w hr (by decide)) (by rw [hka]; omega) hla
      refine g_iload_n hΓ rfl dX0_ranks_2 ?_
      refine g_aload_n hΓ rfl dX0_ranks_3 ?_
      refine x_callV (As := []) (rest := [.int (iI m)]) (c := 0) hE hΓ (x_X0_models hE hX S t ρ P σ  hx1  ) hp.1 ⟨by decide, rfl⟩ rfl rfl q841 q843 qs21 q123 q844 ndX0_models rfl (by decide) (by decide) (Nat.zero_le _) (Nat.zero_le _) rfl (Nat.le_of_ble_eq_true rfl) dX0_ranks_4 rfl (fun v1 S1 τ1 ρ1 h1 => ?_)
      obtain ⟨rfl, S1e, τ1e, ρ1e⟩ := h1
      have S1e := S1e.symm; subst S1e
      have τ1e := τ1e.symm; subst τ1e
      have ρ1e := ρ1e.symm; subst ρ1e
      show gW Γ E (xM E S t ρ) _ _ _ _ (.int (iI (σ 0 1000)) :: _)
      refine g_icmp_ge (tgt := 87) hΓ (by omega) (by omega) dX0_ranks_7 (by decide) (fun c2 => ?_) (fun c2 => ?_)
      · exact x_vret hΓ dX0_ranks_87 (Nat.zero_le _) (Nat.zero_le _) ⟨rfl, ⟨hx1, fun o x9 y9 => hsc o x9 (by omega), fun k9 x9 y9 => rk_end (show m.toNat = nMod σ by rw [nMod]; omega) hrk (by omega) x9 y9⟩, rfl, ht, hr⟩
      · refine g_aload_n hΓ rfl dX0_ranks_10 ?_
        refine x_geta (r := some (P.2.1 23)) (c := 0) hE hΓ in_X0 rfl hp.1 ⟨by decide, rfl⟩ 23 (ji := 23) rfl (by decide) (by decide) rfl q269 rfl rfl (pA_r hp 23 rfl rfl) dX0_ranks_11 ?_
        show gW Γ E (xM E S t ρ) 0 0 _ _ (.ref (P.2.1 23) :: _)
        refine g_iload_n hΓ rfl dX0_ranks_14 ?_
        refine g_aload_n hΓ rfl dX0_ranks_15 ?_
        refine g_aload_n hΓ rfl dX0_ranks_16 ?_
        refine g_aload_n hΓ rfl dX0_ranks_17 ?_
        refine g_iload_n hΓ rfl dX0_ranks_18 ?_
        refine x_callV (As := [.int (iI m)]) (rest := [.ref a, .ref (P.1), .int (iI m), .ref (P.2.1 23)]) (c := 0) hE hΓ (x_X0_strokesOf hE hX S t ρ P σ m hx1 (by first | assumption | omega) (by first | assumption | omega) ) hp.1 ⟨by decide, rfl⟩ rfl rfl q903 q905 qs24 q123 q906 ndX0_strokesOf rfl (by decide) (by decide) (Nat.zero_le _) (Nat.zero_le _) rfl (Nat.le_of_ble_eq_true rfl) dX0_ranks_19 rfl (fun v3 S3 τ3 ρ3 h3 => ?_)
        obtain ⟨rfl, S3e, τ3e, ρ3e⟩ := h3
        have S3e := S3e.symm; subst S3e
        have τ3e := τ3e.symm; subst τ3e
        have ρ3e := ρ3e.symm; subst ρ3e
        show gW Γ E (xM E S t ρ) _ _ _ _ (.ref (lsA ρ (rf ρ P.1 4) m) :: _)
        have hlt4 := (hx1).letter (m := m) (by omega)
        obtain ⟨kl4, hkl4, hk34⟩ : ∃ k : Nat, (S (lsA ρ (rf ρ P.1 4) m)).1 = k ∧ (k = 10 ∨ k = 12 ∨ k = 13) := ⟨_, rfl, by have := hlt4.2.1; omega⟩
        have hkr4 : 10 ≤ kl4 ∧ kl4 ≤ 17 := by omega
        refine x_callV (As := [.ref a, .ref (lsA ρ (rf ρ P.1 4) m)]) (rest := [.int (iI m), .ref (P.2.1 23)]) (c := 0) hE hΓ (x_X0_scoreOf hE hX hL S t ρ P σ a (lsA ρ (rf ρ P.1 4) m) ka kl4 sA nA (fsS m) (mnS σ m) hx1 hka hk3a hlA hleA hkl4 hk34 hlt4.1 hlt4.2.2.2 ) hp.1 ⟨by decide, rfl⟩ rfl rfl q1039 q1041 qs33 q123 q1042 ndX0_scoreOf rfl (by decide) (by decide) (Nat.zero_le _) (Nat.zero_le _) rfl (Nat.le_of_ble_eq_true rfl) dX0_ranks_22 rfl (fun v5 S5 τ5 ρ5 h5 => ?_)
        obtain ⟨rfl, h5, S5e, τ5f, ρ5f⟩ := h5
        have S5e := S5e.symm; subst S5e
        show gW Γ E (xM E S τ5 ρ5) _ _ _ _ (.int (iI (scS σ sA nA (fsS m) (mnS σ m))) :: _)
        refine x_iast hΓ (pA_k hp 23 rfl (n := 73) rfl) (pA_n hp 23 rfl (n := 8) rfl) ⟨by decide, rfl⟩ (hAw _ (by rw [(pA_k hp 23 rfl (n := 73) rfl)]; rfl)) (by omega) (by omega) dX0_ranks_25 (fun τ6 τ6e => ?_)
        have τ6r : τ6 (P.2.1 23) m = scS σ sA nA (fsS m) (mnS σ m) := by rw [τ6e]; exact us_s _ _ _ _
        have τ6f : ∀ (q9 : Nat) (j9 : Int), (q9 ≠ (P.2.1 23) ∨ j9 ≠ m) → τ6 q9 j9 = τ5 q9 j9 := fun q9 j9 hh => by rw [τ6e]; exact us_n hh
        have hfD7 : fr S τ5 τ6 [73] := (fun q9 j9 hk9 => by exact (τ6f q9 j9 (Or.inl (fun e9 => hk9 (by rw [e9, (pA_k hp 23 rfl (n := 73) rfl), mdN _ (by decide)]; decide)))))
        have hxs7 : Rx E Z S τ6 ρ5 P σ := Rx_scr h5.1 (fr_w hfD7 (by decide)) fr_rfl (GS_fr (h5.1).1.1 hfD7 fr_rfl (m' := []) (by decide) (by decide))
        have hF0 : fr S t τ6 [8003, 42, 43, 44, 112, 115, 116, 117, 46, 47, 48, 49, 1022, 68, 69, 73, 74] := (fun q9 j9 hk9 => by exact ((τ6f q9 j9 (Or.inl (fun e9 => hk9 (by rw [e9, (pA_k hp 23 rfl (n := 73) rfl), mdN _ (by decide)]; decide)))).trans (τ5f q9 j9 (fun e9 => hk9 ((show ∀ x ∈ [8003, 42, 43, 44, 112, 115, 116, 117, 46, 47, 48, 49, 1022, 68, 69], x ∈ [8003, 42, 43, 44, 112, 115, 116, 117, 46, 47, 48, 49, 1022, 68, 69, 73, 74] by decide) _ e9)))))
        have hR0 : fr S ρ ρ5 [1009, 1010] := (fun q9 j9 hk9 => by exact (ρ5f q9 j9 (fun e9 => hk9 ((show ∀ x ∈ [1009, 1010], x ∈ [1009, 1010] by decide) _ e9))))
        have e24 : τ6 (P.2.1 24) = t (P.2.1 24) := (fr_row hfD7 (pA_k hp 24 rfl (n := 74) rfl) (by decide) (by decide)).trans (fr_row τ5f (pA_k hp 24 rfl (n := 74) rfl) (by decide) (by decide))
        have hrk0 : rkI (scM σ sA nA) m.toNat (τ6 (P.2.1 24)) := by rw [e24]; exact hrk
        have hsc0 : ∀ o, 0 ≤ o → o < m + 1 → τ6 (P.2.1 23) o = scM σ sA nA o := fun o x9 y9 => by
          by_cases c9 : o = m
          · rw [c9]; exact τ6r
          · rw [τ6f _ _ (Or.inr c9), show τ5 (P.2.1 23) = t (P.2.1 23) from fr_row τ5f (pA_k hp 23 rfl (n := 73) rfl) (by decide) (by decide)]; exact hsc o x9 (by omega)
        have inn : ∀ (fu : Nat) (v : xD) (k : Int), k.toNat < fu → (fr S τ6 v [74]) → (0 ≤ k ∧ k ≤ m) → (∀ j, 0 ≤ j → j < k → v (P.2.1 24) j = τ6 (P.2.1 24) j) → (∀ j, k < j → j ≤ m → v (P.2.1 24) j = τ6 (P.2.1 24) (j - 1)) → (∀ j, k ≤ j → j < m → scM σ sA nA m < scM σ sA nA (τ6 (P.2.1 24) j)) → gW Γ E (xM E S v ρ5) 0 0 28 [some (.ref (P.1)), some (.ref a), some (.int (iI m)), some (.int (iI k))] [] := by
          intro fu
          induction fu with
          | zero => intro v k hn; exact absurd hn (Nat.not_lt_zero _)
          | succ fu ih_inn =>
            intro v k hn vf hk hlo hhi hgt
            refine g_iload_n hΓ rfl dX0_ranks_28 ?_
            refine g_if_le (tgt := 74) hΓ (by omega) dX0_ranks_29 (by decide) (fun c8 => ?_) (fun c8 => ?_)
            · refine g_aload_n hΓ rfl dX0_ranks_74 ?_
              refine x_geta (r := some (P.2.1 24)) (c := 0) hE hΓ in_X0 rfl hp.1 ⟨by decide, rfl⟩ 24 (ji := 24) rfl (by decide) (by decide) rfl q270 rfl rfl ((ρ5f (P.1) 24 (by rw [hp.1]; decide)).trans (pA_r hp 24 rfl rfl)) dX0_ranks_75 ?_
              show gW Γ E (xM E S v ρ5) 0 0 _ _ (.ref (P.2.1 24) :: _)
              refine g_iload_n hΓ rfl dX0_ranks_78 ?_
              refine g_iload_n hΓ rfl dX0_ranks_79 ?_
              refine x_iast hΓ (pA_k hp 24 rfl (n := 74) rfl) (pA_n hp 24 rfl (n := 8) rfl) ⟨by decide, rfl⟩ (hAw _ (by rw [(pA_k hp 24 rfl (n := 74) rfl)]; rfl)) (by omega) (by omega) dX0_ranks_80 (fun τ9 τ9e => ?_)
              have τ9r : τ9 (P.2.1 24) k = m := by rw [τ9e]; exact us_s _ _ _ _
              have τ9f : ∀ (q9 : Nat) (j9 : Int), (q9 ≠ (P.2.1 24) ∨ j9 ≠ k) → τ9 q9 j9 = v q9 j9 := fun q9 j9 hh => by rw [τ9e]; exact us_n hh
              obtain ⟨x10, ex10⟩ : ∃ z9 : Int, z9 = m + 1 := ⟨_, rfl⟩
              refine g_iinc hΓ dX0_ranks_81 rfl rfl (lv' := [some (.ref (P.1)), some (.ref a), some (.int (iI x10)), some (.int (iI k))]) (by rw [ex10]; rfl) ?_
              refine g_goto (tgt := 2) hΓ dX0_ranks_84 (by decide) ?_
              have hG9 : fr S τ6 τ9 [74] := fr_t vf (fun q9 j9 hk9 => by exact (τ9f q9 j9 (Or.inl (fun e9 => hk9 (by rw [e9, (pA_k hp 24 rfl (n := 74) rfl), mdN _ (by decide)]; decide)))))
              have hx9 : Rx E Z S τ9 ρ5 P σ := Rx_scr hxs7 (fr_w hG9 (by decide)) fr_rfl (GS_fr (hxs7).1.1 hG9 fr_rfl (m' := []) (by decide) (by decide))
              have em : x10 = m + 1 := by omega
              refine g_lvw (lv' := [some (.ref (P.1)), some (.ref a), some (.int (iI x10)), none]) ⟨rfl, ⟨rfl, ⟨rfl, trivial⟩⟩⟩ ?_
              exact ih_out τ9 ρ5 x10 (by omega) hx9 (fr_t ht (fr_t hF0 (fr_w hG9 (by decide)))) (fr_t hr hR0) (by omega) (fun o x9 y9 => by rw [show τ9 (P.2.1 23) = τ6 (P.2.1 23) from fr_row hG9 (pA_k hp 23 rfl (n := 73) rfl) (by decide) (by decide)]; exact hsc0 o x9 (by omega)) (by rw [em]; exact rkI_ins (by omega) hrk0 (k := k) (by omega) hgt (by omega) (fun j x9 y9 => (τ9f _ _ (Or.inr (by omega))).trans (hlo j x9 y9)) τ9r (fun j x9 y9 => (τ9f _ _ (Or.inr (by omega))).trans (hhi j x9 y9)))
            · have hgk := hrk0 (k - 1) (by omega) (by omega)
              have ev : v (P.2.1 23) = τ6 (P.2.1 23) := fr_row vf (pA_k hp 23 rfl (n := 73) rfl) (by decide) (by decide)
              have hsg : v (P.2.1 23) (τ6 (P.2.1 24) (k - 1)) = scM σ sA nA (τ6 (P.2.1 24) (k - 1)) := by rw [ev]; exact hsc0 _ hgk.1 (by omega)
              have hsm : v (P.2.1 23) m = scM σ sA nA m := by rw [ev]; exact hsc0 _ (by omega) (by omega)
              have hr1 := scM_r hro hleA (m := τ6 (P.2.1 24) (k - 1)) hgk.1 (by omega)
              have hr2 := scM_r hro hleA (m := m) (by omega) (by omega)
              refine g_aload_n hΓ rfl dX0_ranks_32 ?_
              refine x_geta (r := some (P.2.1 23)) (c := 0) hE hΓ in_X0 rfl hp.1 ⟨by decide, rfl⟩ 23 (ji := 23) rfl (by decide) (by decide) rfl q269 rfl rfl ((ρ5f (P.1) 23 (by rw [hp.1]; decide)).trans (pA_r hp 23 rfl rfl)) dX0_ranks_33 ?_
              show gW Γ E (xM E S v ρ5) 0 0 _ _ (.ref (P.2.1 23) :: _)
              refine g_aload_n hΓ rfl dX0_ranks_36 ?_
              refine x_geta (r := some (P.2.1 24)) (c := 0) hE hΓ in_X0 rfl hp.1 ⟨by decide, rfl⟩ 24 (ji := 24) rfl (by decide) (by decide) rfl q270 rfl rfl ((ρ5f (P.1) 24 (by rw [hp.1]; decide)).trans (pA_r hp 24 rfl rfl)) dX0_ranks_37 ?_
              show gW Γ E (xM E S v ρ5) 0 0 _ _ (.ref (P.2.1 24) :: _)
              refine g_iload_n hΓ rfl dX0_ranks_40 ?_
              refine g_iconst hΓ dX0_ranks_41 ?_
              refine g_isub hΓ dX0_ranks_42 ?_
              refine x_iald hΓ (pA_k hp 24 rfl (n := 74) rfl) (pA_n hp 24 rfl (n := 8) rfl) ⟨by decide, rfl⟩ (by omega) (by omega) dX0_ranks_43 ?_
              refine g_topi ((hlo (k - 1) (by omega) (by omega))) ?_
              refine x_iald hΓ (pA_k hp 23 rfl (n := 73) rfl) (pA_n hp 23 rfl (n := 8) rfl) ⟨by decide, rfl⟩ (by omega) (by omega) dX0_ranks_44 ?_
              refine g_topi (hsg) ?_
              refine g_aload_n hΓ rfl dX0_ranks_45 ?_
              refine x_geta (r := some (P.2.1 23)) (c := 0) hE hΓ in_X0 rfl hp.1 ⟨by decide, rfl⟩ 23 (ji := 23) rfl (by decide) (by decide) rfl q269 rfl rfl ((ρ5f (P.1) 23 (by rw [hp.1]; decide)).trans (pA_r hp 23 rfl rfl)) dX0_ranks_46 ?_
              show gW Γ E (xM E S v ρ5) 0 0 _ _ (.ref (P.2.1 23) :: _)
              refine g_iload_n hΓ rfl dX0_ranks_49 ?_
              refine x_iald hΓ (pA_k hp 23 rfl (n := 73) rfl) (pA_n hp 23 rfl (n := 8) rfl) ⟨by decide, rfl⟩ (by omega) (by omega) dX0_ranks_50 ?_
              refine g_topi (hsm) ?_
              refine g_icmp_le (tgt := 74) hΓ (by omega) (by omega) dX0_ranks_51 (by decide) (fun c12 => ?_) (fun c12 => ?_)
              · refine g_aload_n hΓ rfl dX0_ranks_74 ?_
                refine x_geta (r := some (P.2.1 24)) (c := 0) hE hΓ in_X0 rfl hp.1 ⟨by decide, rfl⟩ 24 (ji := 24) rfl (by decide) (by decide) rfl q270 rfl rfl ((ρ5f (P.1) 24 (by rw [hp.1]; decide)).trans (pA_r hp 24 rfl rfl)) dX0_ranks_75 ?_
                show gW Γ E (xM E S v ρ5) 0 0 _ _ (.ref (P.2.1 24) :: _)
                refine g_iload_n hΓ rfl dX0_ranks_78 ?_
                refine g_iload_n hΓ rfl dX0_ranks_79 ?_
                refine x_iast hΓ (pA_k hp 24 rfl (n := 74) rfl) (pA_n hp 24 rfl (n := 8) rfl) ⟨by decide, rfl⟩ (hAw _ (by rw [(pA_k hp 24 rfl (n := 74) rfl)]; rfl)) (by omega) (by omega) dX0_ranks_80 (fun τ13 τ13e => ?_)
                have τ13r : τ13 (P.2.1 24) k = m := by rw [τ13e]; exact us_s _ _ _ _
                have τ13f : ∀ (q9 : Nat) (j9 : Int), (q9 ≠ (P.2.1 24) ∨ j9 ≠ k) → τ13 q9 j9 = v q9 j9 := fun q9 j9 hh => by rw [τ13e]; exact us_n hh
                obtain ⟨x14, ex14⟩ : ∃ z9 : Int, z9 = m + 1 := ⟨_, rfl⟩
                refine g_iinc hΓ dX0_ranks_81 rfl rfl (lv' := [some (.ref (P.1)), some (.ref a), some (.int (iI x14)), some (.int (iI k))]) (by rw [ex14]; rfl) ?_
                refine g_goto (tgt := 2) hΓ dX0_ranks_84 (by decide) ?_
                have hG9 : fr S τ6 τ13 [74] := fr_t vf (fun q9 j9 hk9 => by exact (τ13f q9 j9 (Or.inl (fun e9 => hk9 (by rw [e9, (pA_k hp 24 rfl (n := 74) rfl), mdN _ (by decide)]; decide)))))
                have hx9 : Rx E Z S τ13 ρ5 P σ := Rx_scr hxs7 (fr_w hG9 (by decide)) fr_rfl (GS_fr (hxs7).1.1 hG9 fr_rfl (m' := []) (by decide) (by decide))
                have em : x14 = m + 1 := by omega
                refine g_lvw (lv' := [some (.ref (P.1)), some (.ref a), some (.int (iI x14)), none]) ⟨rfl, ⟨rfl, ⟨rfl, trivial⟩⟩⟩ ?_
                exact ih_out τ13 ρ5 x14 (by omega) hx9 (fr_t ht (fr_t hF0 (fr_w hG9 (by decide)))) (fr_t hr hR0) (by omega) (fun o x9 y9 => by rw [show τ13 (P.2.1 23) = τ6 (P.2.1 23) from fr_row hG9 (pA_k hp 23 rfl (n := 73) rfl) (by decide) (by decide)]; exact hsc0 o x9 (by omega)) (by rw [em]; exact rkI_ins (by omega) hrk0 (k := k) (by omega) hgt (by omega) (fun j x9 y9 => (τ13f _ _ (Or.inr (by omega))).trans (hlo j x9 y9)) τ13r (fun j x9 y9 => (τ13f _ _ (Or.inr (by omega))).trans (hhi j x9 y9)))
              · refine g_aload_n hΓ rfl dX0_ranks_54 ?_
                refine x_geta (r := some (P.2.1 24)) (c := 0) hE hΓ in_X0 rfl hp.1 ⟨by decide, rfl⟩ 24 (ji := 24) rfl (by decide) (by decide) rfl q270 rfl rfl ((ρ5f (P.1) 24 (by rw [hp.1]; decide)).trans (pA_r hp 24 rfl rfl)) dX0_ranks_55 ?_
                show gW Γ E (xM E S v ρ5) 0 0 _ _ (.ref (P.2.1 24) :: _)
                refine g_iload_n hΓ rfl dX0_ranks_58 ?_
                refine g_aload_n hΓ rfl dX0_ranks_59 ?_
                refine x_geta (r := some (P.2.1 24)) (c := 0) hE hΓ in_X0 rfl hp.1 ⟨by decide, rfl⟩ 24 (ji := 24) rfl (by decide) (by decide) rfl q270 rfl rfl ((ρ5f (P.1) 24 (by rw [hp.1]; decide)).trans (pA_r hp 24 rfl rfl)) dX0_ranks_60 ?_
                show gW Γ E (xM E S v ρ5) 0 0 _ _ (.ref (P.2.1 24) :: _)
                refine g_iload_n hΓ rfl dX0_ranks_63 ?_
                refine g_iconst hΓ dX0_ranks_64 ?_
                refine g_isub hΓ dX0_ranks_65 ?_
                refine x_iald hΓ (pA_k hp 24 rfl (n := 74) rfl) (pA_n hp 24 rfl (n := 8) rfl) ⟨by decide, rfl⟩ (by omega) (by omega) dX0_ranks_66 ?_
                refine g_topi ((hlo (k - 1) (by omega) (by omega))) ?_
                refine x_iast hΓ (pA_k hp 24 rfl (n := 74) rfl) (pA_n hp 24 rfl (n := 8) rfl) ⟨by decide, rfl⟩ (hAw _ (by rw [(pA_k hp 24 rfl (n := 74) rfl)]; rfl)) (by omega) (by omega) dX0_ranks_67 (fun τ16 τ16e => ?_)
                have τ16r : τ16 (P.2.1 24) k = τ6 (P.2.1 24) (k - 1) := by rw [τ16e]; exact us_s _ _ _ _
                have τ16f : ∀ (q9 : Nat) (j9 : Int), (q9 ≠ (P.2.1 24) ∨ j9 ≠ k) → τ16 q9 j9 = v q9 j9 := fun q9 j9 hh => by rw [τ16e]; exact us_n hh
                obtain ⟨x17, ex17⟩ : ∃ z9 : Int, z9 = k + (-1) := ⟨_, rfl⟩
                refine g_iinc hΓ dX0_ranks_68 rfl rfl (lv' := [some (.ref (P.1)), some (.ref a), some (.int (iI m)), some (.int (iI x17))]) (by rw [ex17]; rfl) ?_
                refine g_goto (tgt := 28) hΓ dX0_ranks_71 (by decide) ?_
                exact ih_inn τ16 x17 (by omega) (fr_t vf (fun q9 j9 hk9 => by exact (τ16f q9 j9 (Or.inl (fun e9 => hk9 (by rw [e9, (pA_k hp 24 rfl (n := 74) rfl), mdN _ (by decide)]; decide)))))) (by omega) (fun j x9 y9 => (τ16f _ _ (Or.inr (by omega))).trans (hlo j x9 (by omega))) (fun j x9 y9 => by
                  by_cases c9 : j = k
                  · rw [c9]; exact τ16r
                  · exact (τ16f _ _ (Or.inr c9)).trans (hhi j (by omega) y9)) (fun j x9 y9 => by
                  by_cases c9 : j = k - 1
                  · rw [c9]; omega
                  · exact hgt j (by omega) y9)
        refine g_iload_n hΓ rfl dX0_ranks_26 ?_
        refine g_istore_n hΓ dX0_ranks_27 rfl (Nat.le_of_ble_eq_true rfl) (lv' := [some (.ref (P.1)), some (.ref a), some (.int (iI m)), some (.int (iI m))]) rfl ?_
        exact inn 9 τ6 m (by omega) fr_rfl (by omega) (fun j x9 y9 => rfl) (fun j x9 y9 => absurd x9 (by omega)) (fun j x9 y9 => absurd x9 (by omega))
  refine g_iconst hΓ dX0_ranks_0 ?_
  refine g_istore_n hΓ dX0_ranks_1 rfl (Nat.le_of_ble_eq_true rfl) (lv' := [some (.ref (P.1)), some (.ref a), some (.int (iI 0)), none]) rfl ?_
  exact out 9 D R 0 (by omega) hx fr_rfl fr_rfl (by omega) (fun o x9 y9 => absurd x9 (by omega)) (rkI_0 _ _)
