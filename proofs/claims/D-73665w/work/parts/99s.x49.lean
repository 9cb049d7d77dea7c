set_option maxRecDepth 100000
set_option maxHeartbeats 4000000 in
theorem x_X0_laysRow {l : Launch} {E : gE} {X : State → Prop} {Z : Nat → Nat} {Y : Nat → Option Nat} (hE : E.2.1 = clsX) (hX : xOK l E X Z Y) (hL : xLam l E X (Z 20) (Z 21)) (S : xS) (D : xD) (R : xR) (P : xPk) (σ : mS) (f n : Int) (hx : Rx E Z S D R P σ) (hfn : 0 ≤ f ∧ 1 ≤ n ∧ n ≤ 4 ∧ f + n ≤ σ 0 1009) (hm0 : 0 < σ 0 1000) (hc0 : 0 ≤ D (P.2.1 26) f ∧ D (P.2.1 26) f ≤ 100000) (hc1 : 0 ≤ D (P.2.1 26) (f + n) ∧ D (P.2.1 26) (f + n) ≤ 14256) : xC l E X yX0_laysRow cX0_laysRow 4 none 14 4 240 [.ref (P.1), .int (iI f), .int (iI n)] S D R (fun rv S' D' R' => rv = none ∧ (Rx E Z S' D' R' P σ ∧ lrQ D D' P σ f n) ∧ sle S S') := by
  refine xC.of hX.1 (by decide) [some (.ref (P.1)), some (.int (iI f)), some (.int (iI n)), none] (Nat.le_of_ble_eq_true rfl) rfl rfl (fun Γ hΓ => ?_)
  obtain ⟨hg, hp, hki, hro, hnw, hbh, hsa, hpd⟩ := id hx
  obtain ⟨N, NI, NM, NV, hN⟩ := (hx).now
  have hAw := hg.2.2.2.2.2.2
  have hG : GS S D R := hg.1
  obtain ⟨h1000, h1009, h1042, h1043, h1044, h1045, h1046, h1047, hms, hsi, hsm, hnm⟩ := id hro
  have eN := hN.2.2.2.2.2.2.2.2.2.2.2.2
  have kNV : (S NV).1 = 45 := by rw [hN.2.2.2.1.2]
  have nNV : (S NV).2.1 = 6 := by rw [hN.2.2.2.1.2]
  have loop : ∀ (fu : Nat) (S1 : xS) (D1 : xD) (R1 : xR) (k : Int), (f + n - k).toNat < fu → (sle S S1) → (Rx E Z S1 D1 R1 P σ) → (f ≤ k ∧ k ≤ f + n) → (∀ j ∈ [26, 27, 28, 29], D1 (P.2.1 j) = D (P.2.1 j)) → (rwL S1 D1 R1 (P.2.1 30) (k - f) (fun i => σ 0 (960 + (f + i))) (fun i j => σ 0 (24 * (f + i) + j))) → gW Γ E (xM E S1 D1 R1) ((k - f).toNat) (60 * (k - f).toNat) 9 [some (.ref (P.1)), some (.int (iI f)), some (.int (iI n)), some (.int (iI k))] [] := by
    intro fu
    induction fu with
    | zero => intro S1 D1 R1 k hn; exact absurd hn (Nat.not_lt_zero _)
    | succ fu ih_loop =>
      intro S1 D1 R1 k hn hsl hx1 hk hD hrw
      obtain ⟨hg, hp, hki, hro, hnw, hbh, hsa, hpd⟩ := id hx1
      obtain ⟨N, NI, NM, NV, hN⟩ := (hx1).now
      have hAw := hg.2.2.2.2.2.2
      have hG : GS S1 D1 R1 := hg.1
      obtain ⟨h1000, h1009, h1042, h1043, h1044, h1045, h1046, h1047, hms, hsi, hsm, hnm⟩ := id hro
      have eN := hN.2.2.2.2.2.2.2.2.2.2.2.2
      have kNV : (S1 NV).1 = 45 := by rw [hN.2.2.2.1.2]
      have nNV : (S1 NV).2.1 = 6 := by rw [hN.2.2.2.1.2]
      have eNI : NI = rf R1 (rf R1 P.1 4) 1 := by rw [eN.2.2.1, eN.1]
      have k30 := pL_k hp 30 rfl (n := 13) rfl
      refine g_iload_n hΓ rfl dX0_laysRow_9 ?_
      refine g_iload_n hΓ rfl dX0_laysRow_10 ?_
      refine g_iload_n hΓ rfl dX0_laysRow_11 ?_
      refine g_iadd hΓ dX0_laysRow_12 ?_
      refine g_icmp_ge (tgt := 44) hΓ (by omega) (by omega) dX0_laysRow_13 (by decide) (fun c1 => ?_) (fun c1 => ?_)
      · refine g_aload_n hΓ rfl dX0_laysRow_44 ?_
        refine g_aload_n hΓ rfl dX0_laysRow_45 ?_
        refine x_geta (r := some (P.2.1 30)) (c := 0) hE hΓ in_X0 rfl hp.1 ⟨by decide, rfl⟩ 30 (ji := 30) rfl (by decide) (by decide) rfl q276 rfl rfl (pL_r hp 30 rfl rfl) dX0_laysRow_46 ?_
        show gW Γ E (xM E S1 D1 R1) ((k - f).toNat) (60 * (k - f).toNat) _ _ (.ref (P.2.1 30) :: _)
        refine x_callV (As := [.ref (P.2.1 30)]) (rest := []) (c := 0) hE hΓ (x_X0_ranks hE hX hL S1 D1 R1 P σ (P.2.1 30) 13 f n hx1 k30 (by decide) (show lsR S1 D1 R1 (P.2.1 30) σ f n from ls_row (by omega) hro (by rw [show n = k - f by omega]; exact hrw)) (subS (inkS hro) (by omega) (by omega) (by omega)) ) hp.1 ⟨by decide, rfl⟩ rfl rfl q1081 q1083 qs38 q123 q1084 ndX0_ranks rfl (by decide) (by decide) (by omega) (by omega) rfl (Nat.le_of_ble_eq_true rfl) dX0_laysRow_49 rfl (fun v2 S2 τ2 ρ2 h2 => ?_)
        obtain ⟨rfl, h2, S2e, τ2f, ρ2f⟩ := h2
        have S2e := S2e.symm; subst S2e
        have hx2 := h2.1
        have hrk := h2.2
        have hnM := nMod_c (σ := σ) (by omega)
        have hg0 := moA_in (f := scM σ f n) (N := nMod σ) (p := 0) (by omega) (by omega)
        have hl0 := scM_r hro (subS (inkS hro) (by omega : 0 ≤ f) (by omega : 0 ≤ n) (by omega)) hg0.1 (by omega)
        have hDt : ∀ j ∈ [26, 27, 28, 29], τ2 (P.2.1 j) = D (P.2.1 j) := fun j9 h9 => by
          refine Eq.trans ?_ (hD j9 h9)
          simp at h9
          rcases h9 with e | e | e | e <;> rw [e] <;> exact fr_row τ2f (pA_k hx1.2.1 _ rfl rfl) (by decide) (by decide)
        have e26 := hDt 26 (by decide)
        have e27 := hDt 27 (by decide)
        have e28 := hDt 28 (by decide)
        have e29 := hDt 29 (by decide)
        refine g_aload_n hΓ rfl dX0_laysRow_52 ?_
        refine x_geta (r := some (P.2.1 23)) (c := 0) hE hΓ in_X0 rfl hp.1 ⟨by decide, rfl⟩ 23 (ji := 23) rfl (by decide) (by decide) rfl q269 rfl rfl ((ρ2f (P.1) 23 (by rw [hp.1]; decide)).trans (pA_r hp 23 rfl rfl)) dX0_laysRow_53 ?_
        show gW Γ E (xM E S1 τ2 ρ2) ((k - f).toNat + 0) ((60 * (k - f).toNat) + 0) _ _ (.ref (P.2.1 23) :: _)
        refine g_aload_n hΓ rfl dX0_laysRow_56 ?_
        refine x_geta (r := some (P.2.1 24)) (c := 0) hE hΓ in_X0 rfl hp.1 ⟨by decide, rfl⟩ 24 (ji := 24) rfl (by decide) (by decide) rfl q270 rfl rfl ((ρ2f (P.1) 24 (by rw [hp.1]; decide)).trans (pA_r hp 24 rfl rfl)) dX0_laysRow_57 ?_
        show gW Γ E (xM E S1 τ2 ρ2) ((k - f).toNat + 0) ((60 * (k - f).toNat) + 0) _ _ (.ref (P.2.1 24) :: _)
        refine g_iconst hΓ dX0_laysRow_60 ?_
        refine x_iald hΓ (pA_k hp 24 rfl (n := 74) rfl) (pA_n hp 24 rfl (n := 8) rfl) ⟨by decide, rfl⟩ (by omega) (by omega) dX0_laysRow_61 ?_
        refine g_topi ((hrk.2 0 (by omega) (by omega)).2) ?_
        refine x_iald hΓ (pA_k hp 23 rfl (n := 73) rfl) (pA_n hp 23 rfl (n := 8) rfl) ⟨by decide, rfl⟩ (by omega) (by omega) dX0_laysRow_62 ?_
        refine g_topi ((hrk.1 _ hg0.1 (by omega))) ?_
        obtain ⟨x3, ex3⟩ : ∃ z9 : Int, z9 = scM σ f n (moA (scM σ f n) (nMod σ) 0) := ⟨_, rfl⟩
        refine g_topi ex3.symm ?_
        refine g_istore_n hΓ dX0_laysRow_63 rfl (Nat.le_of_ble_eq_true rfl) (lv' := [some (.ref (P.1)), some (.int (iI f)), some (.int (iI n)), some (.int (iI x3))]) rfl ?_
        refine g_iload_n hΓ rfl dX0_laysRow_64 ?_
        refine g_aload_n hΓ rfl dX0_laysRow_65 ?_
        refine x_geta (r := some (P.2.1 26)) (c := 0) hE hΓ in_X0 rfl hp.1 ⟨by decide, rfl⟩ 26 (ji := 26) rfl (by decide) (by decide) rfl q272 rfl rfl ((ρ2f (P.1) 26 (by rw [hp.1]; decide)).trans (pA_r hp 26 rfl rfl)) dX0_laysRow_66 ?_
        show gW Γ E (xM E S1 τ2 ρ2) ((k - f).toNat + 0) ((60 * (k - f).toNat) + 0) _ _ (.ref (P.2.1 26) :: _)
        refine g_iload_n hΓ rfl dX0_laysRow_69 ?_
        refine g_iload_n hΓ rfl dX0_laysRow_70 ?_
        refine g_iadd hΓ dX0_laysRow_71 ?_
        refine x_iald hΓ (pA_k hp 26 rfl (n := 76) rfl) (pA_n hp 26 rfl (n := 9) rfl) ⟨by decide, rfl⟩ (by omega) (by omega) dX0_laysRow_72 ?_
        refine g_topi ((congrFun e26 (f + n))) ?_
        refine g_iadd hΓ dX0_laysRow_73 ?_
        refine g_aload_n hΓ rfl dX0_laysRow_74 ?_
        refine x_geta (r := some (P.2.1 26)) (c := 0) hE hΓ in_X0 rfl hp.1 ⟨by decide, rfl⟩ 26 (ji := 26) rfl (by decide) (by decide) rfl q272 rfl rfl ((ρ2f (P.1) 26 (by rw [hp.1]; decide)).trans (pA_r hp 26 rfl rfl)) dX0_laysRow_75 ?_
        show gW Γ E (xM E S1 τ2 ρ2) ((k - f).toNat + 0) ((60 * (k - f).toNat) + 0) _ _ (.ref (P.2.1 26) :: _)
        refine g_iload_n hΓ rfl dX0_laysRow_78 ?_
        refine x_iald hΓ (pA_k hp 26 rfl (n := 76) rfl) (pA_n hp 26 rfl (n := 9) rfl) ⟨by decide, rfl⟩ (by omega) (by omega) dX0_laysRow_79 ?_
        refine g_topi ((congrFun e26 f)) ?_
        refine g_icmp_lt (tgt := 84) hΓ (by omega) (by omega) dX0_laysRow_80 (by decide) (fun c4 => ?_) (fun c4 => ?_)
        · refine g_aload_n hΓ rfl dX0_laysRow_84 ?_
          refine x_geta (r := some (P.2.1 26)) (c := 0) hE hΓ in_X0 rfl hp.1 ⟨by decide, rfl⟩ 26 (ji := 26) rfl (by decide) (by decide) rfl q272 rfl rfl ((ρ2f (P.1) 26 (by rw [hp.1]; decide)).trans (pA_r hp 26 rfl rfl)) dX0_laysRow_85 ?_
          show gW Γ E (xM E S1 τ2 ρ2) ((k - f).toNat + 0) ((60 * (k - f).toNat) + 0) _ _ (.ref (P.2.1 26) :: _)
          refine g_iload_n hΓ rfl dX0_laysRow_88 ?_
          refine g_iload_n hΓ rfl dX0_laysRow_89 ?_
          refine g_aload_n hΓ rfl dX0_laysRow_90 ?_
          refine x_geta (r := some (P.2.1 26)) (c := 0) hE hΓ in_X0 rfl hp.1 ⟨by decide, rfl⟩ 26 (ji := 26) rfl (by decide) (by decide) rfl q272 rfl rfl ((ρ2f (P.1) 26 (by rw [hp.1]; decide)).trans (pA_r hp 26 rfl rfl)) dX0_laysRow_91 ?_
          show gW Γ E (xM E S1 τ2 ρ2) ((k - f).toNat + 0) ((60 * (k - f).toNat) + 0) _ _ (.ref (P.2.1 26) :: _)
          refine g_iload_n hΓ rfl dX0_laysRow_94 ?_
          refine g_iload_n hΓ rfl dX0_laysRow_95 ?_
          refine g_iadd hΓ dX0_laysRow_96 ?_
          refine x_iald hΓ (pA_k hp 26 rfl (n := 76) rfl) (pA_n hp 26 rfl (n := 9) rfl) ⟨by decide, rfl⟩ (by omega) (by omega) dX0_laysRow_97 ?_
          refine g_topi ((congrFun e26 (f + n))) ?_
          refine g_iadd hΓ dX0_laysRow_98 ?_
          refine x_iast hΓ (pA_k hp 26 rfl (n := 76) rfl) (pA_n hp 26 rfl (n := 9) rfl) ⟨by decide, rfl⟩ (hAw _ (by rw [(pA_k hp 26 rfl (n := 76) rfl)]; rfl)) (by omega) (by omega) dX0_laysRow_99 (fun τ5 τ5e => ?_)
          have τ5r : τ5 (P.2.1 26) f = x3 + (D (P.2.1 26) (f + n)) := by rw [τ5e]; exact us_s _ _ _ _
          have τ5f : ∀ (q9 : Nat) (j9 : Int), (q9 ≠ (P.2.1 26) ∨ j9 ≠ f) → τ5 q9 j9 = τ2 q9 j9 := fun q9 j9 hh => by rw [τ5e]; exact us_n hh
          refine g_aload_n hΓ rfl dX0_laysRow_100 ?_
          refine x_geta (r := some (P.2.1 27)) (c := 0) hE hΓ in_X0 rfl hp.1 ⟨by decide, rfl⟩ 27 (ji := 27) rfl (by decide) (by decide) rfl q273 rfl rfl ((ρ2f (P.1) 27 (by rw [hp.1]; decide)).trans (pA_r hp 27 rfl rfl)) dX0_laysRow_101 ?_
          show gW Γ E (xM E S1 τ5 ρ2) ((k - f).toNat + 0) ((60 * (k - f).toNat) + 0) _ _ (.ref (P.2.1 27) :: _)
          refine g_iload_n hΓ rfl dX0_laysRow_104 ?_
          refine g_iload_n hΓ rfl dX0_laysRow_105 ?_
          refine x_iast hΓ (pA_k hp 27 rfl (n := 77) rfl) (pA_n hp 27 rfl (n := 8) rfl) ⟨by decide, rfl⟩ (hAw _ (by rw [(pA_k hp 27 rfl (n := 77) rfl)]; rfl)) (by omega) (by omega) dX0_laysRow_106 (fun τ6 τ6e => ?_)
          have τ6r : τ6 (P.2.1 27) f = n := by rw [τ6e]; exact us_s _ _ _ _
          have τ6f : ∀ (q9 : Nat) (j9 : Int), (q9 ≠ (P.2.1 27) ∨ j9 ≠ f) → τ6 q9 j9 = τ5 q9 j9 := fun q9 j9 hh => by rw [τ6e]; exact us_n hh
          refine g_aload_n hΓ rfl dX0_laysRow_107 ?_
          refine x_geta (r := some (P.2.1 28)) (c := 0) hE hΓ in_X0 rfl hp.1 ⟨by decide, rfl⟩ 28 (ji := 28) rfl (by decide) (by decide) rfl q274 rfl rfl ((ρ2f (P.1) 28 (by rw [hp.1]; decide)).trans (pA_r hp 28 rfl rfl)) dX0_laysRow_108 ?_
          show gW Γ E (xM E S1 τ6 ρ2) ((k - f).toNat + 0) ((60 * (k - f).toNat) + 0) _ _ (.ref (P.2.1 28) :: _)
          refine g_iload_n hΓ rfl dX0_laysRow_111 ?_
          refine g_aload_n hΓ rfl dX0_laysRow_112 ?_
          refine x_geta (r := some (P.2.1 24)) (c := 0) hE hΓ in_X0 rfl hp.1 ⟨by decide, rfl⟩ 24 (ji := 24) rfl (by decide) (by decide) rfl q270 rfl rfl ((ρ2f (P.1) 24 (by rw [hp.1]; decide)).trans (pA_r hp 24 rfl rfl)) dX0_laysRow_113 ?_
          show gW Γ E (xM E S1 τ6 ρ2) ((k - f).toNat + 0) ((60 * (k - f).toNat) + 0) _ _ (.ref (P.2.1 24) :: _)
          refine g_iconst hΓ dX0_laysRow_116 ?_
          refine x_iald hΓ (pA_k hp 24 rfl (n := 74) rfl) (pA_n hp 24 rfl (n := 8) rfl) ⟨by decide, rfl⟩ (by omega) (by omega) dX0_laysRow_117 ?_
          refine g_topi ((((τ6f (P.2.1 24) 0 (Or.inl (ne_k (pA_k hp 24 rfl (n := 74) rfl) (pA_k hp 27 rfl (n := 77) rfl) (by decide)))).trans (τ5f (P.2.1 24) 0 (Or.inl (ne_k (pA_k hp 24 rfl (n := 74) rfl) (pA_k hp 26 rfl (n := 76) rfl) (by decide))))).trans (hrk.2 0 (by omega) (by omega)).2)) ?_
          refine x_iast hΓ (pA_k hp 28 rfl (n := 78) rfl) (pA_n hp 28 rfl (n := 8) rfl) ⟨by decide, rfl⟩ (hAw _ (by rw [(pA_k hp 28 rfl (n := 78) rfl)]; rfl)) (by omega) (by omega) dX0_laysRow_118 (fun τ7 τ7e => ?_)
          have τ7r : τ7 (P.2.1 28) f = moA (scM σ f n) (nMod σ) 0 := by rw [τ7e]; exact us_s _ _ _ _
          have τ7f : ∀ (q9 : Nat) (j9 : Int), (q9 ≠ (P.2.1 28) ∨ j9 ≠ f) → τ7 q9 j9 = τ6 q9 j9 := fun q9 j9 hh => by rw [τ7e]; exact us_n hh
          refine g_aload_n hΓ rfl dX0_laysRow_119 ?_
          refine x_geta (r := some (P.2.1 29)) (c := 0) hE hΓ in_X0 rfl hp.1 ⟨by decide, rfl⟩ 29 (ji := 29) rfl (by decide) (by decide) rfl q275 rfl rfl ((ρ2f (P.1) 29 (by rw [hp.1]; decide)).trans (pA_r hp 29 rfl rfl)) dX0_laysRow_120 ?_
          show gW Γ E (xM E S1 τ7 ρ2) ((k - f).toNat + 0) ((60 * (k - f).toNat) + 0) _ _ (.ref (P.2.1 29) :: _)
          refine g_iload_n hΓ rfl dX0_laysRow_123 ?_
          refine g_iload_n hΓ rfl dX0_laysRow_124 ?_
          refine x_iast hΓ (pA_k hp 29 rfl (n := 79) rfl) (pA_n hp 29 rfl (n := 8) rfl) ⟨by decide, rfl⟩ (hAw _ (by rw [(pA_k hp 29 rfl (n := 79) rfl)]; rfl)) (by omega) (by omega) dX0_laysRow_125 (fun τ8 τ8e => ?_)
          have τ8r : τ8 (P.2.1 29) f = x3 := by rw [τ8e]; exact us_s _ _ _ _
          have τ8f : ∀ (q9 : Nat) (j9 : Int), (q9 ≠ (P.2.1 29) ∨ j9 ≠ f) → τ8 q9 j9 = τ7 q9 j9 := fun q9 j9 hh => by rw [τ8e]; exact us_n hh
          have hvv : rdV σ f n = scM σ f n (moA (scM σ f n) (nMod σ) 0) := rfl
          have hmm : rdM σ f n = moA (scM σ f n) (nMod σ) 0 := rfl
          have hf9 : fr S1 τ2 τ8 [76, 77, 78, 79] := (fun q9 j9 hk9 => by exact ((((τ8f q9 j9 (Or.inl (fun e9 => hk9 (by rw [e9, (pA_k hp 29 rfl (n := 79) rfl), mdN _ (by decide)]; decide)))).trans (τ7f q9 j9 (Or.inl (fun e9 => hk9 (by rw [e9, (pA_k hp 28 rfl (n := 78) rfl), mdN _ (by decide)]; decide))))).trans (τ6f q9 j9 (Or.inl (fun e9 => hk9 (by rw [e9, (pA_k hp 27 rfl (n := 77) rfl), mdN _ (by decide)]; decide))))).trans (τ5f q9 j9 (Or.inl (fun e9 => hk9 (by rw [e9, (pA_k hp 26 rfl (n := 76) rfl), mdN _ (by decide)]; decide))))))
          have hx5 : Rx E Z S1 τ8 ρ2 P σ := Rx_scr hx2 (fr_w hf9 (by decide)) fr_rfl (GS_fr hx2.1.1 hf9 fr_rfl (m' := []) (by decide) (by decide))
          have n1 := ne_k (pA_k hp 26 rfl (n := 76) rfl) (pA_k hp 27 rfl (n := 77) rfl) (by decide)
          have n2 := ne_k (pA_k hp 26 rfl (n := 76) rfl) (pA_k hp 28 rfl (n := 78) rfl) (by decide)
          have n3 := ne_k (pA_k hp 26 rfl (n := 76) rfl) (pA_k hp 29 rfl (n := 79) rfl) (by decide)
          have n4 := ne_k (pA_k hp 27 rfl (n := 77) rfl) (pA_k hp 28 rfl (n := 78) rfl) (by decide)
          have n5 := ne_k (pA_k hp 27 rfl (n := 77) rfl) (pA_k hp 29 rfl (n := 79) rfl) (by decide)
          have n6 := ne_k (pA_k hp 28 rfl (n := 78) rfl) (pA_k hp 29 rfl (n := 79) rfl) (by decide)
          have hq : lrQ D τ8 P σ f n := fun j9 => by
            by_cases c9 : j9 = f
            · rw [if_pos ⟨c9, by omega⟩, rdT, c9]
              have a1 : τ8 (P.2.1 26) f = rdV σ f n + D (P.2.1 26) (f + n) := (τ8f _ _ (Or.inl n3)).trans ((τ7f _ _ (Or.inl n2)).trans ((τ6f _ _ (Or.inl n1)).trans (τ5r.trans (by omega))))
              have a2 : τ8 (P.2.1 27) f = n := (τ8f _ _ (Or.inl n5)).trans ((τ7f _ _ (Or.inl n4)).trans (τ6r.trans (by omega)))
              have a3 : τ8 (P.2.1 28) f = rdM σ f n := (τ8f _ _ (Or.inl n6)).trans (τ7r.trans (by omega))
              have a4 : τ8 (P.2.1 29) f = rdV σ f n := τ8r.trans (by omega)
              rw [a1, a2, a3, a4]
            · have b : ∀ q9, τ8 q9 j9 = τ2 q9 j9 := fun q9 => (τ8f _ _ (Or.inr c9)).trans ((τ7f _ _ (Or.inr c9)).trans ((τ6f _ _ (Or.inr c9)).trans (τ5f _ _ (Or.inr c9))))
              rw [if_neg (fun z => c9 z.1), rdT, rdT, b, b, b, b, e26, e27, e28, e29]
          exact x_vret hΓ dX0_laysRow_126 (by omega) (by omega) ⟨rfl, ⟨hx5, hq⟩, hsl⟩
        · have hvv : rdV σ f n = scM σ f n (moA (scM σ f n) (nMod σ) 0) := rfl
          have hmm : rdM σ f n = moA (scM σ f n) (nMod σ) 0 := rfl
          exact x_vret hΓ dX0_laysRow_83 (by omega) (by omega) ⟨rfl, ⟨hx2, fun j9 => by rw [if_neg (fun z => by have z2 := z.2; omega), rdT, rdT, e26, e27, e28, e29]⟩, hsl⟩
      · have hsk := hnw.2.2.2.2.1 k (by omega) (by omega)
        rw [← eN.1, ← eN.2.2.1] at hsk
        obtain ⟨b9, kb9, hbr9, hbe9, hbk9, hbq9, hbc9⟩ := lsOK_b (hg.2.1 NI (by rw [hN.2.2.1.2]; decide) (by rw [hN.2.2.1.2]; decide)) (by rw [hN.2.2.1.2]; decide)
        have he10 := lsOK_e (hg.2.1 NI (by rw [hN.2.2.1.2]; decide) (by rw [hN.2.2.1.2]; decide)) hbe9 (i := k) (by have := hN.2.2.2.2.1; omega)
        have hk10 : (S1 (lE R1 NI k)).1 = 8 := by rw [he10.2, hN.2.2.1.2]; rfl
        refine g_aload_n hΓ rfl dX0_laysRow_16 ?_
        refine x_geta (r := some (P.2.1 30)) (c := 0) hE hΓ in_X0 rfl hp.1 ⟨by decide, rfl⟩ 30 (ji := 30) rfl (by decide) (by decide) rfl q276 rfl rfl (pL_r hp 30 rfl rfl) dX0_laysRow_17 ?_
        show gW Γ E (xM E S1 D1 R1) ((k - f).toNat) (60 * (k - f).toNat) _ _ (.ref (P.2.1 30) :: _)
        refine g_aload_n hΓ rfl dX0_laysRow_20 ?_
        refine x_geta (r := some N) (c := 0) hE hΓ in_X0 rfl hp.1 ⟨by decide, rfl⟩ 4 (ji := 4) rfl (by decide) (by decide) rfl q250 rfl rfl hN.1.1 dX0_laysRow_21 ?_
        show gW Γ E (xM E S1 D1 R1) ((k - f).toNat) (60 * (k - f).toNat) _ _ (.ref N :: _)
        refine x_geta (r := some NI) (c := 1) hE hΓ in_X1 rfl hN.1.2 ⟨by decide, rfl⟩ 1 (ji := 1) rfl (by decide) (by decide) rfl q200 rfl rfl hN.2.2.1.1 dX0_laysRow_24 ?_
        show gW Γ E (xM E S1 D1 R1) ((k - f).toNat) (60 * (k - f).toNat) _ _ (.ref NI :: _)
        refine g_iload_n hΓ rfl dX0_laysRow_27 ?_
        have hz12 : D1 NI 2 = σ 0 1009 := hN.2.2.2.2.1
        refine x_callV (As := [.int (iI k)]) (rest := [.ref (P.2.1 30)]) (c := 10) hE hΓ (x_J2_get hE hX S1 D1 R1 NI b9 (lE R1 NI k) 10 kb9 ((S1 b9).2.1) k hN.2.2.1.2 (by decide) hbr9 hbk9 hbq9 rfl (by omega) (by omega) he10.1 ) hN.2.2.1.2 ⟨by decide, rfl⟩ rfl rfl q857 q858 q859 q127 q860 ndJ2_get rfl (by decide) (by decide) (by omega) (by omega) rfl (Nat.le_of_ble_eq_true rfl) dX0_laysRow_28 rfl (fun v11 S11 τ11 ρ11 h11 => ?_)
        obtain ⟨rfl, S11e, τ11e, ρ11e⟩ := h11
        have S11e := S11e.symm; subst S11e
        have τ11e := τ11e.symm; subst τ11e
        have ρ11e := ρ11e.symm; subst ρ11e
        show gW Γ E (xM E S1 D1 R1) _ _ _ _ (.ref (lE R1 NI k) :: _)
        refine x_castS (c := 8) hE hΓ rfl q915 hk10 ⟨by decide, rfl⟩ rfl dX0_laysRow_31 ?_
        have hz14 : D1 (P.2.1 30) 2 = k - f := hrw.1
        refine x_callV (As := [.ref (lE R1 NI k)]) (rest := []) (c := 10) hE hΓ (x_J2_add hE hX S1 D1 R1 (P.2.1 30) (lE R1 NI k) 13 8 (pL_k hp 30 rfl (n := 13) rfl) (by decide) (hx1).1 hk10 rfl (by omega) ) (pL_k hp 30 rfl (n := 13) rfl) ⟨by decide, rfl⟩ rfl rfl q1138 q703 q704 q127 q705 ndJ2_add rfl (by decide) (by decide) (by omega) (by omega) rfl (Nat.le_of_ble_eq_true rfl) dX0_laysRow_34 rfl (fun v13 S13 τ13 ρ13 h13 => ?_)
        obtain ⟨rfl, h13, S13f⟩ := h13
        have kd15 : (S13 (P.1)).1 = 1 := kup hp.1 (by decide) S13f
        have kd16 : (S13 N).1 = 2 := kup hN.1.2 (by decide) S13f
        have kd17 : (S13 NI).1 = 10 := kup hN.2.2.1.2 (by decide) S13f
        have kd18 : (S13 NM).1 = 11 := kup hN.2.1.2 (by decide) S13f
        have kd19 : (S13 NV).1 = 45 := kup kNV (by decide) S13f
        have ln19 : (S13 NV).2.1 = 6 := nup kNV (by decide) nNV S13f
        have kd20 : (S13 b9).1 = kb9 := kup hbk9 (by omega) S13f
        have ln20 : (S13 b9).2.1 = (S1 b9).2.1 := nup hbk9 (by omega) rfl S13f
        have kd21 : (S13 (lE R1 NI k)).1 = 8 := kup hk10 (by decide) S13f
        have kd22 : (S13 (P.2.1 30)).1 = 13 := kup (pL_k hp 30 rfl (n := 13) rfl) (by decide) S13f
        have hrw3 := rwL_add hx1.1 (by omega) hrw (show skR S1 D1 R1 _ (σ 0 (960 + (f + (k - f)))) (fun j => σ 0 (24 * (f + (k - f)) + j)) by rw [show f + (k - f) = k by omega]; exact hsk) h13
        have hx2 := Rx_rw hx1 h13.2.2.1 h13.1
        have hD2 : ∀ j ∈ [26, 27, 28, 29], τ13 (P.2.1 j) = D (P.2.1 j) := (fun j9 h9 => by
          have k9 : (S1 (P.2.1 j9)).1 = 50 + j9 ∧ 76 ≤ 50 + j9 ∧ 50 + j9 ≤ 79 := by
            simp at h9
            rcases h9 with e | e | e | e <;> rw [e] <;> exact ⟨pA_k hx1.2.1 _ rfl rfl, by decide, by decide⟩
          exact (cg_D h13.2.2.1 (lT_k (by omega)) k9.1 (by omega) (by simp only [tkB]; omega)).trans (hD j9 h9))
        show gW Γ E (xM E S13 τ13 ρ13) _ _ _ _ (.int (iI 1) :: _)
        refine g_pop hΓ rfl dX0_laysRow_37 ?_
        obtain ⟨x23, ex23⟩ : ∃ z9 : Int, z9 = k + 1 := ⟨_, rfl⟩
        refine g_iinc hΓ dX0_laysRow_38 rfl rfl (lv' := [some (.ref (P.1)), some (.int (iI f)), some (.int (iI n)), some (.int (iI x23))]) (by rw [ex23]; rfl) ?_
        refine g_goto (tgt := 9) hΓ dX0_laysRow_41 (by decide) ?_
        refine g_wid (c' := (x23 - f).toNat) (s' := 60 * (x23 - f).toNat) (by omega) (by omega) ?_
        exact ih_loop S13 τ13 ρ13 x23 (by omega) (sle_t hsl S13f) hx2 (by omega) hD2 (by rw [show x23 - f = k - f + 1 by omega]; exact hrw3)
  refine g_aload_n hΓ rfl dX0_laysRow_0 ?_
  refine x_geta (r := some (P.2.1 30)) (c := 0) hE hΓ in_X0 rfl hp.1 ⟨by decide, rfl⟩ 30 (ji := 30) rfl (by decide) (by decide) rfl q276 rfl rfl (pL_r hp 30 rfl rfl) dX0_laysRow_1 ?_
  show gW Γ E (xM E S D R) 0 0 _ _ (.ref (P.2.1 30) :: _)
  refine x_callV (As := []) (rest := []) (c := 10) hE hΓ (x_J2_clear hE hX S D R (P.2.1 30) 13 (pL_k hp 30 rfl (n := 13) rfl) (by decide) (hx).1 ) (pL_k hp 30 rfl (n := 13) rfl) ⟨by decide, rfl⟩ rfl rfl q829 q830 q831 q127 q832 ndJ2_clear rfl (by decide) (by decide) (Nat.zero_le _) (Nat.zero_le _) rfl (Nat.le_of_ble_eq_true rfl) dX0_laysRow_4 rfl (fun v24 S24 τ24 ρ24 h24 => ?_)
  obtain ⟨rfl, h24, S24e⟩ := h24
  have S24e := S24e.symm; subst S24e
  have k30 := pL_k hp 30 rfl (n := 13) rfl
  have hx9 := Rx_rw hx h24.2.2 h24.1
  have hr0 := h24.2.1
  have hD0 : ∀ j ∈ [26, 27, 28, 29], τ24 (P.2.1 j) = D (P.2.1 j) := (fun j9 h9 => by
    have k9 : (S (P.2.1 j9)).1 = 50 + j9 ∧ 76 ≤ 50 + j9 ∧ 50 + j9 ≤ 79 := by
      simp at h9
      rcases h9 with e | e | e | e <;> rw [e] <;> exact ⟨pA_k hx.2.1 _ rfl rfl, by decide, by decide⟩
    exact (cg_D h24.2.2 (lT_k (by omega)) k9.1 (by omega) (by simp only [tkB]; omega)))
  refine g_iload_n hΓ rfl dX0_laysRow_7 ?_
  refine g_istore_n hΓ dX0_laysRow_8 rfl (Nat.le_of_ble_eq_true rfl) (lv' := [some (.ref (P.1)), some (.int (iI f)), some (.int (iI n)), some (.int (iI f))]) rfl ?_
  refine g_wid (c' := (f - f).toNat) (s' := 60 * (f - f).toNat) (by omega) (by omega) ?_
  exact loop 9 S τ24 ρ24 f (by omega) (fun q9 h9 => rfl) hx9 (by omega) hD0 ⟨by rw [hr0]; omega, fun i9 x9 y9 => absurd x9 (by omega)⟩
set_option maxHeartbeats 4000000 in
theorem x_X0_laysRead {l : Launch} {E : gE} {X : State → Prop} {Z : Nat → Nat} {Y : Nat → Option Nat} (hE : E.2.1 = clsX) (hX : xOK l E X Z Y) (hL : xLam l E X (Z 20) (Z 21)) (S : xS) (D : xD) (R : xR) (P : xPk) (σ : mS)  (hx : Rx E Z S D R P σ) : xC l E X yX0_laysRead cX0_laysRead 4 (some .boolean) 15 128 7680 [.ref (P.1)] S D R (fun rv S' D' R' => rv = some (.int (iI (if isRd σ then 1 else 0))) ∧ (Rx E Z S' D' R' P σ ∧ (isRd σ → rdI D' P σ (-1))) ∧ sle S S') := by
  refine xC.of hX.1 (by decide) [some (.ref (P.1)), none, none, none] (Nat.le_of_ble_eq_true rfl) rfl rfl (fun Γ hΓ => ?_)
  obtain ⟨hg, hp, hki, hro, hnw, hbh, hsa, hpd⟩ := id hx
  obtain ⟨N, NI, NM, NV, hN⟩ := (hx).now
  have hAw := hg.2.2.2.2.2.2
  have hG : GS S D R := hg.1
  obtain ⟨h1000, h1009, h1042, h1043, h1044, h1045, h1046, h1047, hms, hsi, hsm, hnm⟩ := id hro
  have eN := hN.2.2.2.2.2.2.2.2.2.2.2.2
  have kNV : (S NV).1 = 45 := by rw [hN.2.2.2.1.2]
  have nNV : (S NV).2.1 = 6 := by rw [hN.2.2.2.1.2]
  refine g_aload_n hΓ rfl dX0_laysRead_0 ?_
  refine x_geta (r := some N) (c := 0) hE hΓ in_X0 rfl hp.1 ⟨by decide, rfl⟩ 4 (ji := 4) rfl (by decide) (by decide) rfl q250 rfl rfl hN.1.1 dX0_laysRead_1 ?_
  show gW Γ E (xM E S D R) 0 0 _ _ (.ref N :: _)
  refine x_geta (r := some NI) (c := 1) hE hΓ in_X1 rfl hN.1.2 ⟨by decide, rfl⟩ 1 (ji := 1) rfl (by decide) (by decide) rfl q200 rfl rfl hN.2.2.1.1 dX0_laysRead_4 ?_
  show gW Γ E (xM E S D R) 0 0 _ _ (.ref NI :: _)
  refine x_callV (As := []) (rest := []) (c := 10) hE hΓ (x_J2_size hE hX S D R NI 10 hN.2.2.1.2 (by decide) ) hN.2.2.1.2 ⟨by decide, rfl⟩ rfl rfl q845 q662 q663 q127 q664 ndJ2_size rfl (by decide) (by decide) (Nat.zero_le _) (Nat.zero_le _) rfl (Nat.le_of_ble_eq_true rfl) dX0_laysRead_7 rfl (fun v1 S1 τ1 ρ1 h1 => ?_)
  obtain ⟨rfl, S1e, τ1e, ρ1e⟩ := h1
  have S1e := S1e.symm; subst S1e
  have τ1e := τ1e.symm; subst τ1e
  have ρ1e := ρ1e.symm; subst ρ1e
  refine g_topi (hN.2.2.2.2.1) ?_
  show gW Γ E (xM E S D R) _ _ _ _ (.int (iI (σ 0 1009)) :: _)
  obtain ⟨x2, ex2⟩ : ∃ z9 : Int, z9 = σ 0 1009 := ⟨_, rfl⟩
  refine g_topi ex2.symm ?_
  refine g_istore_n hΓ dX0_laysRead_10 rfl (Nat.le_of_ble_eq_true rfl) (lv' := [some (.ref (P.1)), some (.int (iI x2)), none, none]) rfl ?_
  refine g_aload_n hΓ rfl dX0_laysRead_11 ?_
  refine x_callV (As := []) (rest := []) (c := 0) hE hΓ (x_X0_models hE hX S D R P σ  hx  ) hp.1 ⟨by decide, rfl⟩ rfl rfl q841 q843 qs21 q123 q844 ndX0_models rfl (by decide) (by decide) (Nat.zero_le _) (Nat.zero_le _) rfl (Nat.le_of_ble_eq_true rfl) dX0_laysRead_12 rfl (fun v3 S3 τ3 ρ3 h3 => ?_)
  obtain ⟨rfl, S3e, τ3e, ρ3e⟩ := h3
  have S3e := S3e.symm; subst S3e
  have τ3e := τ3e.symm; subst τ3e
  have ρ3e := ρ3e.symm; subst ρ3e
  show gW Γ E (xM E S D R) _ _ _ _ (.int (iI (σ 0 1000)) :: _)
  refine g_if_eq (tgt := 22) hΓ (by omega) dX0_laysRead_15 (by decide) (fun c4 => ?_) (fun c4 => ?_)
  · refine g_iconst hΓ dX0_laysRead_22 ?_
    exact x_zret hΓ (by omega) dX0_laysRead_23 (Nat.zero_le _) (Nat.zero_le _) ⟨ri (by rw [if_neg (fun z => by have z1 := z.1; have z2 := z.2; omega)]), ⟨hx, fun z => by have z1 := z.1; have z2 := z.2; omega⟩, (fun q h => rfl)⟩
  · refine g_iload_n hΓ rfl dX0_laysRead_18 ?_
    refine g_if_ne (tgt := 24) hΓ (by omega) dX0_laysRead_19 (by decide) (fun c5 => ?_) (fun c5 => ?_)
    · refine g_aload_n hΓ rfl dX0_laysRead_24 ?_
      refine x_geta (r := some (P.2.1 26)) (c := 0) hE hΓ in_X0 rfl hp.1 ⟨by decide, rfl⟩ 26 (ji := 26) rfl (by decide) (by decide) rfl q272 rfl rfl (pA_r hp 26 rfl rfl) dX0_laysRead_25 ?_
      show gW Γ E (xM E S D R) 0 0 _ _ (.ref (P.2.1 26) :: _)
      refine g_iload_n hΓ rfl dX0_laysRead_28 ?_
      refine g_iconst hΓ dX0_laysRead_29 ?_
      refine x_iast hΓ (pA_k hp 26 rfl (n := 76) rfl) (pA_n hp 26 rfl (n := 9) rfl) ⟨by decide, rfl⟩ (hAw _ (by rw [(pA_k hp 26 rfl (n := 76) rfl)]; rfl)) (by omega) (by omega) dX0_laysRead_30 (fun τ6 τ6e => ?_)
      have τ6r : τ6 (P.2.1 26) x2 = 0 := by rw [τ6e]; exact us_s _ _ _ _
      have τ6f : ∀ (q9 : Nat) (j9 : Int), (q9 ≠ (P.2.1 26) ∨ j9 ≠ x2) → τ6 q9 j9 = D q9 j9 := fun q9 j9 hh => by rw [τ6e]; exact us_n hh
      have hf0 : fr S D τ6 [76] := (fun q9 j9 hk9 => by exact (τ6f q9 j9 (Or.inl (fun e9 => hk9 (by rw [e9, (pA_k hp 26 rfl (n := 76) rfl), mdN _ (by decide)]; decide)))))
      have hx0 : Rx E Z S τ6 R P σ := Rx_scr hx (fr_w hf0 (by decide)) fr_rfl (GS_fr hG hf0 fr_rfl (m' := []) (by decide) (by decide))
      have hi0 : rdI τ6 P σ (σ 0 1009 - 1) := ⟨by rw [show σ 0 1009 = x2 by omega]; exact τ6r, fun j9 x9 y9 => absurd x9 (by omega)⟩
      have hm0 : 0 < σ 0 1000 := by omega
      have hn9 : x2 = σ 0 1009 := by omega
      have out : ∀ (fu : Nat) (S1 : xS) (D1 : xD) (R1 : xR) (s : Int), (s + 1).toNat < fu → (sle S S1) → (Rx E Z S1 D1 R1 P σ) → (-1 ≤ s ∧ s < σ 0 1009) → (rdI D1 P σ s) → gW Γ E (xM E S1 D1 R1) (16 * (σ 0 1009 - 1 - s).toNat) (960 * (σ 0 1009 - 1 - s).toNat) 35 [some (.ref (P.1)), some (.int (iI x2)), some (.int (iI s)), none] [] := by
        intro fu
        induction fu with
        | zero => intro S1 D1 R1 s hn; exact absurd hn (Nat.not_lt_zero _)
        | succ fu ih_out =>
          intro S1 D1 R1 s hn hsl hx1 hs hi
          obtain ⟨hg, hp, hki, hro, hnw, hbh, hsa, hpd⟩ := id hx1
          obtain ⟨N, NI, NM, NV, hN⟩ := (hx1).now
          have hAw := hg.2.2.2.2.2.2
          have hG : GS S1 D1 R1 := hg.1
          obtain ⟨h1000, h1009, h1042, h1043, h1044, h1045, h1046, h1047, hms, hsi, hsm, hnm⟩ := id hro
          have eN := hN.2.2.2.2.2.2.2.2.2.2.2.2
          have kNV : (S1 NV).1 = 45 := by rw [hN.2.2.2.1.2]
          have nNV : (S1 NV).2.1 = 6 := by rw [hN.2.2.2.1.2]
          have eNI : NI = rf R1 (rf R1 P.1 4) 1 := by rw [eN.2.2.1, eN.1]
          refine g_iload_n hΓ rfl dX0_laysRead_35 ?_
          refine g_if_lt (tgt := 80) hΓ (by omega) dX0_laysRead_36 (by decide) (fun c7 => ?_) (fun c7 => ?_)
          · refine g_iconst hΓ dX0_laysRead_80 ?_
            exact x_zret hΓ (by omega) dX0_laysRead_81 (by omega) (by omega) ⟨ri (by rw [if_pos ⟨by omega, by omega⟩]), ⟨hx1, fun _ => by rw [show (-1 : Int) = s by omega]; exact hi⟩, hsl⟩
          · refine g_aload_n hΓ rfl dX0_laysRead_39 ?_
            refine x_geta (r := some (P.2.1 26)) (c := 0) hE hΓ in_X0 rfl hp.1 ⟨by decide, rfl⟩ 26 (ji := 26) rfl (by decide) (by decide) rfl q272 rfl rfl (pA_r hp 26 rfl rfl) dX0_laysRead_40 ?_
            show gW Γ E (xM E S1 D1 R1) (16 * (σ 0 1009 - 1 - s).toNat) (960 * (σ 0 1009 - 1 - s).toNat) _ _ (.ref (P.2.1 26) :: _)
            refine g_iload_n hΓ rfl dX0_laysRead_43 ?_
            refine g_ldcw (n := 100000) hΓ rfl q1002 (by decide) dX0_laysRead_44 ?_
            refine x_iast hΓ (pA_k hp 26 rfl (n := 76) rfl) (pA_n hp 26 rfl (n := 9) rfl) ⟨by decide, rfl⟩ (hAw _ (by rw [(pA_k hp 26 rfl (n := 76) rfl)]; rfl)) (by omega) (by omega) dX0_laysRead_47 (fun τ8 τ8e => ?_)
            have τ8r : τ8 (P.2.1 26) s = 100000 := by rw [τ8e]; exact us_s _ _ _ _
            have τ8f : ∀ (q9 : Nat) (j9 : Int), (q9 ≠ (P.2.1 26) ∨ j9 ≠ s) → τ8 q9 j9 = D1 q9 j9 := fun q9 j9 hh => by rw [τ8e]; exact us_n hh
            have hf1 : fr S1 D1 τ8 [76] := (fun q9 j9 hk9 => by exact (τ8f q9 j9 (Or.inl (fun e9 => hk9 (by rw [e9, (pA_k hp 26 rfl (n := 76) rfl), mdN _ (by decide)]; decide)))))
            have hx2 : Rx E Z S1 τ8 R1 P σ := Rx_scr hx1 (fr_w hf1 (by decide)) fr_rfl (GS_fr hG hf1 fr_rfl (m' := []) (by decide) (by decide))
            have hi2 : rdG τ8 P σ s 1 := rdG_0 hro hm0 (rdI_set hi (by omega) (fun j9 c9 => τ8f _ _ (Or.inr c9)) (fun k9 h9 => by
              simp at h9
              rcases h9 with e | e | e <;> rw [e] <;> exact fr_row hf1 (pA_k hx1.2.1 _ rfl rfl) (by decide) (by decide))) (by omega) (by omega) τ8r
            have hsl0 := hsl
            have hro9 := hro
            have inn : ∀ (fu : Nat) (S2 : xS) (D2 : xD) (R2 : xR) (n : Int), (5 - n).toNat < fu → (sle S S2) → (Rx E Z S2 D2 R2 P σ) → (1 ≤ n ∧ n ≤ 5 ∧ s + n ≤ σ 0 1009 + 1) → (rdG D2 P σ s n) → gW Γ E (xM E S2 D2 R2) (16 * (σ 0 1009 - 1 - s).toNat + 4 * (n - 1).toNat) (960 * (σ 0 1009 - 1 - s).toNat + 240 * (n - 1).toNat) 50 [some (.ref (P.1)), some (.int (iI x2)), some (.int (iI s)), some (.int (iI n))] [] := by
              intro fu
              induction fu with
              | zero => intro S2 D2 R2 n hn; exact absurd hn (Nat.not_lt_zero _)
              | succ fu ih_inn =>
                intro S2 D2 R2 n hn hsl2 hx3 hn hgi
                obtain ⟨hg, hp, hki, hro, hnw, hbh, hsa, hpd⟩ := id hx3
                obtain ⟨N, NI, NM, NV, hN⟩ := (hx3).now
                have hAw := hg.2.2.2.2.2.2
                have hG : GS S2 D2 R2 := hg.1
                obtain ⟨h1000, h1009, h1042, h1043, h1044, h1045, h1046, h1047, hms, hsi, hsm, hnm⟩ := id hro
                have eN := hN.2.2.2.2.2.2.2.2.2.2.2.2
                have kNV : (S2 NV).1 = 45 := by rw [hN.2.2.2.1.2]
                have nNV : (S2 NV).2.1 = 6 := by rw [hN.2.2.2.1.2]
                have eNI : NI = rf R2 (rf R2 P.1 4) 1 := by rw [eN.2.2.1, eN.1]
                refine g_iload_n hΓ rfl dX0_laysRead_50 ?_
                refine g_iconst hΓ dX0_laysRead_51 ?_
                refine g_icmp_gt (tgt := 74) hΓ (by omega) (by omega) dX0_laysRead_52 (by decide) (fun c9 => ?_) (fun c9 => ?_)
                · obtain ⟨x10, ex10⟩ : ∃ z9 : Int, z9 = s + (-1) := ⟨_, rfl⟩
                  refine g_iinc hΓ dX0_laysRead_74 rfl rfl (lv' := [some (.ref (P.1)), some (.int (iI x2)), some (.int (iI x10)), some (.int (iI n))]) (by rw [ex10]; rfl) ?_
                  refine g_goto (tgt := 35) hΓ dX0_laysRead_77 (by decide) ?_
                  refine g_wid (c' := 16 * (σ 0 1009 - 1 - x10).toNat) (s' := 960 * (σ 0 1009 - 1 - x10).toNat) (by omega) (by omega) ?_
                  have hie := rdG_e hgi (by omega) (by omega) (by omega)
                  refine g_lvw (lv' := [some (.ref (P.1)), some (.int (iI x2)), some (.int (iI x10)), none]) ⟨rfl, ⟨rfl, ⟨rfl, trivial⟩⟩⟩ ?_
                  exact ih_out S2 D2 R2 x10 (by omega) hsl2 hx3 (by omega) (by rw [show x10 = s - 1 by omega]; exact hie)
                · refine g_iload_n hΓ rfl dX0_laysRead_55 ?_
                  refine g_iload_n hΓ rfl dX0_laysRead_56 ?_
                  refine g_iadd hΓ dX0_laysRead_57 ?_
                  refine g_iload_n hΓ rfl dX0_laysRead_58 ?_
                  refine g_icmp_gt (tgt := 74) hΓ (by omega) (by omega) dX0_laysRead_59 (by decide) (fun c11 => ?_) (fun c11 => ?_)
                  · obtain ⟨x12, ex12⟩ : ∃ z9 : Int, z9 = s + (-1) := ⟨_, rfl⟩
                    refine g_iinc hΓ dX0_laysRead_74 rfl rfl (lv' := [some (.ref (P.1)), some (.int (iI x2)), some (.int (iI x12)), some (.int (iI n))]) (by rw [ex12]; rfl) ?_
                    refine g_goto (tgt := 35) hΓ dX0_laysRead_77 (by decide) ?_
                    refine g_wid (c' := 16 * (σ 0 1009 - 1 - x12).toNat) (s' := 960 * (σ 0 1009 - 1 - x12).toNat) (by omega) (by omega) ?_
                    have hie := rdG_e hgi (by omega) (by omega) (by omega)
                    refine g_lvw (lv' := [some (.ref (P.1)), some (.int (iI x2)), some (.int (iI x12)), none]) ⟨rfl, ⟨rfl, ⟨rfl, trivial⟩⟩⟩ ?_
                    exact ih_out S2 D2 R2 x12 (by omega) hsl2 hx3 (by omega) (by rw [show x12 = s - 1 by omega]; exact hie)
                  · refine g_aload_n hΓ rfl dX0_laysRead_62 ?_
                    refine g_iload_n hΓ rfl dX0_laysRead_63 ?_
                    refine g_iload_n hΓ rfl dX0_laysRead_64 ?_
                    have hle := rd_le hro hm0 hgi.1 (j := s + n) (by omega) (by omega) (by omega)
                    refine x_callV (As := [.int (iI s), .int (iI n)]) (rest := []) (c := 0) hE hΓ (x_X0_laysRow hE hX hL S2 D2 R2 P σ s n hx3 (by omega) hm0 hgi.2.1 hle ) hp.1 ⟨by decide, rfl⟩ rfl rfl q1155 q1157 qs45 q123 q1158 ndX0_laysRow rfl (by decide) (by decide) (by omega) (by omega) rfl (Nat.le_of_ble_eq_true rfl) dX0_laysRead_65 rfl (fun v13 S13 τ13 ρ13 h13 => ?_)
                    obtain ⟨rfl, h13, S13f⟩ := h13
                    have kd14 : (S13 (P.1)).1 = 1 := kup hp.1 (by decide) S13f
                    have kd15 : (S13 N).1 = 2 := kup hN.1.2 (by decide) S13f
                    have kd16 : (S13 NI).1 = 10 := kup hN.2.2.1.2 (by decide) S13f
                    have kd17 : (S13 NM).1 = 11 := kup hN.2.1.2 (by decide) S13f
                    have kd18 : (S13 NV).1 = 45 := kup kNV (by decide) S13f
                    have ln18 : (S13 NV).2.1 = 6 := nup kNV (by decide) nNV S13f
                    have hx4 := h13.1
                    have hg4 := rdG_s hro hm0 hgi (by omega) (by omega) (by omega) h13.2
                    obtain ⟨x19, ex19⟩ : ∃ z9 : Int, z9 = n + 1 := ⟨_, rfl⟩
                    refine g_iinc hΓ dX0_laysRead_68 rfl rfl (lv' := [some (.ref (P.1)), some (.int (iI x2)), some (.int (iI s)), some (.int (iI x19))]) (by rw [ex19]; rfl) ?_
                    refine g_goto (tgt := 50) hΓ dX0_laysRead_71 (by decide) ?_
                    refine g_wid (c' := 16 * (σ 0 1009 - 1 - s).toNat + 4 * (x19 - 1).toNat) (s' := 960 * (σ 0 1009 - 1 - s).toNat + 240 * (x19 - 1).toNat) (by omega) (by omega) ?_
                    exact ih_inn S13 τ13 ρ13 x19 (by omega) (sle_t hsl2 S13f) hx4 (by omega) (by rw [show x19 = n + 1 by omega]; exact hg4)
            refine g_iconst hΓ dX0_laysRead_48 ?_
            refine g_istore_n hΓ dX0_laysRead_49 rfl (Nat.le_of_ble_eq_true rfl) (lv' := [some (.ref (P.1)), some (.int (iI x2)), some (.int (iI s)), some (.int (iI 1))]) rfl ?_
            refine g_wid (c' := 16 * (σ 0 1009 - 1 - s).toNat + 4 * ((1 : Int) - 1).toNat) (s' := 960 * (σ 0 1009 - 1 - s).toNat + 240 * ((1 : Int) - 1).toNat) (by omega) (by omega) ?_
            exact inn 9 S1 τ8 R1 1 (by omega) hsl hx2 (by omega) hi2
      refine g_iload_n hΓ rfl dX0_laysRead_31 ?_
      refine g_iconst hΓ dX0_laysRead_32 ?_
      refine g_isub hΓ dX0_laysRead_33 ?_
      obtain ⟨x20, ex20⟩ : ∃ z9 : Int, z9 = x2 - 1 := ⟨_, rfl⟩
      refine g_topi ex20.symm ?_
      refine g_istore_n hΓ dX0_laysRead_34 rfl (Nat.le_of_ble_eq_true rfl) (lv' := [some (.ref (P.1)), some (.int (iI x2)), some (.int (iI x20)), none]) rfl ?_
      refine g_wid (c' := 16 * (σ 0 1009 - 1 - x20).toNat) (s' := 960 * (σ 0 1009 - 1 - x20).toNat) (by omega) (by omega) ?_
      exact out 9 S τ6 R x20 (by omega) (fun q9 h9 => rfl) hx0 (by omega) (by rw [show x20 = σ 0 1009 - 1 by omega]; exact hi0)
    · refine g_iconst hΓ dX0_laysRead_22 ?_
      exact x_zret hΓ (by omega) dX0_laysRead_23 (Nat.zero_le _) (Nat.zero_le _) ⟨ri (by rw [if_neg (fun z => by have z1 := z.1; have z2 := z.2; omega)]), ⟨hx, fun z => by have z1 := z.1; have z2 := z.2; omega⟩, (fun q h => rfl)⟩
set_option maxHeartbeats 4000000 in
theorem x_X0_reads {l : Launch} {E : gE} {X : State → Prop} {Z : Nat → Nat} {Y : Nat → Option Nat} (hE : E.2.1 = clsX) (hX : xOK l E X Z Y) (hL : xLam l E X (Z 20) (Z 21)) (S : xS) (D : xD) (R : xR) (P : xPk) (σ : mS)  (hx : Rx E Z S D R P σ) : xC l E X yX0_reads cX0_reads 1 (some .int) 16 128 7680 [.ref (P.1)] S D R (fun rv S' D' R' => rv = some (.int (iI (sp_reads σ))) ∧ (Rx E Z S' D' R' P σ) ∧ sle S S') := by
  refine xC.of hX.1 (by decide) [some (.ref (P.1))] (Nat.le_of_ble_eq_true rfl) rfl rfl (fun Γ hΓ => ?_)
  obtain ⟨hg, hp, hki, hro, hnw, hbh, hsa, hpd⟩ := id hx
  obtain ⟨N, NI, NM, NV, hN⟩ := (hx).now
  have hAw := hg.2.2.2.2.2.2
  have hG : GS S D R := hg.1
  obtain ⟨h1000, h1009, h1042, h1043, h1044, h1045, h1046, h1047, hms, hsi, hsm, hnm⟩ := id hro
  have eN := hN.2.2.2.2.2.2.2.2.2.2.2.2
  have kNV : (S NV).1 = 45 := by rw [hN.2.2.2.1.2]
  have nNV : (S NV).2.1 = 6 := by rw [hN.2.2.2.1.2]
  refine g_aload_n hΓ rfl dX0_reads_0 ?_
  refine x_callV (As := []) (rest := []) (c := 0) hE hΓ (x_X0_laysRead hE hX hL S D R P σ  hx  ) hp.1 ⟨by decide, rfl⟩ rfl rfl q1151 q1153 qs44 q123 q1154 ndX0_laysRead rfl (by decide) (by decide) (by omega) (by omega) rfl (Nat.le_of_ble_eq_true rfl) dX0_reads_1 rfl (fun v1 S1 τ1 ρ1 h1 => ?_)
  obtain ⟨rfl, h1, S1f⟩ := h1
  have kd2 : (S1 (P.1)).1 = 1 := kup hp.1 (by decide) S1f
  have kd3 : (S1 N).1 = 2 := kup hN.1.2 (by decide) S1f
  have kd4 : (S1 NI).1 = 10 := kup hN.2.2.1.2 (by decide) S1f
  have kd5 : (S1 NM).1 = 11 := kup hN.2.1.2 (by decide) S1f
  have kd6 : (S1 NV).1 = 45 := kup kNV (by decide) S1f
  have ln6 : (S1 NV).2.1 = 6 := nup kNV (by decide) nNV S1f
  have hx2 := h1.1
  have hri := h1.2
  obtain ⟨hg, hp, hki, hro0, hnw, hbh, hsa, hpd⟩ := id hx2
  have hro : rowOK (σ 0) := hro0
  obtain ⟨N, NI, NM, NV, hN0⟩ := (hx2).now
  have hN : nowF S1 τ1 ρ1 P σ N NI NM NV := hN0
  have hAw := hg.2.2.2.2.2.2
  have hG : GS S1 τ1 ρ1 := hg.1
  obtain ⟨h1000, h1009, h1042, h1043, h1044, h1045, h1046, h1047, hms, hsi, hsm, hnm⟩ := id hro
  have eN := hN.2.2.2.2.2.2.2.2.2.2.2.2
  have kNV : (S1 NV).1 = 45 := by rw [hN.2.2.2.1.2]
  have nNV : (S1 NV).2.1 = 6 := by rw [hN.2.2.2.1.2]
  have eNI : NI = rf ρ1 (rf ρ1 P.1 4) 1 := by rw [eN.2.2.1, eN.1]
  have eNM : NM = rf ρ1 (rf ρ1 P.1 4) 0 := by rw [eN.2.1, eN.1]
  have eNV : NV = rf ρ1 (rf ρ1 P.1 4) 2 := by rw [eN.2.2.2, eN.1]
  show gW Γ E (xM E S1 τ1 ρ1) _ _ _ _ (.int (iI (if isRd σ then 1 else 0)) :: _)
  refine g_ifB_eq (tgt := 16) hΓ  dX0_reads_4 (by decide) (fun c7 => ?_) (fun c7 => ?_)
  · refine g_iconst hΓ dX0_reads_16 ?_
    exact x_iret hΓ dX0_reads_17 (by omega) (by omega) ⟨ri (by rw [sp_reads]; first | (rw [if_pos (by assumption)]; done) | (rw [if_neg (by assumption)])), hx2, S1f⟩
  · have hrd : isRd σ := by assumption
    have h0e := (hri hrd).2 0 (by omega) hrd.2
    have hRE := rdE_r hro hrd.1 (s := 0) (by omega) hrd.2
    refine g_aload_n hΓ rfl dX0_reads_7 ?_
    refine x_geta (r := some (P.2.1 26)) (c := 0) hE hΓ in_X0 rfl hp.1 ⟨by decide, rfl⟩ 26 (ji := 26) rfl (by decide) (by decide) rfl q272 rfl rfl (pA_r hp 26 rfl rfl) dX0_reads_8 ?_
    show gW Γ E (xM E S1 τ1 ρ1) (0 + 128) (0 + 7680) _ _ (.ref (P.2.1 26) :: _)
    refine g_iconst hΓ dX0_reads_11 ?_
    refine x_iald hΓ (pA_k hp 26 rfl (n := 76) rfl) (pA_n hp 26 rfl (n := 9) rfl) ⟨by decide, rfl⟩ (by omega) (by omega) dX0_reads_12 ?_
    refine g_topi ((congrArg (fun z => z.1.1) h0e)) ?_
    refine g_goto (tgt := 17) hΓ dX0_reads_13 (by decide) ?_
    exact x_iret hΓ dX0_reads_17 (by omega) (by omega) ⟨ri (by rw [sp_reads]; first | (rw [if_pos (by assumption)]; done) | (rw [if_neg (by assumption)])), hx2, S1f⟩
set_option maxHeartbeats 4000000 in
theorem x_X0_read {l : Launch} {E : gE} {X : State → Prop} {Z : Nat → Nat} {Y : Nat → Option Nat} (hE : E.2.1 = clsX) (hX : xOK l E X Z Y) (hL : xLam l E X (Z 20) (Z 21)) (S : xS) (D : xD) (R : xR) (P : xPk) (σ : mS) (k w : Int) (hx : Rx E Z S D R P σ) (hk : r32 k) (hw : r32 w) : xC l E X yX0_read cX0_read 5 (some .int) 16 128 7680 [.ref (P.1), .int (iI k), .int (iI w)] S D R (fun rv S' D' R' => rv = some (.int (iI (sp_read σ k w))) ∧ (Rx E Z S' D' R' P σ) ∧ sle S S') := by
  refine xC.of hX.1 (by decide) [some (.ref (P.1)), some (.int (iI k)), some (.int (iI w)), none, none] (Nat.le_of_ble_eq_true rfl) rfl rfl (fun Γ hΓ => ?_)
  obtain ⟨hg, hp, hki, hro, hnw, hbh, hsa, hpd⟩ := id hx
  obtain ⟨N, NI, NM, NV, hN⟩ := (hx).now
  have hAw := hg.2.2.2.2.2.2
  have hG : GS S D R := hg.1
  obtain ⟨h1000, h1009, h1042, h1043, h1044, h1045, h1046, h1047, hms, hsi, hsm, hnm⟩ := id hro
  have eN := hN.2.2.2.2.2.2.2.2.2.2.2.2
  have kNV : (S NV).1 = 45 := by rw [hN.2.2.2.1.2]
  have nNV : (S NV).2.1 = 6 := by rw [hN.2.2.2.1.2]
  refine g_iload_n hΓ rfl dX0_read_0 ?_
  refine g_iconst hΓ dX0_read_1 ?_
  refine g_icmp_lt (tgt := 12) hΓ (by omega) (by omega) dX0_read_2 (by decide) (fun c1 => ?_) (fun c1 => ?_)
  · refine g_iconst hΓ dX0_read_12 ?_
    exact x_iret hΓ dX0_read_13 (Nat.zero_le _) (Nat.zero_le _) ⟨ri (by first | exact rd_lo (by assumption) | (rw [sp_read, if_neg (by assumption)])), hx, (fun q h => rfl)⟩
  · refine g_aload_n hΓ rfl dX0_read_5 ?_
    refine x_callV (As := []) (rest := []) (c := 0) hE hΓ (x_X0_laysRead hE hX hL S D R P σ  hx  ) hp.1 ⟨by decide, rfl⟩ rfl rfl q1151 q1153 qs44 q123 q1154 ndX0_laysRead rfl (by decide) (by decide) (by omega) (by omega) rfl (Nat.le_of_ble_eq_true rfl) dX0_read_6 rfl (fun v2 S2 τ2 ρ2 h2 => ?_)
    obtain ⟨rfl, h2, S2f⟩ := h2
    have kd3 : (S2 (P.1)).1 = 1 := kup hp.1 (by decide) S2f
    have kd4 : (S2 N).1 = 2 := kup hN.1.2 (by decide) S2f
    have kd5 : (S2 NI).1 = 10 := kup hN.2.2.1.2 (by decide) S2f
    have kd6 : (S2 NM).1 = 11 := kup hN.2.1.2 (by decide) S2f
    have kd7 : (S2 NV).1 = 45 := kup kNV (by decide) S2f
    have ln7 : (S2 NV).2.1 = 6 := nup kNV (by decide) nNV S2f
    have hx2 := h2.1
    have hri := h2.2
    obtain ⟨hg, hp, hki, hro0, hnw, hbh, hsa, hpd⟩ := id hx2
    have hro : rowOK (σ 0) := hro0
    obtain ⟨N, NI, NM, NV, hN0⟩ := (hx2).now
    have hN : nowF S2 τ2 ρ2 P σ N NI NM NV := hN0
    have hAw := hg.2.2.2.2.2.2
    have hG : GS S2 τ2 ρ2 := hg.1
    obtain ⟨h1000, h1009, h1042, h1043, h1044, h1045, h1046, h1047, hms, hsi, hsm, hnm⟩ := id hro
    have eN := hN.2.2.2.2.2.2.2.2.2.2.2.2
    have kNV : (S2 NV).1 = 45 := by rw [hN.2.2.2.1.2]
    have nNV : (S2 NV).2.1 = 6 := by rw [hN.2.2.2.1.2]
    have eNI : NI = rf ρ2 (rf ρ2 P.1 4) 1 := by rw [eN.2.2.1, eN.1]
    have eNM : NM = rf ρ2 (rf ρ2 P.1 4) 0 := by rw [eN.2.1, eN.1]
    have eNV : NV = rf ρ2 (rf ρ2 P.1 4) 2 := by rw [eN.2.2.2, eN.1]
    show gW Γ E (xM E S2 τ2 ρ2) _ _ _ _ (.int (iI (if isRd σ then 1 else 0)) :: _)
    refine g_ifB_ne (tgt := 14) hΓ  dX0_read_9 (by decide) (fun c8 => ?_) (fun c8 => ?_)
    · have hrd : isRd σ := by assumption
      have loop : ∀ (fu : Nat) (n : Int) (s : Int), (σ 0 1009 - s).toNat < fu → (0 ≤ s ∧ s ≤ σ 0 1009 ∧ 0 ≤ n ∧ n ≤ s) → (rwF (fun s => (rdE σ s).1.2) (σ 0 1009) k (9 - n).toNat s n = rwE σ k) → gW Γ E (xM E S2 τ2 ρ2) (0 + 128) (0 + 7680) 19 [some (.ref (P.1)), some (.int (iI k)), some (.int (iI w)), some (.int (iI n)), some (.int (iI s))] [] := by
        intro fu
        induction fu with
        | zero => intro n s hn; exact absurd hn (Nat.not_lt_zero _)
        | succ fu ih_loop =>
          intro n s hn hs hv
          refine g_iload hΓ rfl dX0_read_19 ?_
          refine g_aload_n hΓ rfl dX0_read_21 ?_
          refine x_geta (r := some N) (c := 0) hE hΓ in_X0 rfl hp.1 ⟨by decide, rfl⟩ 4 (ji := 4) rfl (by decide) (by decide) rfl q250 rfl rfl hN.1.1 dX0_read_22 ?_
          show gW Γ E (xM E S2 τ2 ρ2) (0 + 128) (0 + 7680) _ _ (.ref N :: _)
          refine x_geta (r := some NI) (c := 1) hE hΓ in_X1 rfl hN.1.2 ⟨by decide, rfl⟩ 1 (ji := 1) rfl (by decide) (by decide) rfl q200 rfl rfl hN.2.2.1.1 dX0_read_25 ?_
          show gW Γ E (xM E S2 τ2 ρ2) (0 + 128) (0 + 7680) _ _ (.ref NI :: _)
          refine x_callV (As := []) (rest := [.int (iI s)]) (c := 10) hE hΓ (x_J2_size hE hX S2 τ2 ρ2 NI 10 hN.2.2.1.2 (by decide) ) hN.2.2.1.2 ⟨by decide, rfl⟩ rfl rfl q845 q662 q663 q127 q664 ndJ2_size rfl (by decide) (by decide) (by omega) (by omega) rfl (Nat.le_of_ble_eq_true rfl) dX0_read_28 rfl (fun v9 S9 τ9 ρ9 h9 => ?_)
          obtain ⟨rfl, S9e, τ9e, ρ9e⟩ := h9
          have S9e := S9e.symm; subst S9e
          have τ9e := τ9e.symm; subst τ9e
          have ρ9e := ρ9e.symm; subst ρ9e
          refine g_topi (hN.2.2.2.2.1) ?_
          show gW Γ E (xM E S2 τ2 ρ2) _ _ _ _ (.int (iI (σ 0 1009)) :: _)
          refine g_icmp_ge (tgt := 103) hΓ (by omega) (by omega) dX0_read_31 (by decide) (fun c10 => ?_) (fun c10 => ?_)
          · refine g_iload_n hΓ rfl dX0_read_103 ?_
            refine g_iconst hΓ dX0_read_104 ?_
            refine g_icmp_ne (tgt := 112) hΓ (by omega) (by omega) dX0_read_105 (by decide) (fun c11 => ?_) (fun c11 => ?_)
            · refine g_iconst hΓ dX0_read_112 ?_
              have hst : rwE σ k = (s, n) := by rw [← hv]; exact rwF_stop (by omega) _
              exact x_iret hΓ dX0_read_113 (by omega) (by omega) ⟨ri (by rw [sp_read, if_pos hrd, hst]; simp only; first | (rw [if_pos (by omega)]; done) | (rw [if_neg (by omega), if_pos (by omega)]; done) | (rw [if_neg (by omega), if_neg (by omega), if_pos (by omega)]; done) | (rw [if_neg (by omega), if_neg (by omega), if_neg (by omega), if_pos (by omega)]; done) | (rw [if_neg (by omega), if_neg (by omega), if_neg (by omega), if_neg (by omega)])), hx2, S2f⟩
            · refine g_iload_n hΓ rfl dX0_read_108 ?_
              refine g_goto (tgt := 113) hΓ dX0_read_109 (by decide) ?_
              have hst : rwE σ k = (s, n) := by rw [← hv]; exact rwF_stop (by omega) _
              exact x_iret hΓ dX0_read_113 (by omega) (by omega) ⟨ri (by rw [sp_read, if_pos hrd, hst]; simp only; first | (rw [if_pos (by omega)]; done) | (rw [if_neg (by omega), if_pos (by omega)]; done) | (rw [if_neg (by omega), if_neg (by omega), if_pos (by omega)]; done) | (rw [if_neg (by omega), if_neg (by omega), if_neg (by omega), if_pos (by omega)]; done) | (rw [if_neg (by omega), if_neg (by omega), if_neg (by omega), if_neg (by omega)])), hx2, S2f⟩
          · have hse := (hri hrd).2 s (by omega) (by omega)
            have hRE := rdE_r hro hrd.1 (s := s) (by omega) (by omega)
            refine g_iload_n hΓ rfl dX0_read_34 ?_
            refine g_iload_n hΓ rfl dX0_read_35 ?_
            refine g_icmp_ne (tgt := 85) hΓ (by omega) (by omega) dX0_read_36 (by decide) (fun c12 => ?_) (fun c12 => ?_)
            · obtain ⟨x13, ex13⟩ : ∃ z9 : Int, z9 = n + 1 := ⟨_, rfl⟩
              refine g_iinc hΓ dX0_read_85 rfl rfl (lv' := [some (.ref (P.1)), some (.int (iI k)), some (.int (iI w)), some (.int (iI x13)), some (.int (iI s))]) (by rw [ex13]; rfl) ?_
              refine g_iload hΓ rfl dX0_read_88 ?_
              refine g_aload_n hΓ rfl dX0_read_90 ?_
              refine x_geta (r := some (P.2.1 27)) (c := 0) hE hΓ in_X0 rfl hp.1 ⟨by decide, rfl⟩ 27 (ji := 27) rfl (by decide) (by decide) rfl q273 rfl rfl (pA_r hp 27 rfl rfl) dX0_read_91 ?_
              show gW Γ E (xM E S2 τ2 ρ2) (0 + 128 + 0) (0 + 7680 + 0) _ _ (.ref (P.2.1 27) :: _)
              refine g_iload hΓ rfl dX0_read_94 ?_
              refine x_iald hΓ (pA_k hp 27 rfl (n := 77) rfl) (pA_n hp 27 rfl (n := 8) rfl) ⟨by decide, rfl⟩ (by omega) (by omega) dX0_read_96 ?_
              refine g_topi ((congrArg (fun z => z.1.2) hse)) ?_
              refine g_iadd hΓ dX0_read_97 ?_
              obtain ⟨x14, ex14⟩ : ∃ z9 : Int, z9 = s + ((rdE σ s).1.2) := ⟨_, rfl⟩
              refine g_topi ex14.symm ?_
              refine g_istore hΓ dX0_read_98 rfl (Nat.le_of_ble_eq_true rfl) (lv' := [some (.ref (P.1)), some (.int (iI k)), some (.int (iI w)), some (.int (iI x13)), some (.int (iI x14))]) rfl ?_
              refine g_goto (tgt := 19) hΓ dX0_read_100 (by decide) ?_
              rw [show (9 - n).toNat = (9 - x13).toNat + 1 by omega, rwF, if_pos ⟨by omega, by omega⟩] at hv
              exact ih_loop x13 x14 (by omega) (by omega) (by have h8 : x14 = s + (rdE σ s).1.2 := (by omega); have h9 : x13 = n + 1 := (by omega); rw [h8, h9]; rw [h9] at hv; exact hv)
            · refine g_iload_n hΓ rfl dX0_read_39 ?_
              refine g_if_ne (tgt := 53) hΓ (by omega) dX0_read_40 (by decide) (fun c15 => ?_) (fun c15 => ?_)
              · refine g_iload_n hΓ rfl dX0_read_53 ?_
                refine g_iconst hΓ dX0_read_54 ?_
                refine g_icmp_ne (tgt := 68) hΓ (by omega) (by omega) dX0_read_55 (by decide) (fun c16 => ?_) (fun c16 => ?_)
                · refine g_iload_n hΓ rfl dX0_read_68 ?_
                  refine g_iconst hΓ dX0_read_69 ?_
                  refine g_icmp_ne (tgt := 83) hΓ (by omega) (by omega) dX0_read_70 (by decide) (fun c17 => ?_) (fun c17 => ?_)
                  · refine g_iconst hΓ dX0_read_83 ?_
                    have hst : rwE σ k = (s, n) := by rw [← hv]; exact rwF_stop (by omega) _
                    exact x_iret hΓ dX0_read_84 (by omega) (by omega) ⟨ri (by rw [sp_read, if_pos hrd, hst]; simp only; first | (rw [if_pos (by omega)]; done) | (rw [if_neg (by omega), if_pos (by omega)]; done) | (rw [if_neg (by omega), if_neg (by omega), if_pos (by omega)]; done) | (rw [if_neg (by omega), if_neg (by omega), if_neg (by omega), if_pos (by omega)]; done) | (rw [if_neg (by omega), if_neg (by omega), if_neg (by omega), if_neg (by omega)])), hx2, S2f⟩
                  · refine g_aload_n hΓ rfl dX0_read_73 ?_
                    refine x_geta (r := some (P.2.1 29)) (c := 0) hE hΓ in_X0 rfl hp.1 ⟨by decide, rfl⟩ 29 (ji := 29) rfl (by decide) (by decide) rfl q275 rfl rfl (pA_r hp 29 rfl rfl) dX0_read_74 ?_
                    show gW Γ E (xM E S2 τ2 ρ2) (0 + 128 + 0) (0 + 7680 + 0) _ _ (.ref (P.2.1 29) :: _)
                    refine g_iload hΓ rfl dX0_read_77 ?_
                    refine x_iald hΓ (pA_k hp 29 rfl (n := 79) rfl) (pA_n hp 29 rfl (n := 8) rfl) ⟨by decide, rfl⟩ (by omega) (by omega) dX0_read_79 ?_
                    refine g_topi ((congrArg (fun z => z.2.2) hse)) ?_
                    refine g_goto (tgt := 84) hΓ dX0_read_80 (by decide) ?_
                    have hst : rwE σ k = (s, n) := by rw [← hv]; exact rwF_stop (by omega) _
                    exact x_iret hΓ dX0_read_84 (by omega) (by omega) ⟨ri (by rw [sp_read, if_pos hrd, hst]; simp only; first | (rw [if_pos (by omega)]; done) | (rw [if_neg (by omega), if_pos (by omega)]; done) | (rw [if_neg (by omega), if_neg (by omega), if_pos (by omega)]; done) | (rw [if_neg (by omega), if_neg (by omega), if_neg (by omega), if_pos (by omega)]; done) | (rw [if_neg (by omega), if_neg (by omega), if_neg (by omega), if_neg (by omega)])), hx2, S2f⟩
                · refine g_aload_n hΓ rfl dX0_read_58 ?_
                  refine x_geta (r := some (P.2.1 28)) (c := 0) hE hΓ in_X0 rfl hp.1 ⟨by decide, rfl⟩ 28 (ji := 28) rfl (by decide) (by decide) rfl q274 rfl rfl (pA_r hp 28 rfl rfl) dX0_read_59 ?_
                  show gW Γ E (xM E S2 τ2 ρ2) (0 + 128 + 0) (0 + 7680 + 0) _ _ (.ref (P.2.1 28) :: _)
                  refine g_iload hΓ rfl dX0_read_62 ?_
                  refine x_iald hΓ (pA_k hp 28 rfl (n := 78) rfl) (pA_n hp 28 rfl (n := 8) rfl) ⟨by decide, rfl⟩ (by omega) (by omega) dX0_read_64 ?_
                  refine g_topi ((congrArg (fun z => z.2.1) hse)) ?_
                  refine g_goto (tgt := 84) hΓ dX0_read_65 (by decide) ?_
                  have hst : rwE σ k = (s, n) := by rw [← hv]; exact rwF_stop (by omega) _
                  exact x_iret hΓ dX0_read_84 (by omega) (by omega) ⟨ri (by rw [sp_read, if_pos hrd, hst]; simp only; first | (rw [if_pos (by omega)]; done) | (rw [if_neg (by omega), if_pos (by omega)]; done) | (rw [if_neg (by omega), if_neg (by omega), if_pos (by omega)]; done) | (rw [if_neg (by omega), if_neg (by omega), if_neg (by omega), if_pos (by omega)]; done) | (rw [if_neg (by omega), if_neg (by omega), if_neg (by omega), if_neg (by omega)])), hx2, S2f⟩
              · refine g_aload_n hΓ rfl dX0_read_43 ?_
                refine x_geta (r := some (P.2.1 27)) (c := 0) hE hΓ in_X0 rfl hp.1 ⟨by decide, rfl⟩ 27 (ji := 27) rfl (by decide) (by decide) rfl q273 rfl rfl (pA_r hp 27 rfl rfl) dX0_read_44 ?_
                show gW Γ E (xM E S2 τ2 ρ2) (0 + 128 + 0) (0 + 7680 + 0) _ _ (.ref (P.2.1 27) :: _)
                refine g_iload hΓ rfl dX0_read_47 ?_
                refine x_iald hΓ (pA_k hp 27 rfl (n := 77) rfl) (pA_n hp 27 rfl (n := 8) rfl) ⟨by decide, rfl⟩ (by omega) (by omega) dX0_read_49 ?_
                refine g_topi ((congrArg (fun z => z.1.2) hse)) ?_
                refine g_goto (tgt := 84) hΓ dX0_read_50 (by decide) ?_
                have hst : rwE σ k = (s, n) := by rw [← hv]; exact rwF_stop (by omega) _
                exact x_iret hΓ dX0_read_84 (by omega) (by omega) ⟨ri (by rw [sp_read, if_pos hrd, hst]; simp only; first | (rw [if_pos (by omega)]; done) | (rw [if_neg (by omega), if_pos (by omega)]; done) | (rw [if_neg (by omega), if_neg (by omega), if_pos (by omega)]; done) | (rw [if_neg (by omega), if_neg (by omega), if_neg (by omega), if_pos (by omega)]; done) | (rw [if_neg (by omega), if_neg (by omega), if_neg (by omega), if_neg (by omega)])), hx2, S2f⟩
      refine g_iconst hΓ dX0_read_14 ?_
      refine g_istore_n hΓ dX0_read_15 rfl (Nat.le_of_ble_eq_true rfl) (lv' := [some (.ref (P.1)), some (.int (iI k)), some (.int (iI w)), some (.int (iI 0)), none]) rfl ?_
      refine g_iconst hΓ dX0_read_16 ?_
      refine g_istore hΓ dX0_read_17 rfl (Nat.le_of_ble_eq_true rfl) (lv' := [some (.ref (P.1)), some (.int (iI k)), some (.int (iI w)), some (.int (iI 0)), some (.int (iI 0))]) rfl ?_
      exact loop 9 0 0 (by omega) (by omega) rfl
    · refine g_iconst hΓ dX0_read_12 ?_
      exact x_iret hΓ dX0_read_13 (by omega) (by omega) ⟨ri (by first | exact rd_lo (by assumption) | (rw [sp_read, if_neg (by assumption)])), hx2, S2f⟩
