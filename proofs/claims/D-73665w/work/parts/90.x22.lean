set_option maxRecDepth 100000
set_option maxHeartbeats 4000000 in
theorem x_J13_bitCount {l : Launch} {E : gE} {X : State → Prop} {Z : Nat → Nat} {Y : Nat → Option Nat} (hE : E.2.1 = clsX) (hX : xOK l E X Z Y) (S : xS) (D : xD) (R : xR) (a : Int) (ha : 0 ≤ a ∧ a < 256) : xC l E X yJ13_bitCount cJ13_bitCount 1 (some .int) 0 0 0 [.int (iI a)] S D R (fun rv S' D' R' => rv = some (.int (iI (pcN a.toNat : Int))) ∧ S' = S ∧ D' = D ∧ R' = R) := by
  refine xC.ofF hX.1 (by decide +kernel) [some (.int (iI a))] (Nat.le_of_ble_eq_true rfl) rfl rfl (fun Γ hΓ => ?_)
  refine g_iload_n hΓ rfl dJ13_bitCount_0 ?_
  refine g_iload_n hΓ rfl dJ13_bitCount_1 ?_
  refine g_iconst hΓ dJ13_bitCount_2 ?_
  refine g_iushr (a := ush a 1) hΓ (iI_tI _).symm dJ13_bitCount_3 ?_
  refine g_ldcw (n := 1431655765) hΓ rfl q1058 (by decide) dJ13_bitCount_4 ?_
  refine g_iand (a := anI (ush a 1) 1431655765) hΓ (iI_tI _).symm dJ13_bitCount_7 ?_
  refine g_isub hΓ dJ13_bitCount_8 ?_
  obtain ⟨x1, ex1⟩ : ∃ z9 : Int, z9 = a - (anI (ush a 1) 1431655765) := ⟨_, rfl⟩
  refine g_topi ex1.symm ?_
  refine g_istore_n hΓ dJ13_bitCount_9 rfl (Nat.le_of_ble_eq_true rfl) (lv' := [some (.int (iI x1))]) rfl ?_
  refine g_iload_n hΓ rfl dJ13_bitCount_10 ?_
  refine g_ldcw (n := 858993459) hΓ rfl q1059 (by decide) dJ13_bitCount_11 ?_
  refine g_iand (a := anI x1 858993459) hΓ (iI_tI _).symm dJ13_bitCount_14 ?_
  refine g_iload_n hΓ rfl dJ13_bitCount_15 ?_
  refine g_iconst hΓ dJ13_bitCount_16 ?_
  refine g_iushr (a := ush x1 2) hΓ (iI_tI _).symm dJ13_bitCount_17 ?_
  refine g_ldcw (n := 858993459) hΓ rfl q1059 (by decide) dJ13_bitCount_18 ?_
  refine g_iand (a := anI (ush x1 2) 858993459) hΓ (iI_tI _).symm dJ13_bitCount_21 ?_
  refine g_iadd hΓ dJ13_bitCount_22 ?_
  obtain ⟨x2, ex2⟩ : ∃ z9 : Int, z9 = (anI x1 858993459) + (anI (ush x1 2) 858993459) := ⟨_, rfl⟩
  refine g_topi ex2.symm ?_
  refine g_istore_n hΓ dJ13_bitCount_23 rfl (Nat.le_of_ble_eq_true rfl) (lv' := [some (.int (iI x2))]) rfl ?_
  refine g_iload_n hΓ rfl dJ13_bitCount_24 ?_
  refine g_iload_n hΓ rfl dJ13_bitCount_25 ?_
  refine g_iconst hΓ dJ13_bitCount_26 ?_
  refine g_iushr (a := ush x2 4) hΓ (iI_tI _).symm dJ13_bitCount_27 ?_
  refine g_iadd hΓ dJ13_bitCount_28 ?_
  refine g_ldcw (n := 252645135) hΓ rfl q1060 (by decide) dJ13_bitCount_29 ?_
  refine g_iand (a := anI (x2 + (ush x2 4)) 252645135) hΓ (iI_tI _).symm dJ13_bitCount_32 ?_
  obtain ⟨x3, ex3⟩ : ∃ z9 : Int, z9 = anI (x2 + (ush x2 4)) 252645135 := ⟨_, rfl⟩
  refine g_topi ex3.symm ?_
  refine g_istore_n hΓ dJ13_bitCount_33 rfl (Nat.le_of_ble_eq_true rfl) (lv' := [some (.int (iI x3))]) rfl ?_
  refine g_iload_n hΓ rfl dJ13_bitCount_34 ?_
  refine g_iload_n hΓ rfl dJ13_bitCount_35 ?_
  refine g_bipush hΓ (by decide) dJ13_bitCount_36 ?_
  refine g_iushr (a := ush x3 8) hΓ (iI_tI _).symm dJ13_bitCount_38 ?_
  refine g_iadd hΓ dJ13_bitCount_39 ?_
  obtain ⟨x4, ex4⟩ : ∃ z9 : Int, z9 = x3 + (ush x3 8) := ⟨_, rfl⟩
  refine g_topi ex4.symm ?_
  refine g_istore_n hΓ dJ13_bitCount_40 rfl (Nat.le_of_ble_eq_true rfl) (lv' := [some (.int (iI x4))]) rfl ?_
  refine g_iload_n hΓ rfl dJ13_bitCount_41 ?_
  refine g_iload_n hΓ rfl dJ13_bitCount_42 ?_
  refine g_bipush hΓ (by decide) dJ13_bitCount_43 ?_
  refine g_iushr (a := ush x4 16) hΓ (iI_tI _).symm dJ13_bitCount_45 ?_
  refine g_iadd hΓ dJ13_bitCount_46 ?_
  obtain ⟨x5, ex5⟩ : ∃ z9 : Int, z9 = x4 + (ush x4 16) := ⟨_, rfl⟩
  refine g_topi ex5.symm ?_
  refine g_istore_n hΓ dJ13_bitCount_47 rfl (Nat.le_of_ble_eq_true rfl) (lv' := [some (.int (iI x5))]) rfl ?_
  refine g_iload_n hΓ rfl dJ13_bitCount_48 ?_
  refine g_bipush hΓ (by decide) dJ13_bitCount_49 ?_
  refine g_iand (a := anI x5 63) hΓ (iI_tI _).symm dJ13_bitCount_51 ?_
  exact x_iret hΓ dJ13_bitCount_52 (Nat.zero_le _) (Nat.zero_le _) ⟨ri (by have h9 := bc_ok a.toNat (by omega); rw [show ((a.toNat : Nat) : Int) = a by omega] at h9; rw [← h9]; subst_vars; rfl), rfl, rfl, rfl⟩
set_option maxHeartbeats 4000000 in
theorem x_pairsS {l : Launch} {E : gE} {X : State → Prop} {Z : Nat → Nat} {Y : Nat → Option Nat} (hE : E.2.1 = clsX) (hX : xOK l E X Z Y) (S : xS) (D : xD) (R : xR) (r : Nat) (P : xPk) (σ : mS) (i nA nB sum lo u w sA sB : Int) (T : Nat) (hleA : letS σ sA nA) (hleB : letS σ sB nB) (hw : 0 ≤ w ∧ w ≤ 16) (hlo : 0 ≤ lo ∧ lo ≤ 99) (hu : 0 ≤ u ∧ u ≤ 99) (ih : ∀ r' : Nat, r = r' + 1 → ∀ (D : xD) (i sum : Int) (T : Nat), (Rx E Z S D R P σ) → (r' = (nA - i).toNat) → (0 ≤ i ∧ i ≤ nA) → (T < 2 ^ nB.toNat) → (0 ≤ sum ∧ sum ≤ 200 * i) → (0 ≤ D P.1 22 ∧ D P.1 22 ≤ 100000) → (cosT P D σ sA nA sB nB w) → xC l E X yX0_pairs cX0_pairs 9 none (r' + 2) 0 0 [.ref P.1, .int (iI i), .int (iI nA), .int (iI nB), .int (iI (frN nB.toNat T)), .int (iI sum), .int (iI lo), .int (iI u)] S D R (fun rv S' D' R' => rv = none ∧ (Rx E Z S D' R P σ ∧ cosT P D' σ sA nA sB nB w ∧ prQ (pcst σ sA nA sB nB w u) lo nB.toNat nA.toNat i T sum (D P.1 22) (D (P.2.1 18)) (D (P.2.1 19)) (D' P.1 22) (D' (P.2.1 18)) (D' (P.2.1 19))) ∧ S' = S ∧ fr S D D' [1022, 68, 69] ∧ R' = R)) (hx : Rx E Z S D R P σ) (hr : r = (nA - i).toNat) (hi : 0 ≤ i ∧ i ≤ nA) (hT : T < 2 ^ nB.toNat) (hsum : 0 ≤ sum ∧ sum ≤ 200 * i) (hB : 0 ≤ D P.1 22 ∧ D P.1 22 ≤ 100000) (hcos : cosT P D σ sA nA sB nB w) : xC l E X yX0_pairs cX0_pairs 9 none (r + 2) 0 0 [.ref (P.1), .int (iI i), .int (iI nA), .int (iI nB), .int (iI (frN nB.toNat T)), .int (iI sum), .int (iI lo), .int (iI u)] S D R (fun rv S' D' R' => rv = none ∧ (Rx E Z S D' R P σ ∧ cosT P D' σ sA nA sB nB w ∧ prQ (pcst σ sA nA sB nB w u) lo nB.toNat nA.toNat i T sum (D P.1 22) (D (P.2.1 18)) (D (P.2.1 19)) (D' P.1 22) (D' (P.2.1 18)) (D' (P.2.1 19))) ∧ S' = S ∧ fr S D D' [1022, 68, 69] ∧ R' = R) := by
  refine xC.of hX.1 (by decide) [some (.ref (P.1)), some (.int (iI i)), some (.int (iI nA)), some (.int (iI nB)), some (.int (iI (frN nB.toNat T))), some (.int (iI sum)), some (.int (iI lo)), some (.int (iI u)), none] (Nat.le_of_ble_eq_true rfl) rfl rfl (fun Γ hΓ => ?_)
  obtain ⟨hg, hp, hki, hro, hnw, hbh, hsa, hpd⟩ := id hx
  obtain ⟨N, NI, NM, NV, hN⟩ := (hx).now
  have hAw := hg.2.2.2.2.2.2
  have hG : GS S D R := hg.1
  obtain ⟨h1000, h1009, h1042, h1043, h1044, h1045, h1046, h1047, hms, hsi, hsm, hnm⟩ := id hro
  have eN := hN.2.2.2.2.2.2.2.2.2.2.2.2
  have kNV : (S NV).1 = 45 := by rw [hN.2.2.2.1.2]
  have nNV : (S NV).2.1 = 6 := by rw [hN.2.2.2.1.2]
  have hmA0 := hleA.2.1
  have hmA8 := hleA.2.2.1
  have hmB0 := hleB.2.1
  have hmB8 := hleB.2.2.1
  have hfr := frN_r nB.toNat (by omega) T hT
  have hbs := fun (r9 : Nat) (h9 : r9 ≤ nA.toNat) (T9 : Nat) (hT9 : T9 < 2 ^ nB.toNat) => bsF_b (c := (pcst σ sA nA sB nB w u)) hlo (by omega) (by omega) (fun i j a1 a2 a3 a4 => (pcst_r h1042 h1047 hw.1 hu.1 hleA hleB a1 (by omega) a3 (by omega)).1) r9 h9 T9 hT9
  have hpc := pcN_in nB.toNat (by omega) T hT
  have hml := mul_b (a := lo) (b := ((nB.toNat : Nat) : Int) - (pcN T : Int)) (A := 99) (B := 8) (by omega) (by omega) (by omega) (by omega)
  have hmn : 0 ≤ lo * (((nB.toNat : Nat) : Int) - (pcN T : Int)) := Int.mul_nonneg (by omega) (by omega)
  refine g_iload_n hΓ rfl dX0_pairs_0 ?_
  refine g_iload_n hΓ rfl dX0_pairs_1 ?_
  refine g_icmp_ne (tgt := 49) hΓ (by omega) (by omega) dX0_pairs_2 (by decide) (fun c1 => ?_) (fun c1 => ?_)
  · obtain ⟨r9, hr9⟩ : ∃ r9 : Nat, r = r9 + 1 := ⟨r - 1, by omega⟩
    have loop : ∀ (fu : Nat) (t : xD) (j : Int), (nB - j).toNat < fu → (Rx E Z S t R P σ) → (fr S D t [1022, 68, 69]) → (cosT P t σ sA nA sB nB w) → (0 ≤ j ∧ j ≤ nB) → (0 ≤ t P.1 22 ∧ t P.1 22 ≤ 100000) → (prI (pcst σ sA nA sB nB w u) lo nB.toNat nA.toNat i T sum (D P.1 22) (D (P.2.1 18)) (D (P.2.1 19)) j.toNat (t P.1 22) (t (P.2.1 18)) (t (P.2.1 19))) → gW Γ E (xM E S t R) 0 0 52 [some (.ref (P.1)), some (.int (iI i)), some (.int (iI nA)), some (.int (iI nB)), some (.int (iI (frN nB.toNat T))), some (.int (iI sum)), some (.int (iI lo)), some (.int (iI u)), some (.int (iI j))] [] := by
      intro fu
      induction fu with
      | zero => intro t j hn; exact absurd hn (Nat.not_lt_zero _)
      | succ fu ih_loop =>
        intro t j hn hx1 ht hc1 hj hB1 hI
        obtain ⟨hg, hp, hki, hro, hnw, hbh, hsa, hpd⟩ := id hx1
        obtain ⟨N, NI, NM, NV, hN⟩ := (hx1).now
        have hAw := hg.2.2.2.2.2.2
        have hG : GS S t R := hg.1
        obtain ⟨h1000, h1009, h1042, h1043, h1044, h1045, h1046, h1047, hms, hsi, hsm, hnm⟩ := id hro
        have eN := hN.2.2.2.2.2.2.2.2.2.2.2.2
        have kNV : (S NV).1 = 45 := by rw [hN.2.2.2.1.2]
        have nNV : (S NV).2.1 = 6 := by rw [hN.2.2.2.1.2]
        refine g_iload hΓ rfl dX0_pairs_52 ?_
        refine g_iload_n hΓ rfl dX0_pairs_54 ?_
        refine g_icmp_ge (tgt := 154) hΓ (by omega) (by omega) dX0_pairs_55 (by decide) (fun c2 => ?_) (fun c2 => ?_)
        · refine g_aload_n hΓ rfl dX0_pairs_154 ?_
          refine x_geta (r := some (P.2.1 18)) (c := 0) hE hΓ in_X0 rfl hp.1 ⟨by decide, rfl⟩ 18 (ji := 18) rfl (by decide) (by decide) rfl q264 rfl rfl (pA_r hp 18 rfl rfl) dX0_pairs_155 ?_
          show gW Γ E (xM E S t R) 0 0 _ _ (.ref (P.2.1 18) :: _)
          refine g_iload_n hΓ rfl dX0_pairs_158 ?_
          refine g_iconst hΓ dX0_pairs_159 ?_
          refine x_iast hΓ (pA_k hp 18 rfl (n := 68) rfl) (pA_n hp 18 rfl (n := 8) rfl) ⟨by decide, rfl⟩ (hAw _ (by rw [(pA_k hp 18 rfl (n := 68) rfl)]; rfl)) (by omega) (by omega) dX0_pairs_160 (fun τ3 τ3e => ?_)
          have τ3r : τ3 (P.2.1 18) i = (-1) := by rw [τ3e]; exact us_s _ _ _ _
          have τ3f : ∀ (q9 : Nat) (j9 : Int), (q9 ≠ (P.2.1 18) ∨ j9 ≠ i) → τ3 q9 j9 = t q9 j9 := fun q9 j9 hh => by rw [τ3e]; exact us_n hh
          have hfD4 : fr S t τ3 [68] := (fun q9 j9 hk9 => by exact (τ3f q9 j9 (Or.inl (fun e9 => hk9 (by rw [e9, (pA_k hp 18 rfl (n := 68) rfl), mdN _ (by decide)]; decide)))))
          have hxs4 : Rx E Z S τ3 R P σ := Rx_scr hx1 (fr_w hfD4 (by decide)) fr_rfl (GS_fr (hx1).1.1 hfD4 fr_rfl (m' := []) (by decide) (by decide))
          have e22 : τ3 P.1 22 = t P.1 22 := (τ3f (P.1) 22 (Or.inl (ne_k hp.1 (pA_k hp 18 rfl (n := 68) rfl) (by decide))))
          have e19 : τ3 (P.2.1 19) = t (P.2.1 19) := fr_row hfD4 (pA_k hp 19 rfl (n := 69) rfl) (by decide) (by decide)
          have hca : cosT P τ3 σ sA nA sB nB w := cosT_fr hp (by omega) hc1 (fun q9 k9 h9 => hfD4 q9 k9 (by rcases h9 with h9 | h9 | h9 <;> rw [h9, mdN _ (by decide)] <;> decide))
          have hBa : 0 ≤ τ3 P.1 22 ∧ τ3 P.1 22 ≤ 100000 := by rw [e22]; exact hB1
          refine g_aload_n hΓ rfl dX0_pairs_161 ?_
          refine g_iload_n hΓ rfl dX0_pairs_162 ?_
          refine g_iconst hΓ dX0_pairs_163 ?_
          refine g_iadd hΓ dX0_pairs_164 ?_
          refine g_iload_n hΓ rfl dX0_pairs_165 ?_
          refine g_iload_n hΓ rfl dX0_pairs_166 ?_
          refine g_iload hΓ rfl dX0_pairs_167 ?_
          refine g_iload hΓ rfl dX0_pairs_169 ?_
          refine g_iload hΓ rfl dX0_pairs_171 ?_
          refine g_iadd hΓ dX0_pairs_173 ?_
          refine g_iload hΓ rfl dX0_pairs_174 ?_
          refine g_iload hΓ rfl dX0_pairs_176 ?_
          refine x_callV (As := [.int (iI (i + 1)), .int (iI nA), .int (iI nB), .int (iI (frN nB.toNat T)), .int (iI (sum + lo)), .int (iI lo), .int (iI u)]) (rest := []) (c := 0) hE hΓ ((fun (_ : E.2.1 = clsX) (_ : xOK l E X Z Y) (_ : xS) (D9 : xD) (_ : xR) => ih _ hr9 D9) hE hX S τ3 R (i + 1) (sum + lo) T hxs4 (by omega) (by omega) hT (by omega) hBa hca ) hp.1 ⟨by decide, rfl⟩ rfl rfl q1051 q1053 qs36 q123 q1054 ndX0_pairs rfl (by omega) (by decide) (Nat.zero_le _) (Nat.zero_le _) rfl (Nat.le_of_ble_eq_true rfl) dX0_pairs_178 rfl (fun v5 S5 τ5 ρ5 h5 => ?_)
          obtain ⟨rfl, h5, S5e, τ5f, ρ5e⟩ := h5
          have S5e := S5e.symm; subst S5e
          have ρ5e := ρ5e.symm; subst ρ5e
          have hQ9 := h5.2.2
          rw [e22, e19] at hQ9
          have hI9 := hI
          rw [show j.toNat = nB.toNat by omega] at hI9
          exact x_vret hΓ dX0_pairs_181 (Nat.zero_le _) (Nat.zero_le _) ⟨rfl, ⟨h5.1, h5.2.1, prI_end (by omega) (by omega) (by have h9 := hbs ((nA.toNat : Int) - (i + 1)).toNat (by omega) T hT; omega) hI9 (fun k9 x9 y9 => τ3f _ _ (Or.inr (by omega))) τ3r hQ9⟩, rfl, fr_t ht (fun q9 j9 hk9 => by exact ((τ5f q9 j9 (fun e9 => hk9 ((show ∀ x ∈ [1022, 68, 69], x ∈ [1022, 68, 69] by decide) _ e9))).trans (τ3f q9 j9 (Or.inl (fun e9 => hk9 (by rw [e9, (pA_k hp 18 rfl (n := 68) rfl), mdN _ (by decide)]; decide)))))), rfl⟩
        · refine g_iload hΓ rfl dX0_pairs_58 ?_
          refine g_iload hΓ rfl dX0_pairs_60 ?_
          refine g_ishr (a := frN nB.toNat T / 2 ^ j.toNat) hΓ (bsh (by omega) (by omega) (by omega)) dX0_pairs_62 ?_
          refine g_iconst hΓ dX0_pairs_63 ?_
          refine g_iand (a := (if (frN nB.toNat T).toNat.testBit j.toNat = true then 1 else 0)) hΓ (an_tbI (by omega) _) dX0_pairs_64 ?_
          refine g_ifB_ne (tgt := 71) hΓ  dX0_pairs_65 (by decide) (fun c6 => ?_) (fun c6 => ?_)
          · have h8 : (frN nB.toNat T).toNat.testBit j.toNat = true := by assumption
            have hbt : T.testBit j.toNat = false := by
              have h9 := frN_tb nB.toNat (by omega) T hT j.toNat (by omega)
              rw [h8] at h9
              cases hh : T.testBit j.toNat
              · rfl
              · rw [hh] at h9; cases h9
            have he0 := els_64 h1042 (sA + i) (sB + j) 0 hw.1
            have he1 := els_64 h1042 (sA + i) (sB + j) 1 hw.1
            have hpr := pcst_r h1042 h1047 hw.1 hu.1 hleA hleB (i := i) (j := j) (by omega) (by omega) (by omega) (by omega)
            refine g_aload_n hΓ rfl dX0_pairs_71 ?_
            refine x_geta (r := some (P.2.1 18)) (c := 0) hE hΓ in_X0 rfl hp.1 ⟨by decide, rfl⟩ 18 (ji := 18) rfl (by decide) (by decide) rfl q264 rfl rfl (pA_r hp 18 rfl rfl) dX0_pairs_72 ?_
            show gW Γ E (xM E S t R) 0 0 _ _ (.ref (P.2.1 18) :: _)
            refine g_iload_n hΓ rfl dX0_pairs_75 ?_
            refine g_iload hΓ rfl dX0_pairs_76 ?_
            refine x_iast hΓ (pA_k hp 18 rfl (n := 68) rfl) (pA_n hp 18 rfl (n := 8) rfl) ⟨by decide, rfl⟩ (hAw _ (by rw [(pA_k hp 18 rfl (n := 68) rfl)]; rfl)) (by omega) (by omega) dX0_pairs_78 (fun τ7 τ7e => ?_)
            have τ7r : τ7 (P.2.1 18) i = j := by rw [τ7e]; exact us_s _ _ _ _
            have τ7f : ∀ (q9 : Nat) (j9 : Int), (q9 ≠ (P.2.1 18) ∨ j9 ≠ i) → τ7 q9 j9 = t q9 j9 := fun q9 j9 hh => by rw [τ7e]; exact us_n hh
            have hfD8 : fr S t τ7 [68] := (fun q9 j9 hk9 => by exact (τ7f q9 j9 (Or.inl (fun e9 => hk9 (by rw [e9, (pA_k hp 18 rfl (n := 68) rfl), mdN _ (by decide)]; decide)))))
            have hxs8 : Rx E Z S τ7 R P σ := Rx_scr hx1 (fr_w hfD8 (by decide)) fr_rfl (GS_fr (hx1).1.1 hfD8 fr_rfl (m' := []) (by decide) (by decide))
            have e22 : τ7 P.1 22 = t P.1 22 := (τ7f (P.1) 22 (Or.inl (ne_k hp.1 (pA_k hp 18 rfl (n := 68) rfl) (by decide))))
            have e19 : τ7 (P.2.1 19) = t (P.2.1 19) := fr_row hfD8 (pA_k hp 19 rfl (n := 69) rfl) (by decide) (by decide)
            have hca : cosT P τ7 σ sA nA sB nB w := cosT_fr hp (by omega) hc1 (fun q9 k9 h9 => hfD8 q9 k9 (by rcases h9 with h9 | h9 | h9 <;> rw [h9, mdN _ (by decide)] <;> decide))
            have hBa : 0 ≤ τ7 P.1 22 ∧ τ7 P.1 22 ≤ 100000 := by rw [e22]; exact hB1
            refine g_aload_n hΓ rfl dX0_pairs_79 ?_
            refine g_iload_n hΓ rfl dX0_pairs_80 ?_
            refine g_iconst hΓ dX0_pairs_81 ?_
            refine g_iadd hΓ dX0_pairs_82 ?_
            refine g_iload_n hΓ rfl dX0_pairs_83 ?_
            refine g_iload_n hΓ rfl dX0_pairs_84 ?_
            refine g_iload hΓ rfl dX0_pairs_85 ?_
            refine g_iconst hΓ dX0_pairs_87 ?_
            refine g_iload hΓ rfl dX0_pairs_88 ?_
            refine g_ishl (a := ((2 ^ j.toNat : Nat) : Int)) hΓ (sh_1 (by omega) (by omega)) dX0_pairs_90 ?_
            refine g_iconst hΓ dX0_pairs_91 ?_
            refine g_ixor (a := (-((2 ^ j.toNat : Nat) : Int) - 1)) hΓ (xo_1 _ (by omega)) dX0_pairs_92 ?_
            refine g_iand (a := frN nB.toNat (T ||| 2 ^ j.toNat)) hΓ (frN_an _ (by omega) _ hT _ (by omega) hbt) dX0_pairs_93 ?_
            refine g_iload hΓ rfl dX0_pairs_94 ?_
            refine g_aload_n hΓ rfl dX0_pairs_96 ?_
            refine x_geta (r := some (P.2.1 15)) (c := 0) hE hΓ in_X0 rfl hp.1 ⟨by decide, rfl⟩ 15 (ji := 15) rfl (by decide) (by decide) rfl q261 rfl rfl (pA_r hp 15 rfl rfl) dX0_pairs_97 ?_
            show gW Γ E (xM E S τ7 R) 0 0 _ _ (.ref (P.2.1 15) :: _)
            refine g_iload_n hΓ rfl dX0_pairs_100 ?_
            refine x_aaldG (r := some (P.2.2 15 i)) hΓ (pA_k hp 15 rfl (n := 65) rfl) (pA_n hp 15 rfl (n := 8) rfl) ⟨by decide, rfl⟩ (by omega) (by omega) (pG_r hp 15 rfl (n := 8) rfl (i := i) (by omega)) dX0_pairs_101 ?_
            show gW Γ E (xM E S τ7 R) 0 0 _ _ (.ref (P.2.2 15 i) :: _)
            refine g_iload hΓ rfl dX0_pairs_102 ?_
            refine x_iald hΓ (pG_k hp 15 rfl (n := 8) rfl (i := i) (by omega) (m := 115) rfl) (pG_n hp 15 rfl (n := 8) rfl (i := i) (by omega) (m := 8) rfl) ⟨by decide, rfl⟩ (by omega) (by omega) dX0_pairs_104 ?_
            refine g_topi (((τ7f (P.2.2 15 i) j (Or.inl (ne_k (pG_k hp 15 rfl (n := 8) rfl (i := i) (by omega) (m := 115) rfl) (pA_k hp 18 rfl (n := 68) rfl) (by decide)))).trans (hc1 i j (by omega) (by omega) (by omega) (by omega)).1)) ?_
            refine g_aload_n hΓ rfl dX0_pairs_105 ?_
            refine x_geta (r := some (P.2.1 16)) (c := 0) hE hΓ in_X0 rfl hp.1 ⟨by decide, rfl⟩ 16 (ji := 16) rfl (by decide) (by decide) rfl q262 rfl rfl (pA_r hp 16 rfl rfl) dX0_pairs_106 ?_
            show gW Γ E (xM E S τ7 R) 0 0 _ _ (.ref (P.2.1 16) :: _)
            refine g_iload_n hΓ rfl dX0_pairs_109 ?_
            refine x_aaldG (r := some (P.2.2 16 i)) hΓ (pA_k hp 16 rfl (n := 66) rfl) (pA_n hp 16 rfl (n := 8) rfl) ⟨by decide, rfl⟩ (by omega) (by omega) (pG_r hp 16 rfl (n := 8) rfl (i := i) (by omega)) dX0_pairs_110 ?_
            show gW Γ E (xM E S τ7 R) 0 0 _ _ (.ref (P.2.2 16 i) :: _)
            refine g_iload hΓ rfl dX0_pairs_111 ?_
            refine x_iald hΓ (pG_k hp 16 rfl (n := 8) rfl (i := i) (by omega) (m := 116) rfl) (pG_n hp 16 rfl (n := 8) rfl (i := i) (by omega) (m := 8) rfl) ⟨by decide, rfl⟩ (by omega) (by omega) dX0_pairs_113 ?_
            refine g_topi (((τ7f (P.2.2 16 i) j (Or.inl (ne_k (pG_k hp 16 rfl (n := 8) rfl (i := i) (by omega) (m := 116) rfl) (pA_k hp 18 rfl (n := 68) rfl) (by decide)))).trans (hc1 i j (by omega) (by omega) (by omega) (by omega)).2.1)) ?_
            refine g_iload hΓ rfl dX0_pairs_114 ?_
            refine g_iadd hΓ dX0_pairs_116 ?_
            refine x_callS (As := [.int (iI (els σ (sA + i) (sB + j) 0 w)), .int (iI ((els σ (sA + i) (sB + j) 1 w) + u))]) (rest := [.int (iI sum), .int (iI (frN nB.toNat (T ||| 2 ^ j.toNat))), .int (iI nB), .int (iI nA), .int (iI (i + 1)), .ref (P.1)]) hΓ (x_J3_min hE hX S τ7 R (els σ (sA + i) (sB + j) 0 w) ((els σ (sA + i) (sB + j) 1 w) + u) (by first | assumption | omega) (by first | assumption | omega)) rfl q222 q223 q129 q224 ndJ3_min rfl (by omega) (by decide) (Nat.zero_le _) (Nat.zero_le _) rfl (Nat.le_of_ble_eq_true rfl) dX0_pairs_117 rfl (fun v9 S9 τ9 ρ9 h9 => ?_)
            obtain ⟨rfl, S9e, τ9e, ρ9e⟩ := h9
            have S9e := S9e.symm; subst S9e
            have τ9e := τ9e.symm; subst τ9e
            have ρ9e := ρ9e.symm; subst ρ9e
            show gW Γ E (xM E S τ7 R) _ _ _ _ (.int (iI (min (els σ (sA + i) (sB + j) 0 w) ((els σ (sA + i) (sB + j) 1 w) + u))) :: _)
            refine g_iadd hΓ dX0_pairs_120 ?_
            refine g_aload_n hΓ rfl dX0_pairs_121 ?_
            refine x_geta (r := some N) (c := 0) hE hΓ in_X0 rfl hp.1 ⟨by decide, rfl⟩ 4 (ji := 4) rfl (by decide) (by decide) rfl q250 rfl rfl hN.1.1 dX0_pairs_122 ?_
            show gW Γ E (xM E S τ7 R) 0 0 _ _ (.ref N :: _)
            refine x_geta (r := some NV) (c := 1) hE hΓ in_X1 rfl hN.1.2 ⟨by decide, rfl⟩ 2 (ji := 2) rfl (by decide) (by decide) rfl q203 rfl rfl hN.2.2.2.1.1 dX0_pairs_125 ?_
            show gW Γ E (xM E S τ7 R) 0 0 _ _ (.ref NV :: _)
            refine g_iconst hΓ dX0_pairs_128 ?_
            refine x_iald hΓ kNV nNV ⟨by decide, rfl⟩ (by omega) (by omega) dX0_pairs_129 ?_
            refine g_topi (((τ7f NV 5 (Or.inl (ne_k kNV (pA_k hp 18 rfl (n := 68) rfl) (by decide)))).trans hN.2.2.2.2.2.2.2.2.2.2.2.1)) ?_
            refine g_aload_n hΓ rfl dX0_pairs_130 ?_
            refine x_geta (r := some (P.2.1 17)) (c := 0) hE hΓ in_X0 rfl hp.1 ⟨by decide, rfl⟩ 17 (ji := 17) rfl (by decide) (by decide) rfl q263 rfl rfl (pA_r hp 17 rfl rfl) dX0_pairs_131 ?_
            show gW Γ E (xM E S τ7 R) 0 0 _ _ (.ref (P.2.1 17) :: _)
            refine g_iload_n hΓ rfl dX0_pairs_134 ?_
            refine x_aaldG (r := some (P.2.2 17 i)) hΓ (pA_k hp 17 rfl (n := 67) rfl) (pA_n hp 17 rfl (n := 8) rfl) ⟨by decide, rfl⟩ (by omega) (by omega) (pG_r hp 17 rfl (n := 8) rfl (i := i) (by omega)) dX0_pairs_135 ?_
            show gW Γ E (xM E S τ7 R) 0 0 _ _ (.ref (P.2.2 17 i) :: _)
            refine g_iload hΓ rfl dX0_pairs_136 ?_
            refine x_iald hΓ (pG_k hp 17 rfl (n := 8) rfl (i := i) (by omega) (m := 117) rfl) (pG_n hp 17 rfl (n := 8) rfl (i := i) (by omega) (m := 8) rfl) ⟨by decide, rfl⟩ (by omega) (by omega) dX0_pairs_138 ?_
            refine g_topi (((τ7f (P.2.2 17 i) j (Or.inl (ne_k (pG_k hp 17 rfl (n := 8) rfl (i := i) (by omega) (m := 117) rfl) (pA_k hp 18 rfl (n := 68) rfl) (by decide)))).trans (hc1 i j (by omega) (by omega) (by omega) (by omega)).2.2)) ?_
            refine g_imul hΓ dX0_pairs_139 ?_
            refine g_iadd hΓ dX0_pairs_140 ?_
            refine g_topi (show ((sum + (min (els σ (sA + i) (sB + j) 0 w) ((els σ (sA + i) (sB + j) 1 w) + u))) + ((σ 0 1047) * (cll σ sA nA sB nB i j)) : Int) = sum + pcst σ sA nA sB nB w u i j by rw [pcst]; omega) ?_
            refine g_iload hΓ rfl dX0_pairs_141 ?_
            refine g_iload hΓ rfl dX0_pairs_143 ?_
            refine x_callV (As := [.int (iI (i + 1)), .int (iI nA), .int (iI nB), .int (iI (frN nB.toNat (T ||| 2 ^ j.toNat))), .int (iI (sum + pcst σ sA nA sB nB w u i j)), .int (iI lo), .int (iI u)]) (rest := []) (c := 0) hE hΓ ((fun (_ : E.2.1 = clsX) (_ : xOK l E X Z Y) (_ : xS) (D9 : xD) (_ : xR) => ih _ hr9 D9) hE hX S τ7 R (i + 1) (sum + pcst σ sA nA sB nB w u i j) (T ||| 2 ^ j.toNat) hxs8 (by omega) (by omega) (or_lt hT (by omega)) (by omega) hBa hca ) hp.1 ⟨by decide, rfl⟩ rfl rfl q1051 q1053 qs36 q123 q1054 ndX0_pairs rfl (by omega) (by decide) (Nat.zero_le _) (Nat.zero_le _) rfl (Nat.le_of_ble_eq_true rfl) dX0_pairs_145 rfl (fun v10 S10 τ10 ρ10 h10 => ?_)
            obtain ⟨rfl, h10, S10e, τ10f, ρ10e⟩ := h10
            have S10e := S10e.symm; subst S10e
            have ρ10e := ρ10e.symm; subst ρ10e
            obtain ⟨x11, ex11⟩ : ∃ z9 : Int, z9 = j + 1 := ⟨_, rfl⟩
            refine g_iinc hΓ dX0_pairs_148 rfl rfl (lv' := [some (.ref (P.1)), some (.int (iI i)), some (.int (iI nA)), some (.int (iI nB)), some (.int (iI (frN nB.toNat T))), some (.int (iI sum)), some (.int (iI lo)), some (.int (iI u)), some (.int (iI x11))]) (by rw [ex11]; rfl) ?_
            refine g_goto (tgt := 52) hΓ dX0_pairs_151 (by decide) ?_
            have hQ9 := h10.2.2
            rw [e22, e19] at hQ9
            have ej : ((j.toNat : Nat) : Int) = j := by omega
            exact ih_loop τ10 x11 (by omega) h10.1 (fr_t ht (fun q9 j9 hk9 => by exact ((τ10f q9 j9 (fun e9 => hk9 ((show ∀ x ∈ [1022, 68, 69], x ∈ [1022, 68, 69] by decide) _ e9))).trans (τ7f q9 j9 (Or.inl (fun e9 => hk9 (by rw [e9, (pA_k hp 18 rfl (n := 68) rfl), mdN _ (by decide)]; decide))))))) h10.2.1 (by omega) (prQ_B hQ9 (by omega) hB1 (hbs _ (by omega) _ (or_lt hT (by omega))).1) (by rw [show x11.toNat = j.toNat + 1 by omega]; exact prI_take (by omega) (by omega) hI (by rw [hbt]; decide) (fun k9 x9 y9 => τ7f _ _ (Or.inr (by omega))) (by rw [ej]; exact τ7r) (by rw [ej]; exact hQ9))
          · have h8 : ¬ (frN nB.toNat T).toNat.testBit j.toNat = true := by assumption
            have hbt : T.testBit j.toNat = true := by
              have h9 := frN_tb nB.toNat (by omega) T hT j.toNat (by omega)
              cases hh : T.testBit j.toNat
              · rw [hh] at h9; exact absurd h9 h8
              · rfl
            refine g_goto (tgt := 148) hΓ dX0_pairs_68 (by decide) ?_
            obtain ⟨x12, ex12⟩ : ∃ z9 : Int, z9 = j + 1 := ⟨_, rfl⟩
            refine g_iinc hΓ dX0_pairs_148 rfl rfl (lv' := [some (.ref (P.1)), some (.int (iI i)), some (.int (iI nA)), some (.int (iI nB)), some (.int (iI (frN nB.toNat T))), some (.int (iI sum)), some (.int (iI lo)), some (.int (iI u)), some (.int (iI x12))]) (by rw [ex12]; rfl) ?_
            refine g_goto (tgt := 52) hΓ dX0_pairs_151 (by decide) ?_
            exact ih_loop t x12 (by omega) hx1 ht hc1 (by omega) hB1 (by rw [show x12.toNat = j.toNat + 1 by omega]; exact prI_skip hI hbt)
    refine g_iconst hΓ dX0_pairs_49 ?_
    refine g_istore hΓ dX0_pairs_50 rfl (Nat.le_of_ble_eq_true rfl) (lv' := [some (.ref (P.1)), some (.int (iI i)), some (.int (iI nA)), some (.int (iI nB)), some (.int (iI (frN nB.toNat T))), some (.int (iI sum)), some (.int (iI lo)), some (.int (iI u)), some (.int (iI 0))]) rfl ?_
    exact loop 9 D 0 (by omega) hx fr_rfl hcos (by omega) hB (prI_0 (by omega) hB.2)
  · refine g_iload hΓ rfl dX0_pairs_5 ?_
    refine g_iload hΓ rfl dX0_pairs_7 ?_
    refine g_iload hΓ rfl dX0_pairs_9 ?_
    refine x_callS (As := [.int (iI (frN nB.toNat T))]) (rest := [.int (iI lo), .int (iI sum)]) hΓ (x_J13_bitCount hE hX S D R (frN nB.toNat T) (by first | assumption | omega)) rfl q1055 q1056 q146 q1057 ndJ13_bitCount rfl (by omega) (by decide) (Nat.zero_le _) (Nat.zero_le _) rfl (Nat.le_of_ble_eq_true rfl) dX0_pairs_11 rfl (fun v13 S13 τ13 ρ13 h13 => ?_)
    obtain ⟨rfl, S13e, τ13e, ρ13e⟩ := h13
    have S13e := S13e.symm; subst S13e
    have τ13e := τ13e.symm; subst τ13e
    have ρ13e := ρ13e.symm; subst ρ13e
    show gW Γ E (xM E S D R) _ _ _ _ (.int (iI (pcN (frN nB.toNat T).toNat : Int)) :: _)
    refine g_topi (show ((pcN (frN nB.toNat T).toNat : Int) : Int) = (((nB.toNat : Nat) : Int) - (pcN T : Int)) from frN_pc _ (by omega) _ hT) ?_
    refine g_imul hΓ dX0_pairs_14 ?_
    refine g_iadd hΓ dX0_pairs_15 ?_
    obtain ⟨x14, ex14⟩ : ∃ z9 : Int, z9 = sum + (lo * (((nB.toNat : Nat) : Int) - (pcN T : Int))) := ⟨_, rfl⟩
    refine g_topi ex14.symm ?_
    refine g_istore hΓ dX0_pairs_16 rfl (Nat.le_of_ble_eq_true rfl) (lv' := [some (.ref (P.1)), some (.int (iI i)), some (.int (iI nA)), some (.int (iI nB)), some (.int (iI (frN nB.toNat T))), some (.int (iI sum)), some (.int (iI lo)), some (.int (iI u)), some (.int (iI x14))]) rfl ?_
    refine g_iload hΓ rfl dX0_pairs_18 ?_
    refine g_aload_n hΓ rfl dX0_pairs_20 ?_
    refine x_geti (c := 0) hE hΓ in_X0 rfl hp.1 ⟨by decide, rfl⟩ 22 (ji := 22) rfl (by decide) (by decide) rfl q268 rfl rfl dX0_pairs_21 ?_
    refine g_icmp_lt (tgt := 28) hΓ (by omega) (by omega) dX0_pairs_24 (by decide) (fun c15 => ?_) (fun c15 => ?_)
    · refine g_aload_n hΓ rfl dX0_pairs_28 ?_
      refine g_iload hΓ rfl dX0_pairs_29 ?_
      refine x_puti (c := 0) hE hΓ in_X0 rfl hp.1 ⟨by decide, rfl⟩ tyX0 tyX0_ok nmX0 (hAw _ (by rw [hp.1]; rfl)) 22 (ji := 22) rfl (by decide) (by decide) rfl q268 rfl rfl rfl rfl rfl rfl dX0_pairs_31 (fun τ16 τ16e => ?_)
      have τ16r : τ16 (P.1) 22 = x14 := by rw [τ16e]; exact us_s _ _ _ _
      have τ16f : ∀ (q9 : Nat) (j9 : Int), (q9 ≠ (P.1) ∨ j9 ≠ 22) → τ16 q9 j9 = D q9 j9 := fun q9 j9 hh => by rw [τ16e]; exact us_n hh
      refine g_aload_n hΓ rfl dX0_pairs_34 ?_
      refine x_geta (r := some (P.2.1 18)) (c := 0) hE hΓ in_X0 rfl hp.1 ⟨by decide, rfl⟩ 18 (ji := 18) rfl (by decide) (by decide) rfl q264 rfl rfl (pA_r hp 18 rfl rfl) dX0_pairs_35 ?_
      show gW Γ E (xM E S τ16 R) 0 0 _ _ (.ref (P.2.1 18) :: _)
      refine g_iconst hΓ dX0_pairs_38 ?_
      refine g_aload_n hΓ rfl dX0_pairs_39 ?_
      refine x_geta (r := some (P.2.1 19)) (c := 0) hE hΓ in_X0 rfl hp.1 ⟨by decide, rfl⟩ 19 (ji := 19) rfl (by decide) (by decide) rfl q265 rfl rfl (pA_r hp 19 rfl rfl) dX0_pairs_40 ?_
      show gW Γ E (xM E S τ16 R) 0 0 _ _ (.ref (P.2.1 19) :: _)
      refine g_iconst hΓ dX0_pairs_43 ?_
      refine g_iload_n hΓ rfl dX0_pairs_44 ?_
      refine x_copyi hΓ (xn_new hX) rfl q1061 q194 q193 q128 (pA_k hp 18 rfl (n := 68) rfl) (pA_n hp 18 rfl (n := 8) rfl) ⟨by decide, rfl⟩ (hAw _ (by rw [(pA_k hp 18 rfl (n := 68) rfl)]; rfl)) (pA_k hp 19 rfl (n := 69) rfl) (pA_n hp 19 rfl (n := 8) rfl) ⟨by decide, rfl⟩ (hAw _ (by rw [(pA_k hp 19 rfl (n := 69) rfl)]; rfl)) (by omega) (by omega) (by decide) rfl dX0_pairs_45 (fun τ17 τ17g τ17r => ?_)
      have τ17f : ∀ (q9 : Nat) (j9 : Int), md (S q9).1 j9 ∉ [69] → τ17 q9 j9 = τ16 q9 j9 := fun q9 j9 h9 => τ17g q9 j9 (fun e9 => h9 (by rw [e9, (pA_k hp 19 rfl (n := 69) rfl), mdN _ (by decide)]; decide))
      have hfD18 : fr S D τ17 [1022, 69] := (fun q9 j9 hk9 => by exact ((τ17f q9 j9 (fun e9 => hk9 ((show ∀ x ∈ [69], x ∈ [1022, 69] by decide) _ e9))).trans (τ16f q9 j9 (by by_cases e9 : q9 = (P.1); exact Or.inr (fun e8 => hk9 (by rw [e9, e8, hp.1]; decide)); exact Or.inl e9))))
      have hxs18 : Rx E Z S τ17 R P σ := Rx_scr hx (fr_w hfD18 (by decide)) fr_rfl (GS_fr (hx).1.1 hfD18 fr_rfl (m' := []) (by decide) (by decide))
      have e22 : τ17 P.1 22 = sum + lo * (((nB.toNat : Nat) : Int) - (pcN T : Int)) := (((τ17f (P.1) 22 (by rw [hp.1]; decide)).trans τ16r)).trans ex14
      have e18 : τ17 (P.2.1 18) = D (P.2.1 18) := fr_row hfD18 (pA_k hp 18 rfl (n := 68) rfl) (by decide) (by decide)
      have e0 : τ16 (P.2.1 18) = D (P.2.1 18) := by funext j9; exact τ16f _ _ (Or.inl (ne_k (pA_k hp 18 rfl (n := 68) rfl) hp.1 (by decide)))
      exact x_vret hΓ dX0_pairs_48 (Nat.zero_le _) (Nat.zero_le _) ⟨rfl, ⟨hxs18, cosT_fr hp (by omega) hcos (fun q9 k9 h9 => hfD18 q9 k9 (by rcases h9 with h9 | h9 | h9 <;> rw [h9, mdN _ (by decide)] <;> decide)), by rw [e22, e18]; exact prQ_new (by omega) (by omega) (fun k9 x9 y9 => by rw [τ17r, cpI, if_pos (by omega), e0, show 0 + (k9 - 0) = k9 by omega])⟩, rfl, (fun q9 j9 hk9 => by exact ((τ17f q9 j9 (fun e9 => hk9 ((show ∀ x ∈ [69], x ∈ [1022, 68, 69] by decide) _ e9))).trans (τ16f q9 j9 (by by_cases e9 : q9 = (P.1); exact Or.inr (fun e8 => hk9 (by rw [e9, e8, hp.1]; decide)); exact Or.inl e9)))), rfl⟩
    · exact x_vret hΓ dX0_pairs_27 (Nat.zero_le _) (Nat.zero_le _) ⟨rfl, ⟨hx, hcos, prQ_keep (by omega) (by omega)⟩, rfl, fr_rfl, rfl⟩
theorem x_X0_pairs {l : Launch} {E : gE} {X : State → Prop} {Z : Nat → Nat} {Y : Nat → Option Nat} (hE : E.2.1 = clsX) (hX : xOK l E X Z Y) (S : xS) (D : xD) (R : xR) (r : Nat) (P : xPk) (σ : mS) (i nA nB sum lo u w sA sB : Int) (T : Nat) (hleA : letS σ sA nA) (hleB : letS σ sB nB) (hw : 0 ≤ w ∧ w ≤ 16) (hlo : 0 ≤ lo ∧ lo ≤ 99) (hu : 0 ≤ u ∧ u ≤ 99) (hx : Rx E Z S D R P σ) (hr : r = (nA - i).toNat) (hi : 0 ≤ i ∧ i ≤ nA) (hT : T < 2 ^ nB.toNat) (hsum : 0 ≤ sum ∧ sum ≤ 200 * i) (hB : 0 ≤ D P.1 22 ∧ D P.1 22 ≤ 100000) (hcos : cosT P D σ sA nA sB nB w) : xC l E X yX0_pairs cX0_pairs 9 none (r + 2) 0 0 [.ref P.1, .int (iI i), .int (iI nA), .int (iI nB), .int (iI (frN nB.toNat T)), .int (iI sum), .int (iI lo), .int (iI u)] S D R (fun rv S' D' R' => rv = none ∧ (Rx E Z S D' R P σ ∧ cosT P D' σ sA nA sB nB w ∧ prQ (pcst σ sA nA sB nB w u) lo nB.toNat nA.toNat i T sum (D P.1 22) (D (P.2.1 18)) (D (P.2.1 19)) (D' P.1 22) (D' (P.2.1 18)) (D' (P.2.1 19))) ∧ S' = S ∧ fr S D D' [1022, 68, 69] ∧ R' = R) := by
  induction r generalizing D i sum T with
  | zero => exact x_pairsS hE hX S D R 0 P σ i nA nB sum lo u w sA sB T hleA hleB hw hlo hu (fun r' h => absurd h (by omega)) hx hr hi hT hsum hB hcos
  | succ r ih => exact x_pairsS hE hX S D R (r + 1) P σ i nA nB sum lo u w sA sB T hleA hleB hw hlo hu (fun r' h => by have e9 : r = r' := Nat.succ.inj h; subst e9; exact ih) hx hr hi hT hsum hB hcos
set_option maxHeartbeats 4000000 in
theorem x_X0_scoreBy {l : Launch} {E : gE} {X : State → Prop} {Z : Nat → Nat} {Y : Nat → Option Nat} (hE : E.2.1 = clsX) (hX : xOK l E X Z Y) (S : xS) (D : xD) (R : xR) (P : xPk) (σ : mS) (nA nB lo u w sA sB : Int) (hx : Rx E Z S D R P σ) (hleA : letS σ sA nA) (hleB : letS σ sB nB) (hw : 0 ≤ w ∧ w ≤ 16) (hlo : 0 ≤ lo ∧ lo ≤ 99) (hu : 0 ≤ u ∧ u ≤ 99) (hcos : cosT P D σ sA nA sB nB w) : xC l E X yX0_scoreBy cX0_scoreBy 5 (some .int) 11 0 0 [.ref (P.1), .int (iI nA), .int (iI nB), .int (iI lo), .int (iI u)] S D R (fun rv S' D' R' => rv = some (.int (iI (scr σ sA nA sB nB w lo u))) ∧ (Rx E Z S D' R P σ ∧ cosT P D' σ sA nA sB nB w ∧ ∀ k, 0 ≤ k → k < nA → D' (P.2.1 19) k = parO (pcst σ sA nA sB nB w u) lo nB.toNat nA.toNat k) ∧ S' = S ∧ fr S D D' [1022, 68, 69] ∧ R' = R) := by
  refine xC.of hX.1 (by decide) [some (.ref (P.1)), some (.int (iI nA)), some (.int (iI nB)), some (.int (iI lo)), some (.int (iI u))] (Nat.le_of_ble_eq_true rfl) rfl rfl (fun Γ hΓ => ?_)
  obtain ⟨hg, hp, hki, hro, hnw, hbh, hsa, hpd⟩ := id hx
  obtain ⟨N, NI, NM, NV, hN⟩ := (hx).now
  have hAw := hg.2.2.2.2.2.2
  have hG : GS S D R := hg.1
  obtain ⟨h1000, h1009, h1042, h1043, h1044, h1045, h1046, h1047, hms, hsi, hsm, hnm⟩ := id hro
  have eN := hN.2.2.2.2.2.2.2.2.2.2.2.2
  have kNV : (S NV).1 = 45 := by rw [hN.2.2.2.1.2]
  have nNV : (S NV).2.1 = 6 := by rw [hN.2.2.2.1.2]
  have hmA0 := hleA.2.1
  have hmA8 := hleA.2.2.1
  have hmB0 := hleB.2.1
  have hmB8 := hleB.2.2.1
  have hsr := scr_r h1042 h1047 hw.1 hlo hu.1 hleA hleB
  refine g_aload_n hΓ rfl dX0_scoreBy_0 ?_
  refine g_ldcw (n := 100000) hΓ rfl q1002 (by decide) dX0_scoreBy_1 ?_
  refine x_puti (c := 0) hE hΓ in_X0 rfl hp.1 ⟨by decide, rfl⟩ tyX0 tyX0_ok nmX0 (hAw _ (by rw [hp.1]; rfl)) 22 (ji := 22) rfl (by decide) (by decide) rfl q268 rfl rfl rfl rfl rfl rfl dX0_scoreBy_4 (fun τ1 τ1e => ?_)
  have τ1r : τ1 (P.1) 22 = 100000 := by rw [τ1e]; exact us_s _ _ _ _
  have τ1f : ∀ (q9 : Nat) (j9 : Int), (q9 ≠ (P.1) ∨ j9 ≠ 22) → τ1 q9 j9 = D q9 j9 := fun q9 j9 hh => by rw [τ1e]; exact us_n hh
  have hfD2 : fr S D τ1 [1022] := (fun q9 j9 hk9 => by exact (τ1f q9 j9 (by by_cases e9 : q9 = (P.1); exact Or.inr (fun e8 => hk9 (by rw [e9, e8, hp.1]; decide)); exact Or.inl e9)))
  have hxs2 : Rx E Z S τ1 R P σ := Rx_scr hx (fr_w hfD2 (by decide)) fr_rfl (GS_fr (hx).1.1 hfD2 fr_rfl (m' := []) (by decide) (by decide))
  have hca : cosT P τ1 σ sA nA sB nB w := cosT_fr hp (by omega) hcos (fun q9 k9 h9 => hfD2 q9 k9 (by rcases h9 with h9 | h9 | h9 <;> rw [h9, mdN _ (by decide)] <;> decide))
  have hBa : 0 ≤ τ1 P.1 22 ∧ τ1 P.1 22 ≤ 100000 := by rw [τ1r]; decide
  refine g_aload_n hΓ rfl dX0_scoreBy_7 ?_
  refine g_iconst hΓ dX0_scoreBy_8 ?_
  refine g_iload_n hΓ rfl dX0_scoreBy_9 ?_
  refine g_iload_n hΓ rfl dX0_scoreBy_10 ?_
  refine g_iconst hΓ dX0_scoreBy_11 ?_
  refine g_iload_n hΓ rfl dX0_scoreBy_12 ?_
  refine g_ishl (a := ((2 ^ nB.toNat : Nat) : Int)) hΓ (sh_1 (by omega) (by omega)) dX0_scoreBy_13 ?_
  refine g_iconst hΓ dX0_scoreBy_14 ?_
  refine g_isub hΓ dX0_scoreBy_15 ?_
  refine g_topi (show (((2 ^ nB.toNat : Nat) : Int) - 1 : Int) = frN nB.toNat 0 from (frN_0 _ (by omega)).symm) ?_
  refine g_iconst hΓ dX0_scoreBy_16 ?_
  refine g_iload_n hΓ rfl dX0_scoreBy_17 ?_
  refine g_iload hΓ rfl dX0_scoreBy_18 ?_
  refine x_callV (As := [.int (iI 0), .int (iI nA), .int (iI nB), .int (iI (frN nB.toNat 0)), .int (iI 0), .int (iI lo), .int (iI u)]) (rest := []) (c := 0) hE hΓ (x_X0_pairs hE hX S τ1 R nA.toNat P σ 0 nA nB 0 lo u w sA sB 0 hleA hleB hw hlo hu hxs2 (by omega) (by omega) (Nat.two_pow_pos _) (by omega) hBa hca ) hp.1 ⟨by decide, rfl⟩ rfl rfl q1051 q1053 qs36 q123 q1054 ndX0_pairs rfl (by omega) (by decide) (Nat.zero_le _) (Nat.zero_le _) rfl (Nat.le_of_ble_eq_true rfl) dX0_scoreBy_20 rfl (fun v3 S3 τ3 ρ3 h3 => ?_)
  obtain ⟨rfl, h3, S3e, τ3f, ρ3e⟩ := h3
  have S3e := S3e.symm; subst S3e
  have ρ3e := ρ3e.symm; subst ρ3e
  refine g_aload_n hΓ rfl dX0_scoreBy_23 ?_
  refine x_geti (c := 0) hE hΓ in_X0 rfl hp.1 ⟨by decide, rfl⟩ 22 (ji := 22) rfl (by decide) (by decide) rfl q268 rfl rfl dX0_scoreBy_24 ?_
  have hQ9 := h3.2.2
  rw [τ1r] at hQ9
  obtain ⟨q1, q2, q3, q4⟩ := hQ9
  have es : bsF (pcst σ sA nA sB nB w u) lo nB.toNat nA.toNat ((nA.toNat : Int) - 0).toNat 0 = scr σ sA nA sB nB w lo u := by rw [scr, show ((nA.toNat : Int) - 0).toNat = nA.toNat by omega]
  rw [es] at q1 q2
  exact x_iret hΓ dX0_scoreBy_27 (Nat.zero_le _) (Nat.zero_le _) ⟨ri (by omega), ⟨h3.1, h3.2.1, fun k9 x9 y9 => by have h9 := (q2 (by omega)).2 k9.toNat (by omega); rw [show (0 : Int) + ((k9.toNat : Nat) : Int) = k9 by omega, cmP_parO x9] at h9; exact h9⟩, rfl, (fun q9 j9 hk9 => by exact ((τ3f q9 j9 (fun e9 => hk9 ((show ∀ x ∈ [1022, 68, 69], x ∈ [1022, 68, 69] by decide) _ e9))).trans (τ1f q9 j9 (by by_cases e9 : q9 = (P.1); exact Or.inr (fun e8 => hk9 (by rw [e9, e8, hp.1]; decide)); exact Or.inl e9)))), rfl⟩
