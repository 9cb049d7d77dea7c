set_option maxRecDepth 100000
set_option maxHeartbeats 4000000 in
theorem x_X8_laysSample {l : Launch} {E : gE} {X : State → Prop} {Z : Nat → Nat} {Y : Nat → Option Nat} (hE : E.2.1 = clsX) (hX : xOK l E X Z Y) (S : xS) (D : xD) (R : xR) (s : Nat) (k e : Int) (hs : (S s).1 = 8) (hB : strB S D R s) (hk : 0 ≤ k ∧ k ≤ e) (he : 4 ≤ e ∧ e ≤ 16) (hAw : ∀ q, wk (S q).1 = true → E.2.2 q) : xC l E X yX8_laysSample cX8_laysSample 11 none 0 0 0 [.ref s, .int (iI k), .int (iI e)] S D R (fun rv S' D' R' => rv = none ∧ ((D' (rf R s 4) (2 * k + 0) = smp (strN S R s) (D (rf R s 0)) e k 0 ∧ D' (rf R s 4) (2 * k + 1) = smp (strN S R s) (D (rf R s 0)) e k 1) ∧ ∀ (q : Nat) (j : Int), (q ≠ (rf R s 4) ∨ (j ≠ 2 * k + 0 ∧ j ≠ 2 * k + 1)) → D' q j = D q j) ∧ S' = S ∧ fr S D D' [42] ∧ R' = R) := by
  refine xC.of hX.1 (by decide) [some (.ref s), some (.int (iI k)), some (.int (iI e)), none, none, none, none, none, none, none, none] (Nat.le_of_ble_eq_true rfl) rfl rfl (fun Γ hΓ => ?_)
  obtain ⟨hsf1, hsk1, hsp1, hsl1⟩ := id hB
  have kd2 : (S (rf R s 4)).1 = 42 := by rw [hsf1.2.2.2.2.2.2.2.1]
  have ln2 : (S (rf R s 4)).2.1 = 34 := by rw [hsf1.2.2.2.2.2.2.2.1]
  have kd3 : (S (rf R s 5)).1 = 43 := by rw [hsf1.2.2.2.2.2.2.2.2.2.1]
  have ln3 : (S (rf R s 5)).2.1 = 16 := by rw [hsf1.2.2.2.2.2.2.2.2.2.1]
  have kd4 : (S (rf R s 6)).1 = 44 := by rw [hsf1.2.2.2.2.2.2.2.2.2.2.2]
  have ln4 : (S (rf R s 6)).2.1 = 16 := by rw [hsf1.2.2.2.2.2.2.2.2.2.2.2]
  have hsn1 := hsf1.2.2.1
  have hsm1 := hsf1.2.2.2.2.2.1
  have hs11 := hsk1.1
  have hs21 := hsk1.2.1
  have hL := smL_r hsk1 he hk
  have hln := lnS_r hsk1
  have hQ := smQ_r hsk1 he hk
  obtain ⟨wy, hwy⟩ : ∃ z : Int, z = k * lnS (strN S R s) (D (rf R s 0)) / e := ⟨_, rfl⟩
  rw [← hwy] at hL
  have ex : ∀ (p : Int) (bg : Int), (smQ (strN S R s) (D (rf R s 0)) e k = (p, wy - bg)) → (0 ≤ bg ∧ bg ≤ 200000) → gW Γ E (xM E S D R) 0 0 63 [some (.ref s), some (.int (iI k)), some (.int (iI e)), some (.int (iI wy)), some (.int (iI p)), some (.int (iI bg)), none, none, none, none, none] [] := by
    intro p bg hq hbg
    have hQ2 := hQ
    rw [hq] at hQ2
    simp only [] at hQ2
    have hp1 : p + 1 < strN S R s := by omega
    have hpc := hsp1 p (by omega) (by omega)
    have hpr := pcs_r hsk1 (k := p) (by omega) hp1
    have ha0 := hsk1.2.2 (2 * p + 0) (by omega) (by omega)
    have hb0 := hsk1.2.2 (2 * p + 2 + 0) (by omega) (by omega)
    have ha1 := hsk1.2.2 (2 * p + 1) (by omega) (by omega)
    have hb1 := hsk1.2.2 (2 * p + 2 + 1) (by omega) (by omega)
    refine g_aload_n hΓ rfl dX8_laysSample_63 ?_
    refine x_geta (r := some (rf R s 1)) (c := 8) hE hΓ in_X8 rfl hs ⟨by decide, rfl⟩ 1 (ji := 1) rfl (by decide) (by decide) rfl q804 rfl rfl hsf1.2.2.2.1 dX8_laysSample_64 ?_
    show gW Γ E (xM E S D R) 0 0 _ _ (.ref (rf R s 1) :: _)
    refine g_iload hΓ rfl dX8_laysSample_67 ?_
    refine x_iald hΓ hsf1.2.2.2.2.1 rfl ⟨by decide, rfl⟩ (by omega) (by omega) dX8_laysSample_69 ?_
    refine g_topi (hpc) ?_
    obtain ⟨x5, ex5⟩ : ∃ z9 : Int, z9 = pcs (D (rf R s 0)) p := ⟨_, rfl⟩
    refine g_topi ex5.symm ?_
    refine g_istore hΓ dX8_laysSample_70 rfl (Nat.le_of_ble_eq_true rfl) (lv' := [some (.ref s), some (.int (iI k)), some (.int (iI e)), some (.int (iI wy)), some (.int (iI p)), some (.int (iI bg)), some (.int (iI x5)), none, none, none, none]) rfl ?_
    refine g_iload_n hΓ rfl dX8_laysSample_72 ?_
    refine g_iload hΓ rfl dX8_laysSample_73 ?_
    refine g_isub hΓ dX8_laysSample_75 ?_
    obtain ⟨x6, ex6⟩ : ∃ z9 : Int, z9 = wy - bg := ⟨_, rfl⟩
    refine g_topi ex6.symm ?_
    refine g_istore hΓ dX8_laysSample_76 rfl (Nat.le_of_ble_eq_true rfl) (lv' := [some (.ref s), some (.int (iI k)), some (.int (iI e)), some (.int (iI wy)), some (.int (iI p)), some (.int (iI bg)), some (.int (iI x5)), some (.int (iI x6)), none, none, none]) rfl ?_
    refine g_iconst hΓ dX8_laysSample_78 ?_
    refine g_istore hΓ dX8_laysSample_79 rfl (Nat.le_of_ble_eq_true rfl) (lv' := [some (.ref s), some (.int (iI k)), some (.int (iI e)), some (.int (iI wy)), some (.int (iI p)), some (.int (iI bg)), some (.int (iI x5)), some (.int (iI x6)), some (.int (iI 0)), none, none]) rfl ?_
    refine g_iload hΓ rfl dX8_laysSample_81 ?_
    refine g_iconst hΓ dX8_laysSample_83 ?_
    refine g_icmp_ge (tgt := 168) hΓ (by omega) (by omega) dX8_laysSample_84 (by decide) (fun c7 => ?_) (fun c7 => ?_)
    · exact absurd c7 (by decide)
    · refine g_aload_n hΓ rfl dX8_laysSample_87 ?_
      refine x_geta (r := some (rf R s 0)) (c := 8) hE hΓ in_X8 rfl hs ⟨by decide, rfl⟩ 0 (ji := 0) rfl (by decide) (by decide) rfl q802 rfl rfl hsf1.1 dX8_laysSample_88 ?_
      show gW Γ E (xM E S D R) 0 0 _ _ (.ref (rf R s 0) :: _)
      refine g_iconst hΓ dX8_laysSample_91 ?_
      refine g_iload hΓ rfl dX8_laysSample_92 ?_
      refine g_imul hΓ dX8_laysSample_94 ?_
      refine g_iload hΓ rfl dX8_laysSample_95 ?_
      refine g_iadd hΓ dX8_laysSample_97 ?_
      refine x_iald hΓ hsf1.2.1 rfl ⟨by decide, rfl⟩ (by omega) (by omega) dX8_laysSample_98 ?_
      obtain ⟨x8, ex8⟩ : ∃ z9 : Int, z9 = D (rf R s 0) ((2 * p) + 0) := ⟨_, rfl⟩
      refine g_topi ex8.symm ?_
      refine g_istore hΓ dX8_laysSample_99 rfl (Nat.le_of_ble_eq_true rfl) (lv' := [some (.ref s), some (.int (iI k)), some (.int (iI e)), some (.int (iI wy)), some (.int (iI p)), some (.int (iI bg)), some (.int (iI x5)), some (.int (iI x6)), some (.int (iI 0)), some (.int (iI x8)), none]) rfl ?_
      refine g_aload_n hΓ rfl dX8_laysSample_101 ?_
      refine x_geta (r := some (rf R s 0)) (c := 8) hE hΓ in_X8 rfl hs ⟨by decide, rfl⟩ 0 (ji := 0) rfl (by decide) (by decide) rfl q802 rfl rfl hsf1.1 dX8_laysSample_102 ?_
      show gW Γ E (xM E S D R) 0 0 _ _ (.ref (rf R s 0) :: _)
      refine g_iconst hΓ dX8_laysSample_105 ?_
      refine g_iload hΓ rfl dX8_laysSample_106 ?_
      refine g_imul hΓ dX8_laysSample_108 ?_
      refine g_iconst hΓ dX8_laysSample_109 ?_
      refine g_iadd hΓ dX8_laysSample_110 ?_
      refine g_iload hΓ rfl dX8_laysSample_111 ?_
      refine g_iadd hΓ dX8_laysSample_113 ?_
      refine x_iald hΓ hsf1.2.1 rfl ⟨by decide, rfl⟩ (by omega) (by omega) dX8_laysSample_114 ?_
      refine g_iload hΓ rfl dX8_laysSample_115 ?_
      refine g_isub hΓ dX8_laysSample_117 ?_
      obtain ⟨x9, ex9⟩ : ∃ z9 : Int, z9 = (D (rf R s 0) (((2 * p) + 2) + 0)) - x8 := ⟨_, rfl⟩
      refine g_topi ex9.symm ?_
      refine g_istore hΓ dX8_laysSample_118 rfl (Nat.le_of_ble_eq_true rfl) (lv' := [some (.ref s), some (.int (iI k)), some (.int (iI e)), some (.int (iI wy)), some (.int (iI p)), some (.int (iI bg)), some (.int (iI x5)), some (.int (iI x6)), some (.int (iI 0)), some (.int (iI x8)), some (.int (iI x9))]) rfl ?_
      refine g_aload_n hΓ rfl dX8_laysSample_120 ?_
      refine x_geta (r := some (rf R s 4)) (c := 8) hE hΓ in_X8 rfl hs ⟨by decide, rfl⟩ 4 (ji := 4) rfl (by decide) (by decide) rfl q808 rfl rfl hsf1.2.2.2.2.2.2.1 dX8_laysSample_121 ?_
      show gW Γ E (xM E S D R) 0 0 _ _ (.ref (rf R s 4) :: _)
      refine g_iconst hΓ dX8_laysSample_124 ?_
      refine g_iload_n hΓ rfl dX8_laysSample_125 ?_
      refine g_imul hΓ dX8_laysSample_126 ?_
      refine g_iload hΓ rfl dX8_laysSample_127 ?_
      refine g_iadd hΓ dX8_laysSample_129 ?_
      refine g_bipush hΓ (by decide) dX8_laysSample_130 ?_
      refine g_iload hΓ rfl dX8_laysSample_132 ?_
      refine g_imul hΓ dX8_laysSample_134 ?_
      refine g_iload hΓ rfl dX8_laysSample_135 ?_
      refine g_if_ne (tgt := 144) hΓ (by omega) dX8_laysSample_137 (by decide) (fun c10 => ?_) (fun c10 => ?_)
      · refine g_ldc2 (n := 100) hΓ rfl q924 (by decide) dX8_laysSample_144 ?_
        refine g_iload hΓ rfl dX8_laysSample_147 ?_
        refine g_i2l hΓ (by omega) dX8_laysSample_149 ?_
        refine g_lmul hΓ dX8_laysSample_150 ?_
        refine g_iload hΓ rfl dX8_laysSample_151 ?_
        refine g_i2l hΓ (by omega) dX8_laysSample_153 ?_
        refine g_lmul hΓ dX8_laysSample_154 ?_
        refine g_iload hΓ rfl dX8_laysSample_155 ?_
        refine g_i2l hΓ (by omega) dX8_laysSample_157 ?_
        have hcc := mul_b (a := 100 * x9) (b := x6) (A := 9900) (B := 14000) (by omega) (by omega) (by omega) (by omega)
        refine g_ldiv hΓ (by omega) (by omega) (by omega) dX8_laysSample_158 ?_
        refine g_l2i hΓ dX8_laysSample_159 ?_
        refine g_iadd hΓ dX8_laysSample_160 ?_
        refine x_iast hΓ kd2 ln2 ⟨by decide, rfl⟩ (hAw _ (by rw [kd2]; rfl)) (by omega) (by omega) dX8_laysSample_161 (fun τ11 τ11e => ?_)
        have τ11r : τ11 (rf R s 4) ((2 * k) + 0) = (100 * x8) + (((100 * x9) * x6).tdiv x5) := by rw [τ11e]; exact us_s _ _ _ _
        have τ11f : ∀ (q9 : Nat) (j9 : Int), (q9 ≠ (rf R s 4) ∨ j9 ≠ ((2 * k) + 0)) → τ11 q9 j9 = D q9 j9 := fun q9 j9 hh => by rw [τ11e]; exact us_n hh
        refine g_iinc hΓ dX8_laysSample_162 rfl rfl (lv' := [some (.ref s), some (.int (iI k)), some (.int (iI e)), some (.int (iI wy)), some (.int (iI p)), some (.int (iI bg)), some (.int (iI x5)), some (.int (iI x6)), some (.int (iI 1)), some (.int (iI x8)), some (.int (iI x9))]) rfl ?_
        refine g_goto (tgt := 81) hΓ dX8_laysSample_165 (by decide) ?_
        refine g_iload hΓ rfl dX8_laysSample_81 ?_
        refine g_iconst hΓ dX8_laysSample_83 ?_
        refine g_icmp_ge (tgt := 168) hΓ (by omega) (by omega) dX8_laysSample_84 (by decide) (fun c12 => ?_) (fun c12 => ?_)
        · exact absurd c12 (by decide)
        · refine g_aload_n hΓ rfl dX8_laysSample_87 ?_
          refine x_geta (r := some (rf R s 0)) (c := 8) hE hΓ in_X8 rfl hs ⟨by decide, rfl⟩ 0 (ji := 0) rfl (by decide) (by decide) rfl q802 rfl rfl hsf1.1 dX8_laysSample_88 ?_
          show gW Γ E (xM E S τ11 R) 0 0 _ _ (.ref (rf R s 0) :: _)
          refine g_iconst hΓ dX8_laysSample_91 ?_
          refine g_iload hΓ rfl dX8_laysSample_92 ?_
          refine g_imul hΓ dX8_laysSample_94 ?_
          refine g_iload hΓ rfl dX8_laysSample_95 ?_
          refine g_iadd hΓ dX8_laysSample_97 ?_
          refine x_iald hΓ hsf1.2.1 rfl ⟨by decide, rfl⟩ (by omega) (by omega) dX8_laysSample_98 ?_
          refine g_topi ((τ11f (rf R s 0) ((2 * p) + 1) (Or.inl (ne_k hsf1.2.1 kd2 (by decide))))) ?_
          obtain ⟨x13, ex13⟩ : ∃ z9 : Int, z9 = D (rf R s 0) ((2 * p) + 1) := ⟨_, rfl⟩
          refine g_topi ex13.symm ?_
          refine g_istore hΓ dX8_laysSample_99 rfl (Nat.le_of_ble_eq_true rfl) (lv' := [some (.ref s), some (.int (iI k)), some (.int (iI e)), some (.int (iI wy)), some (.int (iI p)), some (.int (iI bg)), some (.int (iI x5)), some (.int (iI x6)), some (.int (iI 1)), some (.int (iI x13)), some (.int (iI x9))]) rfl ?_
          refine g_aload_n hΓ rfl dX8_laysSample_101 ?_
          refine x_geta (r := some (rf R s 0)) (c := 8) hE hΓ in_X8 rfl hs ⟨by decide, rfl⟩ 0 (ji := 0) rfl (by decide) (by decide) rfl q802 rfl rfl hsf1.1 dX8_laysSample_102 ?_
          show gW Γ E (xM E S τ11 R) 0 0 _ _ (.ref (rf R s 0) :: _)
          refine g_iconst hΓ dX8_laysSample_105 ?_
          refine g_iload hΓ rfl dX8_laysSample_106 ?_
          refine g_imul hΓ dX8_laysSample_108 ?_
          refine g_iconst hΓ dX8_laysSample_109 ?_
          refine g_iadd hΓ dX8_laysSample_110 ?_
          refine g_iload hΓ rfl dX8_laysSample_111 ?_
          refine g_iadd hΓ dX8_laysSample_113 ?_
          refine x_iald hΓ hsf1.2.1 rfl ⟨by decide, rfl⟩ (by omega) (by omega) dX8_laysSample_114 ?_
          refine g_topi ((τ11f (rf R s 0) (((2 * p) + 2) + 1) (Or.inl (ne_k hsf1.2.1 kd2 (by decide))))) ?_
          refine g_iload hΓ rfl dX8_laysSample_115 ?_
          refine g_isub hΓ dX8_laysSample_117 ?_
          obtain ⟨x14, ex14⟩ : ∃ z9 : Int, z9 = (D (rf R s 0) (((2 * p) + 2) + 1)) - x13 := ⟨_, rfl⟩
          refine g_topi ex14.symm ?_
          refine g_istore hΓ dX8_laysSample_118 rfl (Nat.le_of_ble_eq_true rfl) (lv' := [some (.ref s), some (.int (iI k)), some (.int (iI e)), some (.int (iI wy)), some (.int (iI p)), some (.int (iI bg)), some (.int (iI x5)), some (.int (iI x6)), some (.int (iI 1)), some (.int (iI x13)), some (.int (iI x14))]) rfl ?_
          refine g_aload_n hΓ rfl dX8_laysSample_120 ?_
          refine x_geta (r := some (rf R s 4)) (c := 8) hE hΓ in_X8 rfl hs ⟨by decide, rfl⟩ 4 (ji := 4) rfl (by decide) (by decide) rfl q808 rfl rfl hsf1.2.2.2.2.2.2.1 dX8_laysSample_121 ?_
          show gW Γ E (xM E S τ11 R) 0 0 _ _ (.ref (rf R s 4) :: _)
          refine g_iconst hΓ dX8_laysSample_124 ?_
          refine g_iload_n hΓ rfl dX8_laysSample_125 ?_
          refine g_imul hΓ dX8_laysSample_126 ?_
          refine g_iload hΓ rfl dX8_laysSample_127 ?_
          refine g_iadd hΓ dX8_laysSample_129 ?_
          refine g_bipush hΓ (by decide) dX8_laysSample_130 ?_
          refine g_iload hΓ rfl dX8_laysSample_132 ?_
          refine g_imul hΓ dX8_laysSample_134 ?_
          refine g_iload hΓ rfl dX8_laysSample_135 ?_
          refine g_if_ne (tgt := 144) hΓ (by omega) dX8_laysSample_137 (by decide) (fun c15 => ?_) (fun c15 => ?_)
          · refine g_ldc2 (n := 100) hΓ rfl q924 (by decide) dX8_laysSample_144 ?_
            refine g_iload hΓ rfl dX8_laysSample_147 ?_
            refine g_i2l hΓ (by omega) dX8_laysSample_149 ?_
            refine g_lmul hΓ dX8_laysSample_150 ?_
            refine g_iload hΓ rfl dX8_laysSample_151 ?_
            refine g_i2l hΓ (by omega) dX8_laysSample_153 ?_
            refine g_lmul hΓ dX8_laysSample_154 ?_
            refine g_iload hΓ rfl dX8_laysSample_155 ?_
            refine g_i2l hΓ (by omega) dX8_laysSample_157 ?_
            have hcc := mul_b (a := 100 * x14) (b := x6) (A := 9900) (B := 14000) (by omega) (by omega) (by omega) (by omega)
            refine g_ldiv hΓ (by omega) (by omega) (by omega) dX8_laysSample_158 ?_
            refine g_l2i hΓ dX8_laysSample_159 ?_
            refine g_iadd hΓ dX8_laysSample_160 ?_
            refine x_iast hΓ kd2 ln2 ⟨by decide, rfl⟩ (hAw _ (by rw [kd2]; rfl)) (by omega) (by omega) dX8_laysSample_161 (fun τ16 τ16e => ?_)
            have τ16r : τ16 (rf R s 4) ((2 * k) + 1) = (100 * x13) + (((100 * x14) * x6).tdiv x5) := by rw [τ16e]; exact us_s _ _ _ _
            have τ16f : ∀ (q9 : Nat) (j9 : Int), (q9 ≠ (rf R s 4) ∨ j9 ≠ ((2 * k) + 1)) → τ16 q9 j9 = τ11 q9 j9 := fun q9 j9 hh => by rw [τ16e]; exact us_n hh
            refine g_iinc hΓ dX8_laysSample_162 rfl rfl (lv' := [some (.ref s), some (.int (iI k)), some (.int (iI e)), some (.int (iI wy)), some (.int (iI p)), some (.int (iI bg)), some (.int (iI x5)), some (.int (iI x6)), some (.int (iI 2)), some (.int (iI x13)), some (.int (iI x14))]) rfl ?_
            refine g_goto (tgt := 81) hΓ dX8_laysSample_165 (by decide) ?_
            refine g_iload hΓ rfl dX8_laysSample_81 ?_
            refine g_iconst hΓ dX8_laysSample_83 ?_
            refine g_icmp_ge (tgt := 168) hΓ (by omega) (by omega) dX8_laysSample_84 (by decide) (fun c17 => ?_) (fun c17 => ?_)
            · have hv0 : (100 * x8) + (((100 * x9) * x6).tdiv x5) = smp (strN S R s) (D (rf R s 0)) e k 0 := by
                rw [smp_same hq]
                show _ = 100 * D (rf R s 0) (2 * p + 0) + (if pcs (D (rf R s 0)) p = 0 then 0 else (100 * (D (rf R s 0) (2 * (p + 1) + 0) - D (rf R s 0) (2 * p + 0)) * (wy - bg)).tdiv (pcs (D (rf R s 0)) p))
                rw [show (2 * (p + 1) + 0 : Int) = 2 * p + 2 + 0 by omega]
                simp only [ex9, ex8, ex6, ex5]
                first | (rw [if_pos (by omega)]; done) | (rw [if_neg (by omega)]; done) | (exfalso; omega)
              have hv1 : (100 * x13) + (((100 * x14) * x6).tdiv x5) = smp (strN S R s) (D (rf R s 0)) e k 1 := by
                rw [smp_same hq]
                show _ = 100 * D (rf R s 0) (2 * p + 1) + (if pcs (D (rf R s 0)) p = 0 then 0 else (100 * (D (rf R s 0) (2 * (p + 1) + 1) - D (rf R s 0) (2 * p + 1)) * (wy - bg)).tdiv (pcs (D (rf R s 0)) p))
                rw [show (2 * (p + 1) + 1 : Int) = 2 * p + 2 + 1 by omega]
                simp only [ex14, ex13, ex6, ex5]
                first | (rw [if_pos (by omega)]; done) | (rw [if_neg (by omega)]; done) | (exfalso; omega)
              exact x_vret hΓ dX8_laysSample_168 (Nat.zero_le _) (Nat.zero_le _) ⟨rfl, ⟨⟨(τ16f _ _ (Or.inr (by omega))).trans (τ11r.trans hv0), τ16r.trans hv1⟩, fun q j h => (τ16f q j (by omega)).trans (τ11f q j (by omega))⟩, rfl, (fun q9 j9 hk9 => by exact ((τ16f q9 j9 (Or.inl (fun e9 => hk9 (by rw [e9, kd2, mdN _ (by decide)]; decide)))).trans (τ11f q9 j9 (Or.inl (fun e9 => hk9 (by rw [e9, kd2, mdN _ (by decide)]; decide)))))), rfl⟩
            · exact absurd c17 (by decide)
          · refine g_iconst hΓ dX8_laysSample_140 ?_
            refine g_goto (tgt := 160) hΓ dX8_laysSample_141 (by decide) ?_
            refine g_iadd hΓ dX8_laysSample_160 ?_
            refine x_iast hΓ kd2 ln2 ⟨by decide, rfl⟩ (hAw _ (by rw [kd2]; rfl)) (by omega) (by omega) dX8_laysSample_161 (fun τ18 τ18e => ?_)
            have τ18r : τ18 (rf R s 4) ((2 * k) + 1) = (100 * x13) + 0 := by rw [τ18e]; exact us_s _ _ _ _
            have τ18f : ∀ (q9 : Nat) (j9 : Int), (q9 ≠ (rf R s 4) ∨ j9 ≠ ((2 * k) + 1)) → τ18 q9 j9 = τ11 q9 j9 := fun q9 j9 hh => by rw [τ18e]; exact us_n hh
            refine g_iinc hΓ dX8_laysSample_162 rfl rfl (lv' := [some (.ref s), some (.int (iI k)), some (.int (iI e)), some (.int (iI wy)), some (.int (iI p)), some (.int (iI bg)), some (.int (iI x5)), some (.int (iI x6)), some (.int (iI 2)), some (.int (iI x13)), some (.int (iI x14))]) rfl ?_
            refine g_goto (tgt := 81) hΓ dX8_laysSample_165 (by decide) ?_
            refine g_iload hΓ rfl dX8_laysSample_81 ?_
            refine g_iconst hΓ dX8_laysSample_83 ?_
            refine g_icmp_ge (tgt := 168) hΓ (by omega) (by omega) dX8_laysSample_84 (by decide) (fun c19 => ?_) (fun c19 => ?_)
            · have hv0 : (100 * x8) + (((100 * x9) * x6).tdiv x5) = smp (strN S R s) (D (rf R s 0)) e k 0 := by
                rw [smp_same hq]
                show _ = 100 * D (rf R s 0) (2 * p + 0) + (if pcs (D (rf R s 0)) p = 0 then 0 else (100 * (D (rf R s 0) (2 * (p + 1) + 0) - D (rf R s 0) (2 * p + 0)) * (wy - bg)).tdiv (pcs (D (rf R s 0)) p))
                rw [show (2 * (p + 1) + 0 : Int) = 2 * p + 2 + 0 by omega]
                simp only [ex9, ex8, ex6, ex5]
                first | (rw [if_pos (by omega)]; done) | (rw [if_neg (by omega)]; done) | (exfalso; omega)
              have hv1 : (100 * x13) + 0 = smp (strN S R s) (D (rf R s 0)) e k 1 := by
                rw [smp_same hq]
                show _ = 100 * D (rf R s 0) (2 * p + 1) + (if pcs (D (rf R s 0)) p = 0 then 0 else (100 * (D (rf R s 0) (2 * (p + 1) + 1) - D (rf R s 0) (2 * p + 1)) * (wy - bg)).tdiv (pcs (D (rf R s 0)) p))
                rw [show (2 * (p + 1) + 1 : Int) = 2 * p + 2 + 1 by omega]
                simp only [ex13]
                first | (rw [if_pos (by omega)]; done) | (rw [if_neg (by omega)]; done) | (exfalso; omega)
              exact x_vret hΓ dX8_laysSample_168 (Nat.zero_le _) (Nat.zero_le _) ⟨rfl, ⟨⟨(τ18f _ _ (Or.inr (by omega))).trans (τ11r.trans hv0), τ18r.trans hv1⟩, fun q j h => (τ18f q j (by omega)).trans (τ11f q j (by omega))⟩, rfl, (fun q9 j9 hk9 => by exact ((τ18f q9 j9 (Or.inl (fun e9 => hk9 (by rw [e9, kd2, mdN _ (by decide)]; decide)))).trans (τ11f q9 j9 (Or.inl (fun e9 => hk9 (by rw [e9, kd2, mdN _ (by decide)]; decide)))))), rfl⟩
            · exact absurd c19 (by decide)
      · refine g_iconst hΓ dX8_laysSample_140 ?_
        refine g_goto (tgt := 160) hΓ dX8_laysSample_141 (by decide) ?_
        refine g_iadd hΓ dX8_laysSample_160 ?_
        refine x_iast hΓ kd2 ln2 ⟨by decide, rfl⟩ (hAw _ (by rw [kd2]; rfl)) (by omega) (by omega) dX8_laysSample_161 (fun τ20 τ20e => ?_)
        have τ20r : τ20 (rf R s 4) ((2 * k) + 0) = (100 * x8) + 0 := by rw [τ20e]; exact us_s _ _ _ _
        have τ20f : ∀ (q9 : Nat) (j9 : Int), (q9 ≠ (rf R s 4) ∨ j9 ≠ ((2 * k) + 0)) → τ20 q9 j9 = D q9 j9 := fun q9 j9 hh => by rw [τ20e]; exact us_n hh
        refine g_iinc hΓ dX8_laysSample_162 rfl rfl (lv' := [some (.ref s), some (.int (iI k)), some (.int (iI e)), some (.int (iI wy)), some (.int (iI p)), some (.int (iI bg)), some (.int (iI x5)), some (.int (iI x6)), some (.int (iI 1)), some (.int (iI x8)), some (.int (iI x9))]) rfl ?_
        refine g_goto (tgt := 81) hΓ dX8_laysSample_165 (by decide) ?_
        refine g_iload hΓ rfl dX8_laysSample_81 ?_
        refine g_iconst hΓ dX8_laysSample_83 ?_
        refine g_icmp_ge (tgt := 168) hΓ (by omega) (by omega) dX8_laysSample_84 (by decide) (fun c21 => ?_) (fun c21 => ?_)
        · exact absurd c21 (by decide)
        · refine g_aload_n hΓ rfl dX8_laysSample_87 ?_
          refine x_geta (r := some (rf R s 0)) (c := 8) hE hΓ in_X8 rfl hs ⟨by decide, rfl⟩ 0 (ji := 0) rfl (by decide) (by decide) rfl q802 rfl rfl hsf1.1 dX8_laysSample_88 ?_
          show gW Γ E (xM E S τ20 R) 0 0 _ _ (.ref (rf R s 0) :: _)
          refine g_iconst hΓ dX8_laysSample_91 ?_
          refine g_iload hΓ rfl dX8_laysSample_92 ?_
          refine g_imul hΓ dX8_laysSample_94 ?_
          refine g_iload hΓ rfl dX8_laysSample_95 ?_
          refine g_iadd hΓ dX8_laysSample_97 ?_
          refine x_iald hΓ hsf1.2.1 rfl ⟨by decide, rfl⟩ (by omega) (by omega) dX8_laysSample_98 ?_
          refine g_topi ((τ20f (rf R s 0) ((2 * p) + 1) (Or.inl (ne_k hsf1.2.1 kd2 (by decide))))) ?_
          obtain ⟨x22, ex22⟩ : ∃ z9 : Int, z9 = D (rf R s 0) ((2 * p) + 1) := ⟨_, rfl⟩
          refine g_topi ex22.symm ?_
          refine g_istore hΓ dX8_laysSample_99 rfl (Nat.le_of_ble_eq_true rfl) (lv' := [some (.ref s), some (.int (iI k)), some (.int (iI e)), some (.int (iI wy)), some (.int (iI p)), some (.int (iI bg)), some (.int (iI x5)), some (.int (iI x6)), some (.int (iI 1)), some (.int (iI x22)), some (.int (iI x9))]) rfl ?_
          refine g_aload_n hΓ rfl dX8_laysSample_101 ?_
          refine x_geta (r := some (rf R s 0)) (c := 8) hE hΓ in_X8 rfl hs ⟨by decide, rfl⟩ 0 (ji := 0) rfl (by decide) (by decide) rfl q802 rfl rfl hsf1.1 dX8_laysSample_102 ?_
          show gW Γ E (xM E S τ20 R) 0 0 _ _ (.ref (rf R s 0) :: _)
          refine g_iconst hΓ dX8_laysSample_105 ?_
          refine g_iload hΓ rfl dX8_laysSample_106 ?_
          refine g_imul hΓ dX8_laysSample_108 ?_
          refine g_iconst hΓ dX8_laysSample_109 ?_
          refine g_iadd hΓ dX8_laysSample_110 ?_
          refine g_iload hΓ rfl dX8_laysSample_111 ?_
          refine g_iadd hΓ dX8_laysSample_113 ?_
          refine x_iald hΓ hsf1.2.1 rfl ⟨by decide, rfl⟩ (by omega) (by omega) dX8_laysSample_114 ?_
          refine g_topi ((τ20f (rf R s 0) (((2 * p) + 2) + 1) (Or.inl (ne_k hsf1.2.1 kd2 (by decide))))) ?_
          refine g_iload hΓ rfl dX8_laysSample_115 ?_
          refine g_isub hΓ dX8_laysSample_117 ?_
          obtain ⟨x23, ex23⟩ : ∃ z9 : Int, z9 = (D (rf R s 0) (((2 * p) + 2) + 1)) - x22 := ⟨_, rfl⟩
          refine g_topi ex23.symm ?_
          refine g_istore hΓ dX8_laysSample_118 rfl (Nat.le_of_ble_eq_true rfl) (lv' := [some (.ref s), some (.int (iI k)), some (.int (iI e)), some (.int (iI wy)), some (.int (iI p)), some (.int (iI bg)), some (.int (iI x5)), some (.int (iI x6)), some (.int (iI 1)), some (.int (iI x22)), some (.int (iI x23))]) rfl ?_
          refine g_aload_n hΓ rfl dX8_laysSample_120 ?_
          refine x_geta (r := some (rf R s 4)) (c := 8) hE hΓ in_X8 rfl hs ⟨by decide, rfl⟩ 4 (ji := 4) rfl (by decide) (by decide) rfl q808 rfl rfl hsf1.2.2.2.2.2.2.1 dX8_laysSample_121 ?_
          show gW Γ E (xM E S τ20 R) 0 0 _ _ (.ref (rf R s 4) :: _)
          refine g_iconst hΓ dX8_laysSample_124 ?_
          refine g_iload_n hΓ rfl dX8_laysSample_125 ?_
          refine g_imul hΓ dX8_laysSample_126 ?_
          refine g_iload hΓ rfl dX8_laysSample_127 ?_
          refine g_iadd hΓ dX8_laysSample_129 ?_
          refine g_bipush hΓ (by decide) dX8_laysSample_130 ?_
          refine g_iload hΓ rfl dX8_laysSample_132 ?_
          refine g_imul hΓ dX8_laysSample_134 ?_
          refine g_iload hΓ rfl dX8_laysSample_135 ?_
          refine g_if_ne (tgt := 144) hΓ (by omega) dX8_laysSample_137 (by decide) (fun c24 => ?_) (fun c24 => ?_)
          · refine g_ldc2 (n := 100) hΓ rfl q924 (by decide) dX8_laysSample_144 ?_
            refine g_iload hΓ rfl dX8_laysSample_147 ?_
            refine g_i2l hΓ (by omega) dX8_laysSample_149 ?_
            refine g_lmul hΓ dX8_laysSample_150 ?_
            refine g_iload hΓ rfl dX8_laysSample_151 ?_
            refine g_i2l hΓ (by omega) dX8_laysSample_153 ?_
            refine g_lmul hΓ dX8_laysSample_154 ?_
            refine g_iload hΓ rfl dX8_laysSample_155 ?_
            refine g_i2l hΓ (by omega) dX8_laysSample_157 ?_
            have hcc := mul_b (a := 100 * x23) (b := x6) (A := 9900) (B := 14000) (by omega) (by omega) (by omega) (by omega)
            refine g_ldiv hΓ (by omega) (by omega) (by omega) dX8_laysSample_158 ?_
            refine g_l2i hΓ dX8_laysSample_159 ?_
            refine g_iadd hΓ dX8_laysSample_160 ?_
            refine x_iast hΓ kd2 ln2 ⟨by decide, rfl⟩ (hAw _ (by rw [kd2]; rfl)) (by omega) (by omega) dX8_laysSample_161 (fun τ25 τ25e => ?_)
            have τ25r : τ25 (rf R s 4) ((2 * k) + 1) = (100 * x22) + (((100 * x23) * x6).tdiv x5) := by rw [τ25e]; exact us_s _ _ _ _
            have τ25f : ∀ (q9 : Nat) (j9 : Int), (q9 ≠ (rf R s 4) ∨ j9 ≠ ((2 * k) + 1)) → τ25 q9 j9 = τ20 q9 j9 := fun q9 j9 hh => by rw [τ25e]; exact us_n hh
            refine g_iinc hΓ dX8_laysSample_162 rfl rfl (lv' := [some (.ref s), some (.int (iI k)), some (.int (iI e)), some (.int (iI wy)), some (.int (iI p)), some (.int (iI bg)), some (.int (iI x5)), some (.int (iI x6)), some (.int (iI 2)), some (.int (iI x22)), some (.int (iI x23))]) rfl ?_
            refine g_goto (tgt := 81) hΓ dX8_laysSample_165 (by decide) ?_
            refine g_iload hΓ rfl dX8_laysSample_81 ?_
            refine g_iconst hΓ dX8_laysSample_83 ?_
            refine g_icmp_ge (tgt := 168) hΓ (by omega) (by omega) dX8_laysSample_84 (by decide) (fun c26 => ?_) (fun c26 => ?_)
            · have hv0 : (100 * x8) + 0 = smp (strN S R s) (D (rf R s 0)) e k 0 := by
                rw [smp_same hq]
                show _ = 100 * D (rf R s 0) (2 * p + 0) + (if pcs (D (rf R s 0)) p = 0 then 0 else (100 * (D (rf R s 0) (2 * (p + 1) + 0) - D (rf R s 0) (2 * p + 0)) * (wy - bg)).tdiv (pcs (D (rf R s 0)) p))
                rw [show (2 * (p + 1) + 0 : Int) = 2 * p + 2 + 0 by omega]
                simp only [ex8]
                first | (rw [if_pos (by omega)]; done) | (rw [if_neg (by omega)]; done) | (exfalso; omega)
              have hv1 : (100 * x22) + (((100 * x23) * x6).tdiv x5) = smp (strN S R s) (D (rf R s 0)) e k 1 := by
                rw [smp_same hq]
                show _ = 100 * D (rf R s 0) (2 * p + 1) + (if pcs (D (rf R s 0)) p = 0 then 0 else (100 * (D (rf R s 0) (2 * (p + 1) + 1) - D (rf R s 0) (2 * p + 1)) * (wy - bg)).tdiv (pcs (D (rf R s 0)) p))
                rw [show (2 * (p + 1) + 1 : Int) = 2 * p + 2 + 1 by omega]
                simp only [ex23, ex22, ex6, ex5]
                first | (rw [if_pos (by omega)]; done) | (rw [if_neg (by omega)]; done) | (exfalso; omega)
              exact x_vret hΓ dX8_laysSample_168 (Nat.zero_le _) (Nat.zero_le _) ⟨rfl, ⟨⟨(τ25f _ _ (Or.inr (by omega))).trans (τ20r.trans hv0), τ25r.trans hv1⟩, fun q j h => (τ25f q j (by omega)).trans (τ20f q j (by omega))⟩, rfl, (fun q9 j9 hk9 => by exact ((τ25f q9 j9 (Or.inl (fun e9 => hk9 (by rw [e9, kd2, mdN _ (by decide)]; decide)))).trans (τ20f q9 j9 (Or.inl (fun e9 => hk9 (by rw [e9, kd2, mdN _ (by decide)]; decide)))))), rfl⟩
            · exact absurd c26 (by decide)
          · refine g_iconst hΓ dX8_laysSample_140 ?_
            refine g_goto (tgt := 160) hΓ dX8_laysSample_141 (by decide) ?_
            refine g_iadd hΓ dX8_laysSample_160 ?_
            refine x_iast hΓ kd2 ln2 ⟨by decide, rfl⟩ (hAw _ (by rw [kd2]; rfl)) (by omega) (by omega) dX8_laysSample_161 (fun τ27 τ27e => ?_)
            have τ27r : τ27 (rf R s 4) ((2 * k) + 1) = (100 * x22) + 0 := by rw [τ27e]; exact us_s _ _ _ _
            have τ27f : ∀ (q9 : Nat) (j9 : Int), (q9 ≠ (rf R s 4) ∨ j9 ≠ ((2 * k) + 1)) → τ27 q9 j9 = τ20 q9 j9 := fun q9 j9 hh => by rw [τ27e]; exact us_n hh
            refine g_iinc hΓ dX8_laysSample_162 rfl rfl (lv' := [some (.ref s), some (.int (iI k)), some (.int (iI e)), some (.int (iI wy)), some (.int (iI p)), some (.int (iI bg)), some (.int (iI x5)), some (.int (iI x6)), some (.int (iI 2)), some (.int (iI x22)), some (.int (iI x23))]) rfl ?_
            refine g_goto (tgt := 81) hΓ dX8_laysSample_165 (by decide) ?_
            refine g_iload hΓ rfl dX8_laysSample_81 ?_
            refine g_iconst hΓ dX8_laysSample_83 ?_
            refine g_icmp_ge (tgt := 168) hΓ (by omega) (by omega) dX8_laysSample_84 (by decide) (fun c28 => ?_) (fun c28 => ?_)
            · have hv0 : (100 * x8) + 0 = smp (strN S R s) (D (rf R s 0)) e k 0 := by
                rw [smp_same hq]
                show _ = 100 * D (rf R s 0) (2 * p + 0) + (if pcs (D (rf R s 0)) p = 0 then 0 else (100 * (D (rf R s 0) (2 * (p + 1) + 0) - D (rf R s 0) (2 * p + 0)) * (wy - bg)).tdiv (pcs (D (rf R s 0)) p))
                rw [show (2 * (p + 1) + 0 : Int) = 2 * p + 2 + 0 by omega]
                simp only [ex8]
                first | (rw [if_pos (by omega)]; done) | (rw [if_neg (by omega)]; done) | (exfalso; omega)
              have hv1 : (100 * x22) + 0 = smp (strN S R s) (D (rf R s 0)) e k 1 := by
                rw [smp_same hq]
                show _ = 100 * D (rf R s 0) (2 * p + 1) + (if pcs (D (rf R s 0)) p = 0 then 0 else (100 * (D (rf R s 0) (2 * (p + 1) + 1) - D (rf R s 0) (2 * p + 1)) * (wy - bg)).tdiv (pcs (D (rf R s 0)) p))
                rw [show (2 * (p + 1) + 1 : Int) = 2 * p + 2 + 1 by omega]
                simp only [ex22]
                first | (rw [if_pos (by omega)]; done) | (rw [if_neg (by omega)]; done) | (exfalso; omega)
              exact x_vret hΓ dX8_laysSample_168 (Nat.zero_le _) (Nat.zero_le _) ⟨rfl, ⟨⟨(τ27f _ _ (Or.inr (by omega))).trans (τ20r.trans hv0), τ27r.trans hv1⟩, fun q j h => (τ27f q j (by omega)).trans (τ20f q j (by omega))⟩, rfl, (fun q9 j9 hk9 => by exact ((τ27f q9 j9 (Or.inl (fun e9 => hk9 (by rw [e9, kd2, mdN _ (by decide)]; decide)))).trans (τ20f q9 j9 (Or.inl (fun e9 => hk9 (by rw [e9, kd2, mdN _ (by decide)]; decide)))))), rfl⟩
            · exact absurd c28 (by decide)
  have loop : ∀ (fu : Nat) (p : Int) (bg : Int), (strN S R s - p).toNat < fu → (0 ≤ p ∧ p ≤ strN S R s - 2) → (bg = lenF (D (rf R s 0)) p.toNat) → (0 ≤ wy - bg ∧ wy - bg ≤ lnS (strN S R s) (D (rf R s 0)) - lenF (D (rf R s 0)) p.toNat) → (smP (D (rf R s 0)) (strN S R s - 2 - p).toNat p (wy - bg) = smQ (strN S R s) (D (rf R s 0)) e k) → gW Γ E (xM E S D R) 0 0 19 [some (.ref s), some (.int (iI k)), some (.int (iI e)), some (.int (iI wy)), some (.int (iI p)), some (.int (iI bg)), none, none, none, none, none] [] := by
    intro fu
    induction fu with
    | zero => intro p bg hn; exact absurd hn (Nat.not_lt_zero _)
    | succ fu ih_loop =>
      intro p bg hn hp hbg hl hq
      have hpr := pcs_r hsk1 (k := p) (by omega) (by omega)
      have hlr := lenF_r hsk1 p.toNat (by omega)
      refine g_iload hΓ rfl dX8_laysSample_19 ?_
      refine g_aload_n hΓ rfl dX8_laysSample_21 ?_
      refine x_geta (r := some (rf R s 1)) (c := 8) hE hΓ in_X8 rfl hs ⟨by decide, rfl⟩ 1 (ji := 1) rfl (by decide) (by decide) rfl q804 rfl rfl hsf1.2.2.2.1 dX8_laysSample_22 ?_
      show gW Γ E (xM E S D R) 0 0 _ _ (.ref (rf R s 1) :: _)
      refine x_alen hΓ hsf1.2.2.2.2.1 rfl ⟨by decide, by decide⟩ dX8_laysSample_25 ?_
      refine g_iconst hΓ dX8_laysSample_26 ?_
      refine g_isub hΓ dX8_laysSample_27 ?_
      refine g_icmp_ge (tgt := 63) hΓ (by omega) (by omega) dX8_laysSample_28 (by decide) (fun c29 => ?_) (fun c29 => ?_)
      · first | exact ex p bg (hq.symm.trans (by rw [show (strN S R s - 2 - p).toNat = 0 by omega]; rfl)) (by omega) | exact ex p bg (hq.symm.trans (smP_stop (by omega) _)) (by omega)
      · refine g_iload hΓ rfl dX8_laysSample_31 ?_
        refine g_aload_n hΓ rfl dX8_laysSample_33 ?_
        refine x_geta (r := some (rf R s 1)) (c := 8) hE hΓ in_X8 rfl hs ⟨by decide, rfl⟩ 1 (ji := 1) rfl (by decide) (by decide) rfl q804 rfl rfl hsf1.2.2.2.1 dX8_laysSample_34 ?_
        show gW Γ E (xM E S D R) 0 0 _ _ (.ref (rf R s 1) :: _)
        refine g_iload hΓ rfl dX8_laysSample_37 ?_
        refine x_iald hΓ hsf1.2.2.2.2.1 rfl ⟨by decide, rfl⟩ (by omega) (by omega) dX8_laysSample_39 ?_
        refine g_topi ((hsp1 p (by omega) (by omega))) ?_
        refine g_iadd hΓ dX8_laysSample_40 ?_
        refine g_iload_n hΓ rfl dX8_laysSample_41 ?_
        refine g_icmp_ge (tgt := 63) hΓ (by omega) (by omega) dX8_laysSample_42 (by decide) (fun c30 => ?_) (fun c30 => ?_)
        · first | exact ex p bg (hq.symm.trans (by rw [show (strN S R s - 2 - p).toNat = 0 by omega]; rfl)) (by omega) | exact ex p bg (hq.symm.trans (smP_stop (by omega) _)) (by omega)
        · refine g_iload hΓ rfl dX8_laysSample_45 ?_
          refine g_aload_n hΓ rfl dX8_laysSample_47 ?_
          refine x_geta (r := some (rf R s 1)) (c := 8) hE hΓ in_X8 rfl hs ⟨by decide, rfl⟩ 1 (ji := 1) rfl (by decide) (by decide) rfl q804 rfl rfl hsf1.2.2.2.1 dX8_laysSample_48 ?_
          show gW Γ E (xM E S D R) 0 0 _ _ (.ref (rf R s 1) :: _)
          refine g_iload hΓ rfl dX8_laysSample_51 ?_
          refine x_iald hΓ hsf1.2.2.2.2.1 rfl ⟨by decide, rfl⟩ (by omega) (by omega) dX8_laysSample_53 ?_
          refine g_topi ((hsp1 p (by omega) (by omega))) ?_
          refine g_iadd hΓ dX8_laysSample_54 ?_
          obtain ⟨x31, ex31⟩ : ∃ z9 : Int, z9 = bg + (pcs (D (rf R s 0)) p) := ⟨_, rfl⟩
          refine g_topi ex31.symm ?_
          refine g_istore hΓ dX8_laysSample_55 rfl (Nat.le_of_ble_eq_true rfl) (lv' := [some (.ref s), some (.int (iI k)), some (.int (iI e)), some (.int (iI wy)), some (.int (iI p)), some (.int (iI x31)), none, none, none, none, none]) rfl ?_
          obtain ⟨x32, ex32⟩ : ∃ z9 : Int, z9 = p + 1 := ⟨_, rfl⟩
          refine g_iinc hΓ dX8_laysSample_57 rfl rfl (lv' := [some (.ref s), some (.int (iI k)), some (.int (iI e)), some (.int (iI wy)), some (.int (iI x32)), some (.int (iI x31)), none, none, none, none, none]) (by rw [ex32]; rfl) ?_
          refine g_goto (tgt := 19) hΓ dX8_laysSample_60 (by decide) ?_
          exact ih_loop x32 x31 (by omega) (by omega) (by rw [show x32.toNat = p.toNat + 1 by omega, lenF, ← hbg, show ((p.toNat : Nat) : Int) = p by omega]; exact ex31) (by rw [show x32.toNat = p.toNat + 1 by omega, lenF, show ((p.toNat : Nat) : Int) = p by omega]; omega) (by rw [← hq, show (strN S R s - 2 - p).toNat = (strN S R s - 2 - x32).toNat + 1 by omega, smP, if_pos (by omega), show p + 1 = x32 by omega, show wy - bg - pcs (D (rf R s 0)) p = wy - x31 by omega])
  refine g_iload_n hΓ rfl dX8_laysSample_0 ?_
  refine g_i2l hΓ (by omega) dX8_laysSample_1 ?_
  refine g_aload_n hΓ rfl dX8_laysSample_2 ?_
  refine x_geti (c := 8) hE hΓ in_X8 rfl hs ⟨by decide, rfl⟩ 2 (ji := 2) rfl (by decide) (by decide) rfl q805 rfl rfl dX8_laysSample_3 ?_
  refine g_topi (hsl1) ?_
  refine g_i2l hΓ (by omega) dX8_laysSample_6 ?_
  refine g_lmul hΓ dX8_laysSample_7 ?_
  refine g_iload_n hΓ rfl dX8_laysSample_8 ?_
  refine g_i2l hΓ (by omega) dX8_laysSample_9 ?_
  refine g_ldivN hΓ (by omega) (by omega) (by omega) dX8_laysSample_10 ?_
  refine g_l2i hΓ dX8_laysSample_11 ?_
  obtain ⟨x33, ex33⟩ : ∃ z9 : Int, z9 = (k * (lnS (strN S R s) (D (rf R s 0)))) / e := ⟨_, rfl⟩
  refine g_topi ex33.symm ?_
  refine g_istore_n hΓ dX8_laysSample_12 rfl (Nat.le_of_ble_eq_true rfl) (lv' := [some (.ref s), some (.int (iI k)), some (.int (iI e)), some (.int (iI x33)), none, none, none, none, none, none, none]) rfl ?_
  refine g_iconst hΓ dX8_laysSample_13 ?_
  refine g_istore hΓ dX8_laysSample_14 rfl (Nat.le_of_ble_eq_true rfl) (lv' := [some (.ref s), some (.int (iI k)), some (.int (iI e)), some (.int (iI x33)), some (.int (iI 0)), none, none, none, none, none, none]) rfl ?_
  refine g_iconst hΓ dX8_laysSample_16 ?_
  refine g_istore hΓ dX8_laysSample_17 rfl (Nat.le_of_ble_eq_true rfl) (lv' := [some (.ref s), some (.int (iI k)), some (.int (iI e)), some (.int (iI x33)), some (.int (iI 0)), some (.int (iI 0)), none, none, none, none, none]) rfl ?_
  rw [ex33, ← hwy]
  exact loop 13 0 0 (by omega) (by omega) rfl (by show 0 ≤ wy - 0 ∧ wy - 0 ≤ lnS (strN S R s) (D (rf R s 0)) - 0; omega) (by rw [smQ, ← hwy, show (strN S R s - 2 - 0).toNat = (strN S R s - 2).toNat by omega, show wy - 0 = wy by omega])
