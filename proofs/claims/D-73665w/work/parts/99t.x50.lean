set_option maxRecDepth 100000
set_option maxHeartbeats 4000000 in
theorem x_X0_fits {l : Launch} {E : gE} {X : State → Prop} {Z : Nat → Nat} {Y : Nat → Option Nat} (hE : E.2.1 = clsX) (hX : xOK l E X Z Y) (hL : xLam l E X (Z 20) (Z 21)) (S : xS) (D : xD) (R : xR) (P : xPk) (σ : mS) (q k : Int) (hx : Rx E Z S D R P σ) (hq : r32 q) (hk : r32 k) (hP0 : P.2.1 99 = 0) : xC l E X yX0_fits cX0_fits 7 (some .int) 13 0 0 [.ref (P.1), .int (iI q), .int (iI k)] S D R (fun rv S' D' R' => rv = some (.int (iI (sp_fits σ q k))) ∧ (Rx E Z S D' R' P σ) ∧ S' = S ∧ fr S D D' [8003, 42, 43, 44, 112, 115, 116, 117, 46, 47, 48, 49, 1022, 68, 69, 132, 83] ∧ fr S R R' [1009, 1010]) := by
  refine xC.of hX.1 (by decide) [some (.ref (P.1)), some (.int (iI q)), some (.int (iI k)), none, none, none, none] (Nat.le_of_ble_eq_true rfl) rfl rfl (fun Γ hΓ => ?_)
  obtain ⟨hg, hp, hki, hro, hnw, hbh, hsa, hpd⟩ := id hx
  obtain ⟨N, NI, NM, NV, hN⟩ := (hx).now
  have hAw := hg.2.2.2.2.2.2
  have hG : GS S D R := hg.1
  obtain ⟨h1000, h1009, h1042, h1043, h1044, h1045, h1046, h1047, hms, hsi, hsm, hnm⟩ := id hro
  have eN := hN.2.2.2.2.2.2.2.2.2.2.2.2
  have kNV : (S NV).1 = 45 := by rw [hN.2.2.2.1.2]
  have nNV : (S NV).2.1 = 6 := by rw [hN.2.2.2.1.2]
  replace hsa := hsa hP0
  have hto := hsa.2.1.1
  refine g_iload_n hΓ rfl dX0_fits_0 ?_
  refine g_i2l hΓ (by omega) dX0_fits_1 ?_
  refine g_lconst (a := 0) hΓ rfl dX0_fits_2 ?_
  refine g_ldc2 (n := 2) hΓ rfl q846 (by decide) dX0_fits_3 ?_
  refine x_callS (As := [.long (lI q), .long (lI 0), .long (lI 2)]) (rest := []) hΓ (x_X0_isIn hE hX S D R q 0 2 (by first | assumption | omega) (by first | assumption | omega) (by first | assumption | omega)) rfl q387 q388 q123 q389 ndX0_isIn rfl (by decide) (by decide) (Nat.zero_le _) (Nat.zero_le _) rfl (Nat.le_of_ble_eq_true rfl) dX0_fits_6 rfl (fun v1 S1 τ1 ρ1 h1 => ?_)
  obtain ⟨rfl, S1e, τ1e, ρ1e⟩ := h1
  have S1e := S1e.symm; subst S1e
  have τ1e := τ1e.symm; subst τ1e
  have ρ1e := ρ1e.symm; subst ρ1e
  show gW Γ E (xM E S D R) _ _ _ _ (.int (iI (if 0 ≤ q ∧ q ≤ 2 then 1 else 0)) :: _)
  refine g_ifB_eq (tgt := 27) hΓ  dX0_fits_9 (by decide) (fun c2 => ?_) (fun c2 => ?_)
  · refine g_iconst hΓ dX0_fits_27 ?_
    exact x_iret hΓ dX0_fits_28 (Nat.zero_le _) (Nat.zero_le _) ⟨ri (by rw [sp_fits, if_neg (by omega)]), hx, rfl, (fun q9 j9 hk9 => rfl), (fun q9 j9 hk9 => rfl)⟩
  · refine g_aload_n hΓ rfl dX0_fits_12 ?_
    refine x_geta (r := some (P.2.1 31)) (c := 0) hE hΓ in_X0 rfl hp.1 ⟨by decide, rfl⟩ 31 (ji := 31) rfl (by decide) (by decide) rfl q277 rfl rfl (pL_r hp 31 rfl rfl) dX0_fits_13 ?_
    show gW Γ E (xM E S D R) 0 0 _ _ (.ref (P.2.1 31) :: _)
    have hz4 : D (P.2.1 31) 2 = σ 6 0 := hsa.1
    refine x_callV (As := []) (rest := []) (c := 10) hE hΓ (x_J2_isEmpty hE hX S D R (P.2.1 31) 16 (pL_k hp 31 rfl (n := 16) rfl) (by decide) (by omega) ) (pL_k hp 31 rfl (n := 16) rfl) ⟨by decide, rfl⟩ rfl rfl q1143 q1144 q1145 q127 q1146 ndJ2_isEmpty rfl (by decide) (by decide) (Nat.zero_le _) (Nat.zero_le _) rfl (Nat.le_of_ble_eq_true rfl) dX0_fits_16 rfl (fun v3 S3 τ3 ρ3 h3 => ?_)
    obtain ⟨rfl, S3e, τ3e, ρ3e⟩ := h3
    have S3e := S3e.symm; subst S3e
    have τ3e := τ3e.symm; subst τ3e
    have ρ3e := ρ3e.symm; subst ρ3e
    refine g_topi (show (if D (P.2.1 31) 2 = 0 then 1 else 0 : Int) = (if σ 6 0 = 0 then 1 else 0) by rw [hsa.1]) ?_
    show gW Γ E (xM E S D R) _ _ _ _ (.int (iI (if σ 6 0 = 0 then 1 else 0)) :: _)
    refine g_ifB_ne (tgt := 27) hΓ  dX0_fits_19 (by decide) (fun c5 => ?_) (fun c5 => ?_)
    · refine g_iconst hΓ dX0_fits_27 ?_
      exact x_iret hΓ dX0_fits_28 (Nat.zero_le _) (Nat.zero_le _) ⟨ri (by rw [sp_fits, if_neg (by omega)]), hx, rfl, (fun q9 j9 hk9 => rfl), (fun q9 j9 hk9 => rfl)⟩
    · refine g_iload_n hΓ rfl dX0_fits_22 ?_
      refine g_iconst hΓ dX0_fits_23 ?_
      refine g_icmp_ge (tgt := 29) hΓ (by omega) (by omega) dX0_fits_24 (by decide) (fun c6 => ?_) (fun c6 => ?_)
      · refine g_iload_n hΓ rfl dX0_fits_29 ?_
        refine x_callS (As := [.int (iI q)]) (rest := []) hΓ (x_X0_mostOf hE hX S D R q (by first | assumption | omega)) rfl q1227 q1228 q123 q1229 ndX0_mostOf rfl (by decide) (by decide) (Nat.zero_le _) (Nat.zero_le _) rfl (Nat.le_of_ble_eq_true rfl) dX0_fits_30 rfl (fun v7 S7 τ7 ρ7 h7 => ?_)
        obtain ⟨rfl, S7e, τ7e, ρ7e⟩ := h7
        have S7e := S7e.symm; subst S7e
        have τ7e := τ7e.symm; subst τ7e
        have ρ7e := ρ7e.symm; subst ρ7e
        show gW Γ E (xM E S D R) _ _ _ _ (.int (iI (if q = 2 then 16 else 40)) :: _)
        obtain ⟨x8, ex8⟩ : ∃ z9 : Int, z9 = if q = 2 then 16 else 40 := ⟨_, rfl⟩
        refine g_topi ex8.symm ?_
        refine g_istore_n hΓ dX0_fits_33 rfl (Nat.le_of_ble_eq_true rfl) (lv' := [some (.ref (P.1)), some (.int (iI q)), some (.int (iI k)), some (.int (iI x8)), none, none, none]) rfl ?_
        refine g_iconst hΓ dX0_fits_34 ?_
        refine g_istore hΓ dX0_fits_35 rfl (Nat.le_of_ble_eq_true rfl) (lv' := [some (.ref (P.1)), some (.int (iI q)), some (.int (iI k)), some (.int (iI x8)), some (.int (iI 0)), none, none]) rfl ?_
        have hmo : x8 = if q = 2 then 16 else 40 := by omega
        have hm40 : 16 ≤ x8 ∧ x8 ≤ 40 := by rw [hmo]; split <;> omega
        have hvn : (vlN q).toNat = (x8 + 1).toNat := by rw [vlN, hmo]; split <;> rfl
        have lA : ∀ (fu : Nat) (t : xD) (v : Int), (x8 + 1 - v).toNat < fu → (Rx E Z S t R P σ) → (fr S D t [83]) → (0 ≤ v ∧ v ≤ x8 + 1) → (∀ j, 0 ≤ j → j < v → t (P.2.1 33) j = 1) → gW Γ E (xM E S t R) 0 0 40 [some (.ref (P.1)), some (.int (iI q)), some (.int (iI k)), some (.int (iI x8)), some (.int (iI 0)), some (.int (iI v)), none] [] := by
          intro fu
          induction fu with
          | zero => intro t v hn; exact absurd hn (Nat.not_lt_zero _)
          | succ fu ih_lA =>
            intro t v hn hx1 ht hv hone
            refine g_iload hΓ rfl dX0_fits_40 ?_
            refine g_iload_n hΓ rfl dX0_fits_42 ?_
            refine g_icmp_gt (tgt := 60) hΓ (by omega) (by omega) dX0_fits_43 (by decide) (fun c9 => ?_) (fun c9 => ?_)
            · have ht0 : fr S D t [8003, 42, 43, 44, 112, 115, 116, 117, 46, 47, 48, 49, 1022, 68, 69, 132, 83] := fr_w ht (by decide)
              have hx0 := hx1
              have hF0 : ∀ v, 0 ≤ v → v ≤ x8 → t (P.2.1 33) v = dfF σ q v (0 : Int).toNat := fun v9 x9 y9 => hone v9 x9 (by omega)
              have lB : ∀ (fu : Nat) (u : xD) (ρ : xR) (i : Int), (σ 6 0 - i).toNat < fu → (Rx E Z S u ρ P σ) → (fr S D u [8003, 42, 43, 44, 112, 115, 116, 117, 46, 47, 48, 49, 1022, 68, 69, 132, 83]) → (fr S R ρ [1009, 1010]) → (0 ≤ i ∧ i ≤ σ 6 0) → (∀ v, 0 ≤ v → v ≤ x8 → u (P.2.1 33) v = dfF σ q v i.toNat) → gW Γ E (xM E S u ρ) 0 0 63 [some (.ref (P.1)), some (.int (iI q)), some (.int (iI k)), some (.int (iI x8)), some (.int (iI 0)), some (.int (iI i)), none] [] := by
                intro fu
                induction fu with
                | zero => intro u ρ i hn; exact absurd hn (Nat.not_lt_zero _)
                | succ fu ih_lB =>
                  intro u ρ i hn hx1 ht hr hi hF
                  obtain ⟨hg, hp, hki, hro, hnw, hbh, hsa, hpd⟩ := id hx1
                  obtain ⟨N, NI, NM, NV, hN⟩ := (hx1).now
                  have hAw := hg.2.2.2.2.2.2
                  have hG : GS S u ρ := hg.1
                  obtain ⟨h1000, h1009, h1042, h1043, h1044, h1045, h1046, h1047, hms, hsi, hsm, hnm⟩ := id hro
                  have eN := hN.2.2.2.2.2.2.2.2.2.2.2.2
                  have kNV : (S NV).1 = 45 := by rw [hN.2.2.2.1.2]
                  have nNV : (S NV).2.1 = 6 := by rw [hN.2.2.2.1.2]
                  replace hsa := hsa hP0
                  have h6s := hsa.1
                  have hto := hsa.2.1.1
                  refine g_iload hΓ rfl dX0_fits_63 ?_
                  refine g_aload_n hΓ rfl dX0_fits_65 ?_
                  refine x_geta (r := some (P.2.1 31)) (c := 0) hE hΓ in_X0 rfl hp.1 ⟨by decide, rfl⟩ 31 (ji := 31) rfl (by decide) (by decide) rfl q277 rfl rfl (pL_r hp 31 rfl rfl) dX0_fits_66 ?_
                  show gW Γ E (xM E S u ρ) 0 0 _ _ (.ref (P.2.1 31) :: _)
                  refine x_callV (As := []) (rest := [.int (iI i)]) (c := 10) hE hΓ (x_J2_size hE hX S u ρ (P.2.1 31) 16 (pL_k hp 31 rfl (n := 16) rfl) (by decide) ) (pL_k hp 31 rfl (n := 16) rfl) ⟨by decide, rfl⟩ rfl rfl q845 q662 q663 q127 q664 ndJ2_size rfl (by decide) (by decide) (Nat.zero_le _) (Nat.zero_le _) rfl (Nat.le_of_ble_eq_true rfl) dX0_fits_69 rfl (fun v10 S10 τ10 ρ10 h10 => ?_)
                  obtain ⟨rfl, S10e, τ10e, ρ10e⟩ := h10
                  have S10e := S10e.symm; subst S10e
                  have τ10e := τ10e.symm; subst τ10e
                  have ρ10e := ρ10e.symm; subst ρ10e
                  refine g_topi (hsa.1) ?_
                  show gW Γ E (xM E S u ρ) _ _ _ _ (.int (iI (σ 6 0)) :: _)
                  refine g_icmp_ge (tgt := 142) hΓ (by omega) (by omega) dX0_fits_72 (by decide) (fun c11 => ?_) (fun c11 => ?_)
                  · have hie : i = σ 6 0 := by omega
                    have hF9 : ∀ v, 0 ≤ v → v ≤ x8 → u (P.2.1 33) v = dfF σ q v (σ 6 0).toNat := fun v9 x9 y9 => by rw [hF v9 x9 y9, hie]
                    have lD : ∀ (fu : Nat) (n : Int) (v : Int), (x8 + 1 - v).toNat < fu → (0 ≤ n ∧ n ≤ v) → (0 ≤ v ∧ v ≤ x8 + 1) → (ftF (fun v => dfF σ q v (σ 6 0).toNat) k (x8 + 1 - v).toNat v n = ftF (fun v => dfF σ q v (σ 6 0).toNat) k (x8 + 1).toNat 0 0) → gW Γ E (xM E S u ρ) 0 0 145 [some (.ref (P.1)), some (.int (iI q)), some (.int (iI k)), some (.int (iI x8)), some (.int (iI n)), some (.int (iI v)), none] [] := by
                      intro fu
                      induction fu with
                      | zero => intro n v hn; exact absurd hn (Nat.not_lt_zero _)
                      | succ fu ih_lD =>
                        intro n v hn hn hv hV
                        refine g_iload hΓ rfl dX0_fits_145 ?_
                        refine g_iload_n hΓ rfl dX0_fits_147 ?_
                        refine g_icmp_gt (tgt := 179) hΓ (by omega) (by omega) dX0_fits_148 (by decide) (fun c12 => ?_) (fun c12 => ?_)
                        · refine g_iload_n hΓ rfl dX0_fits_179 ?_
                          refine g_iconst hΓ dX0_fits_180 ?_
                          refine g_icmp_ne (tgt := 189) hΓ (by omega) (by omega) dX0_fits_181 (by decide) (fun c13 => ?_) (fun c13 => ?_)
                          · refine g_iconst hΓ dX0_fits_189 ?_
                            exact x_iret hΓ dX0_fits_190 (Nat.zero_le _) (Nat.zero_le _) ⟨ri (by rw [sp_fits, if_pos (by omega), hvn, ← hV, show (x8 + 1 - v).toNat = 0 by omega, ftF]; first | (rw [if_pos (by omega)]; done) | (rw [if_neg (by omega)])), hx1, rfl, ht, hr⟩
                          · refine g_iload hΓ rfl dX0_fits_184 ?_
                            refine g_goto (tgt := 190) hΓ dX0_fits_186 (by decide) ?_
                            exact x_iret hΓ dX0_fits_190 (Nat.zero_le _) (Nat.zero_le _) ⟨ri (by rw [sp_fits, if_pos (by omega), hvn, ← hV, show (x8 + 1 - v).toNat = 0 by omega, ftF]; first | (rw [if_pos (by omega)]; done) | (rw [if_neg (by omega)])), hx1, rfl, ht, hr⟩
                        · have hdr := (rbF_r hro hsa.2.1 (which := q) (v := v) ⟨by omega, by omega⟩ (σ 6 0).toNat (by omega)).2
                          refine g_aload_n hΓ rfl dX0_fits_151 ?_
                          refine x_geta (r := some (P.2.1 33)) (c := 0) hE hΓ in_X0 rfl hp.1 ⟨by decide, rfl⟩ 33 (ji := 33) rfl (by decide) (by decide) rfl q279 rfl rfl (pA_r hp 33 rfl rfl) dX0_fits_152 ?_
                          show gW Γ E (xM E S u ρ) 0 0 _ _ (.ref (P.2.1 33) :: _)
                          refine g_iload hΓ rfl dX0_fits_155 ?_
                          refine x_zald hΓ (pA_k hp 33 rfl (n := 83) rfl) (pA_n hp 33 rfl (n := 41) rfl) ⟨by decide, rfl⟩ (by omega) (by omega) dX0_fits_157 ?_
                          refine g_topi ((hF9 v (by omega) (by omega))) ?_
                          refine g_if_eq (tgt := 173) hΓ (by omega) dX0_fits_158 (by decide) (fun c14 => ?_) (fun c14 => ?_)
                          · obtain ⟨x15, ex15⟩ : ∃ z9 : Int, z9 = v + 1 := ⟨_, rfl⟩
                            refine g_iinc hΓ dX0_fits_173 rfl rfl (lv' := [some (.ref (P.1)), some (.int (iI q)), some (.int (iI k)), some (.int (iI x8)), some (.int (iI n)), some (.int (iI x15)), none]) (by rw [ex15]; rfl) ?_
                            refine g_goto (tgt := 145) hΓ dX0_fits_176 (by decide) ?_
                            exact ih_lD n x15 (by omega) (by omega) (by omega) (by rw [show (x8 + 1 - v).toNat = (x8 + 1 - x15).toNat + 1 by omega, ftF, if_pos (by assumption)] at hV; rw [show x15 = v + 1 by omega] at hV ⊢; exact hV)
                          · refine g_iload hΓ rfl dX0_fits_161 ?_
                            refine g_iload_n hΓ rfl dX0_fits_163 ?_
                            refine g_icmp_ne (tgt := 170) hΓ (by omega) (by omega) dX0_fits_164 (by decide) (fun c16 => ?_) (fun c16 => ?_)
                            · obtain ⟨x17, ex17⟩ : ∃ z9 : Int, z9 = n + 1 := ⟨_, rfl⟩
                              refine g_iinc hΓ dX0_fits_170 rfl rfl (lv' := [some (.ref (P.1)), some (.int (iI q)), some (.int (iI k)), some (.int (iI x8)), some (.int (iI x17)), some (.int (iI v)), none]) (by rw [ex17]; rfl) ?_
                              obtain ⟨x18, ex18⟩ : ∃ z9 : Int, z9 = v + 1 := ⟨_, rfl⟩
                              refine g_iinc hΓ dX0_fits_173 rfl rfl (lv' := [some (.ref (P.1)), some (.int (iI q)), some (.int (iI k)), some (.int (iI x8)), some (.int (iI x17)), some (.int (iI x18)), none]) (by rw [ex18]; rfl) ?_
                              refine g_goto (tgt := 145) hΓ dX0_fits_176 (by decide) ?_
                              exact ih_lD x17 x18 (by omega) (by omega) (by omega) (by rw [show (x8 + 1 - v).toNat = (x8 + 1 - x18).toNat + 1 by omega, ftF, if_neg (by assumption), if_neg (by omega)] at hV; rw [show x18 = v + 1 by omega] at hV ⊢; rw [show x17 = n + 1 by omega]; exact hV)
                            · refine g_iload hΓ rfl dX0_fits_167 ?_
                              exact x_iret hΓ dX0_fits_169 (Nat.zero_le _) (Nat.zero_le _) ⟨ri (by rw [sp_fits, if_pos (by omega), hvn, ← hV, show (x8 + 1 - v).toNat = (x8 - v).toNat + 1 by omega, ftF, if_neg (by assumption), if_pos (by omega)]), hx1, rfl, ht, hr⟩
                    refine g_iconst hΓ dX0_fits_142 ?_
                    refine g_istore hΓ dX0_fits_143 rfl (Nat.le_of_ble_eq_true rfl) (lv' := [some (.ref (P.1)), some (.int (iI q)), some (.int (iI k)), some (.int (iI x8)), some (.int (iI 0)), some (.int (iI 0)), none]) rfl ?_
                    exact lD 43 0 0 (by omega) (by omega) (by omega) (by rw [Int.sub_zero])
                  · obtain ⟨b19, kb19, hbr19, hbe19, hbk19, hbq19, hbc19⟩ := lsOK_b (hg.2.1 (P.2.1 31) (by rw [(pL_k hp 31 rfl (n := 16) rfl)]; decide) (by rw [(pL_k hp 31 rfl (n := 16) rfl)]; decide)) (by rw [(pL_k hp 31 rfl (n := 16) rfl)]; decide)
                    have he20 := lsOK_e (hg.2.1 (P.2.1 31) (by rw [(pL_k hp 31 rfl (n := 16) rfl)]; decide) (by rw [(pL_k hp 31 rfl (n := 16) rfl)]; decide)) hbe19 (i := i) (by omega)
                    have hk20 : (S (lE ρ (P.2.1 31) i)).1 = 9 := by rw [he20.2, (pL_k hp 31 rfl (n := 16) rfl)]; rfl
                    refine g_aload_n hΓ rfl dX0_fits_75 ?_
                    refine g_aload_n hΓ rfl dX0_fits_76 ?_
                    refine x_geta (r := some (P.2.1 31)) (c := 0) hE hΓ in_X0 rfl hp.1 ⟨by decide, rfl⟩ 31 (ji := 31) rfl (by decide) (by decide) rfl q277 rfl rfl (pL_r hp 31 rfl rfl) dX0_fits_77 ?_
                    show gW Γ E (xM E S u ρ) 0 0 _ _ (.ref (P.2.1 31) :: _)
                    refine g_iload hΓ rfl dX0_fits_80 ?_
                    have hz22 : u (P.2.1 31) 2 = σ 6 0 := hsa.1
                    refine x_callV (As := [.int (iI i)]) (rest := [.ref (P.1)]) (c := 10) hE hΓ (x_J2_get hE hX S u ρ (P.2.1 31) b19 (lE ρ (P.2.1 31) i) 16 kb19 ((S b19).2.1) i (pL_k hp 31 rfl (n := 16) rfl) (by decide) hbr19 hbk19 hbq19 rfl (by omega) (by omega) he20.1 ) (pL_k hp 31 rfl (n := 16) rfl) ⟨by decide, rfl⟩ rfl rfl q857 q858 q859 q127 q860 ndJ2_get rfl (by decide) (by decide) (Nat.zero_le _) (Nat.zero_le _) rfl (Nat.le_of_ble_eq_true rfl) dX0_fits_82 rfl (fun v21 S21 τ21 ρ21 h21 => ?_)
                    obtain ⟨rfl, S21e, τ21e, ρ21e⟩ := h21
                    have S21e := S21e.symm; subst S21e
                    have τ21e := τ21e.symm; subst τ21e
                    have ρ21e := ρ21e.symm; subst ρ21e
                    show gW Γ E (xM E S u ρ) _ _ _ _ (.ref (lE ρ (P.2.1 31) i) :: _)
                    refine x_castS (c := 9) hE hΓ rfl q1167 hk20 ⟨by decide, rfl⟩ rfl dX0_fits_85 ?_
                    refine g_iload_n hΓ rfl dX0_fits_88 ?_
                    refine g_iload_n hΓ rfl dX0_fits_89 ?_
                    refine x_callV (As := [.ref (lE ρ (P.2.1 31) i), .int (iI q), .int (iI x8)]) (rest := []) (c := 0) hE hΓ (x_X0_laysValued hE hX hL S u ρ P σ i q x8 hx1 (by omega) (by omega) hmo hP0 ) hp.1 ⟨by decide, rfl⟩ rfl rfl q1230 q1232 qs47 q123 q1233 ndX0_laysValued rfl (by decide) (by decide) (Nat.zero_le _) (Nat.zero_le _) rfl (Nat.le_of_ble_eq_true rfl) dX0_fits_90 rfl (fun v23 S23 τ23 ρ23 h23 => ?_)
                    obtain ⟨rfl, h23, S23e, τ23f, ρ23f⟩ := h23
                    have S23e := S23e.symm; subst S23e
                    have hxv := h23.1
                    have hTv := h23.2
                    have hFD : fr S u τ23 [8003, 42, 43, 44, 112, 115, 116, 117, 46, 47, 48, 49, 1022, 68, 69, 132, 83] := fr_w τ23f (by decide)
                    have hFR : fr S ρ ρ23 [1009, 1010] := ρ23f
                    have hFv : ∀ v, 0 ≤ v → v ≤ x8 → τ23 (P.2.1 33) v = dfF σ q v i.toNat := fun v9 x9 y9 => (congrFun (fr_row τ23f (pA_k hp 33 rfl (n := 83) rfl) (by decide) (by decide)) v9).trans (hF v9 x9 y9)
                    have lC : ∀ (fu : Nat) (u2 : xD) (v : Int), (x8 + 1 - v).toNat < fu → (Rx E Z S u2 ρ23 P σ) → (fr S τ23 u2 [83]) → (vtI P u2 σ i q x8 (σ 0 1000) 0) → (0 ≤ v ∧ v ≤ x8 + 1) → (∀ j, 0 ≤ j → j < v → u2 (P.2.1 33) j = dfF σ q j (i + 1).toNat) → (∀ j, v ≤ j → j ≤ x8 → u2 (P.2.1 33) j = dfF σ q j i.toNat) → gW Γ E (xM E S u2 ρ23) 0 0 96 [some (.ref (P.1)), some (.int (iI q)), some (.int (iI k)), some (.int (iI x8)), some (.int (iI 0)), some (.int (iI i)), some (.int (iI v))] [] := by
                      intro fu
                      induction fu with
                      | zero => intro u2 v hn; exact absurd hn (Nat.not_lt_zero _)
                      | succ fu ih_lC =>
                        intro u2 v hn hx2 hf2 hT2 hv hlo hhi
                        obtain ⟨hg, hp, hki, hro, hnw, hbh, hsa, hpd⟩ := id hx2
                        obtain ⟨N, NI, NM, NV, hN⟩ := (hx2).now
                        have hAw := hg.2.2.2.2.2.2
                        have hG : GS S u2 ρ23 := hg.1
                        obtain ⟨h1000, h1009, h1042, h1043, h1044, h1045, h1046, h1047, hms, hsi, hsm, hnm⟩ := id hro
                        have eN := hN.2.2.2.2.2.2.2.2.2.2.2.2
                        have kNV : (S NV).1 = 45 := by rw [hN.2.2.2.1.2]
                        have nNV : (S NV).2.1 = 6 := by rw [hN.2.2.2.1.2]
                        replace hsa := hsa hP0
                        have h6s := hsa.1
                        have hto := hsa.2.1.1
                        refine g_iload hΓ rfl dX0_fits_96 ?_
                        refine g_iload_n hΓ rfl dX0_fits_98 ?_
                        refine g_icmp_gt (tgt := 136) hΓ (by omega) (by omega) dX0_fits_99 (by decide) (fun c24 => ?_) (fun c24 => ?_)
                        · obtain ⟨x25, ex25⟩ : ∃ z9 : Int, z9 = i + 1 := ⟨_, rfl⟩
                          refine g_iinc hΓ dX0_fits_136 rfl rfl (lv' := [some (.ref (P.1)), some (.int (iI q)), some (.int (iI k)), some (.int (iI x8)), some (.int (iI 0)), some (.int (iI x25)), some (.int (iI v))]) (by rw [ex25]; rfl) ?_
                          refine g_goto (tgt := 63) hΓ dX0_fits_139 (by decide) ?_
                          refine g_lvw (lv' := [some (.ref (P.1)), some (.int (iI q)), some (.int (iI k)), some (.int (iI x8)), some (.int (iI 0)), some (.int (iI x25)), none]) ⟨rfl, ⟨rfl, ⟨rfl, ⟨rfl, ⟨rfl, ⟨rfl, trivial⟩⟩⟩⟩⟩⟩ ?_
                          exact ih_lB u2 ρ23 x25 (by omega) hx2 (fr_t ht (fr_t hFD (fr_w hf2 (by decide)))) (fr_t hr hFR) (by omega) (fun v9 x9 y9 => by rw [show x25 = i + 1 by omega]; exact hlo v9 x9 (by omega))
                        · have hdr := (rbF_r hro hsa.2.1 (which := q) (v := v) ⟨by omega, by omega⟩ i.toNat (by omega)).2
                          have hrg := (rgE_r hro hsa.2.1 (k := i) (which := q) (v := v) (by omega) (by omega)).1
                          obtain ⟨b26, kb26, hbr26, hbe26, hbk26, hbq26, hbc26⟩ := lsOK_b (hg.2.1 (P.2.1 31) (by rw [(pL_k hp 31 rfl (n := 16) rfl)]; decide) (by rw [(pL_k hp 31 rfl (n := 16) rfl)]; decide)) (by rw [(pL_k hp 31 rfl (n := 16) rfl)]; decide)
                          have he27 := lsOK_e (hg.2.1 (P.2.1 31) (by rw [(pL_k hp 31 rfl (n := 16) rfl)]; decide) (by rw [(pL_k hp 31 rfl (n := 16) rfl)]; decide)) hbe26 (i := i) (by omega)
                          have hk27 : (S (lE ρ23 (P.2.1 31) i)).1 = 9 := by rw [he27.2, (pL_k hp 31 rfl (n := 16) rfl)]; rfl
                          refine g_aload_n hΓ rfl dX0_fits_102 ?_
                          refine x_geta (r := some (P.2.1 33)) (c := 0) hE hΓ in_X0 rfl hp.1 ⟨by decide, rfl⟩ 33 (ji := 33) rfl (by decide) (by decide) rfl q279 rfl rfl (pA_r hp 33 rfl rfl) dX0_fits_103 ?_
                          show gW Γ E (xM E S u2 ρ23) 0 0 _ _ (.ref (P.2.1 33) :: _)
                          refine g_iload hΓ rfl dX0_fits_106 ?_
                          refine g_dup2 hΓ rfl rfl dX0_fits_108 ?_
                          refine x_zald hΓ (pA_k hp 33 rfl (n := 83) rfl) (pA_n hp 33 rfl (n := 41) rfl) ⟨by decide, rfl⟩ (by omega) (by omega) dX0_fits_109 ?_
                          refine g_topi ((hhi v (by omega) (by omega))) ?_
                          refine g_aload_n hΓ rfl dX0_fits_110 ?_
                          refine g_aload_n hΓ rfl dX0_fits_111 ?_
                          refine x_geta (r := some (P.2.1 31)) (c := 0) hE hΓ in_X0 rfl hp.1 ⟨by decide, rfl⟩ 31 (ji := 31) rfl (by decide) (by decide) rfl q277 rfl rfl (pL_r hp 31 rfl rfl) dX0_fits_112 ?_
                          show gW Γ E (xM E S u2 ρ23) 0 0 _ _ (.ref (P.2.1 31) :: _)
                          refine g_iload hΓ rfl dX0_fits_115 ?_
                          have hz29 : u2 (P.2.1 31) 2 = σ 6 0 := hsa.1
                          refine x_callV (As := [.int (iI i)]) (rest := [.ref (P.1), .int (iI (dfF σ q v i.toNat)), .int (iI v), .ref (P.2.1 33)]) (c := 10) hE hΓ (x_J2_get hE hX S u2 ρ23 (P.2.1 31) b26 (lE ρ23 (P.2.1 31) i) 16 kb26 ((S b26).2.1) i (pL_k hp 31 rfl (n := 16) rfl) (by decide) hbr26 hbk26 hbq26 rfl (by omega) (by omega) he27.1 ) (pL_k hp 31 rfl (n := 16) rfl) ⟨by decide, rfl⟩ rfl rfl q857 q858 q859 q127 q860 ndJ2_get rfl (by decide) (by decide) (Nat.zero_le _) (Nat.zero_le _) rfl (Nat.le_of_ble_eq_true rfl) dX0_fits_117 rfl (fun v28 S28 τ28 ρ28 h28 => ?_)
                          obtain ⟨rfl, S28e, τ28e, ρ28e⟩ := h28
                          have S28e := S28e.symm; subst S28e
                          have τ28e := τ28e.symm; subst τ28e
                          have ρ28e := ρ28e.symm; subst ρ28e
                          show gW Γ E (xM E S u2 ρ23) _ _ _ _ (.ref (lE ρ23 (P.2.1 31) i) :: _)
                          refine x_castS (c := 9) hE hΓ rfl q1167 hk27 ⟨by decide, rfl⟩ rfl dX0_fits_120 ?_
                          refine g_iload hΓ rfl dX0_fits_123 ?_
                          refine x_callV (As := [.ref (lE ρ23 (P.2.1 31) i), .int (iI v)]) (rest := [.int (iI (dfF σ q v i.toNat)), .int (iI v), .ref (P.2.1 33)]) (c := 0) hE hΓ (x_X0_isFirst hE hX S u2 ρ23 P σ i q x8 v hx2 (by omega) (by omega) (by omega) (by omega) hT2 hP0 ) hp.1 ⟨by decide, rfl⟩ rfl rfl q1234 q1236 qs48 q123 q1237 ndX0_isFirst rfl (by decide) (by decide) (Nat.zero_le _) (Nat.zero_le _) rfl (Nat.le_of_ble_eq_true rfl) dX0_fits_125 rfl (fun v30 S30 τ30 ρ30 h30 => ?_)
                          obtain ⟨rfl, S30e, τ30e, ρ30e⟩ := h30
                          have S30e := S30e.symm; subst S30e
                          have τ30e := τ30e.symm; subst τ30e
                          have ρ30e := ρ30e.symm; subst ρ30e
                          show gW Γ E (xM E S u2 ρ23) _ _ _ _ (.int (iI ((rgE σ i q v).1)) :: _)
                          refine g_iand (a := if (rgE σ i q v).1 = 0 then 0 else dfF σ q v i.toNat) hΓ (and01 hdr hrg) dX0_fits_128 ?_
                          refine x_zast hΓ (pA_k hp 33 rfl (n := 83) rfl) (pA_n hp 33 rfl (n := 41) rfl) ⟨by decide, rfl⟩ (hAw _ (by rw [(pA_k hp 33 rfl (n := 83) rfl)]; rfl)) (by omega) (by omega) (narZ (by split <;> omega)) dX0_fits_129 (fun τ31 τ31e => ?_)
                          have τ31r : τ31 (P.2.1 33) v = if (rgE σ i q v).1 = 0 then 0 else dfF σ q v i.toNat := by rw [τ31e]; exact us_s _ _ _ _
                          have τ31f : ∀ (q9 : Nat) (j9 : Int), (q9 ≠ (P.2.1 33) ∨ j9 ≠ v) → τ31 q9 j9 = u2 q9 j9 := fun q9 j9 hh => by rw [τ31e]; exact us_n hh
                          obtain ⟨x32, ex32⟩ : ∃ z9 : Int, z9 = v + 1 := ⟨_, rfl⟩
                          refine g_iinc hΓ dX0_fits_130 rfl rfl (lv' := [some (.ref (P.1)), some (.int (iI q)), some (.int (iI k)), some (.int (iI x8)), some (.int (iI 0)), some (.int (iI i)), some (.int (iI x32))]) (by rw [ex32]; rfl) ?_
                          refine g_goto (tgt := 96) hΓ dX0_fits_133 (by decide) ?_
                          have hfr : fr S u2 τ31 [83] := (fun q9 j9 hk9 => by exact (τ31f q9 j9 (Or.inl (fun e9 => hk9 (by rw [e9, (pA_k hp 33 rfl (n := 83) rfl), mdN _ (by decide)]; decide)))))
                          have hx5 := Rx_scr hx2 (fr_w hfr (by decide)) fr_rfl (GS_fr hx2.1.1 hfr fr_rfl (m' := []) (by decide) (by decide))
                          exact ih_lC τ31 x32 (by omega) hx5 (fr_t hf2 hfr) (vtI_fr hp (by omega) hT2 (fun q9 j9 h9 => hfr q9 j9 (by rw [h9, mdN _ (by decide)]; decide))) (by omega) (fun j9 x9 y9 => by
                            by_cases c9 : j9 = v
                            · rw [c9, (rb_s (by omega)).2]; exact τ31r
                            · exact (τ31f _ _ (Or.inr c9)).trans (hlo j9 x9 (by omega))) (fun j9 x9 y9 => (τ31f _ _ (Or.inr (by omega))).trans (hhi j9 (by omega) y9))
                    refine g_iconst hΓ dX0_fits_93 ?_
                    refine g_istore hΓ dX0_fits_94 rfl (Nat.le_of_ble_eq_true rfl) (lv' := [some (.ref (P.1)), some (.int (iI q)), some (.int (iI k)), some (.int (iI x8)), some (.int (iI 0)), some (.int (iI i)), some (.int (iI 0))]) rfl ?_
                    exact lC 43 τ23 0 (by omega) hxv fr_rfl hTv (by omega) (fun j9 x9 y9 => absurd x9 (by omega)) (fun j9 x9 y9 => hFv j9 x9 y9)
              refine g_iconst hΓ dX0_fits_60 ?_
              refine g_istore hΓ dX0_fits_61 rfl (Nat.le_of_ble_eq_true rfl) (lv' := [some (.ref (P.1)), some (.int (iI q)), some (.int (iI k)), some (.int (iI x8)), some (.int (iI 0)), some (.int (iI 0)), none]) rfl ?_
              exact lB 9 t R 0 (by omega) hx0 ht0 fr_rfl (by omega) hF0
            · refine g_aload_n hΓ rfl dX0_fits_46 ?_
              refine x_geta (r := some (P.2.1 33)) (c := 0) hE hΓ in_X0 rfl hp.1 ⟨by decide, rfl⟩ 33 (ji := 33) rfl (by decide) (by decide) rfl q279 rfl rfl (pA_r hp 33 rfl rfl) dX0_fits_47 ?_
              show gW Γ E (xM E S t R) 0 0 _ _ (.ref (P.2.1 33) :: _)
              refine g_iload hΓ rfl dX0_fits_50 ?_
              refine g_iconst hΓ dX0_fits_52 ?_
              refine x_zast hΓ (pA_k hp 33 rfl (n := 83) rfl) (pA_n hp 33 rfl (n := 41) rfl) ⟨by decide, rfl⟩ (hAw _ (by rw [(pA_k hp 33 rfl (n := 83) rfl)]; rfl)) (by omega) (by omega) (narZ (by omega)) dX0_fits_53 (fun τ33 τ33e => ?_)
              have τ33r : τ33 (P.2.1 33) v = 1 := by rw [τ33e]; exact us_s _ _ _ _
              have τ33f : ∀ (q9 : Nat) (j9 : Int), (q9 ≠ (P.2.1 33) ∨ j9 ≠ v) → τ33 q9 j9 = t q9 j9 := fun q9 j9 hh => by rw [τ33e]; exact us_n hh
              obtain ⟨x34, ex34⟩ : ∃ z9 : Int, z9 = v + 1 := ⟨_, rfl⟩
              refine g_iinc hΓ dX0_fits_54 rfl rfl (lv' := [some (.ref (P.1)), some (.int (iI q)), some (.int (iI k)), some (.int (iI x8)), some (.int (iI 0)), some (.int (iI x34)), none]) (by rw [ex34]; rfl) ?_
              refine g_goto (tgt := 40) hΓ dX0_fits_57 (by decide) ?_
              have hfr : fr S t τ33 [83] := (fun q9 j9 hk9 => by exact (τ33f q9 j9 (Or.inl (fun e9 => hk9 (by rw [e9, (pA_k hp 33 rfl (n := 83) rfl), mdN _ (by decide)]; decide)))))
              have hx5 := Rx_scr hx1 (fr_w hfr (by decide)) fr_rfl (GS_fr hx1.1.1 hfr fr_rfl (m' := []) (by decide) (by decide))
              exact ih_lA τ33 x34 (by omega) hx5 (fr_t ht hfr) (by omega) (fun j9 x9 y9 => by
                by_cases c9 : j9 = v
                · rw [c9]; exact τ33r
                · exact (τ33f _ _ (Or.inr c9)).trans (hone j9 x9 (by omega)))
        refine g_iconst hΓ dX0_fits_37 ?_
        refine g_istore hΓ dX0_fits_38 rfl (Nat.le_of_ble_eq_true rfl) (lv' := [some (.ref (P.1)), some (.int (iI q)), some (.int (iI k)), some (.int (iI x8)), some (.int (iI 0)), some (.int (iI 0)), none]) rfl ?_
        exact lA 43 D 0 (by omega) hx fr_rfl (by omega) (fun j9 x9 y9 => absurd x9 (by omega))
      · refine g_iconst hΓ dX0_fits_27 ?_
        exact x_iret hΓ dX0_fits_28 (Nat.zero_le _) (Nat.zero_le _) ⟨ri (by rw [sp_fits, if_neg (by omega)]), hx, rfl, (fun q9 j9 hk9 => rfl), (fun q9 j9 hk9 => rfl)⟩
set_option maxHeartbeats 4000000 in
theorem x_X0_best {l : Launch} {E : gE} {X : State → Prop} {Z : Nat → Nat} {Y : Nat → Option Nat} (hE : E.2.1 = clsX) (hX : xOK l E X Z Y) (hL : xLam l E X (Z 20) (Z 21)) (S : xS) (D : xD) (R : xR) (P : xPk) (σ : mS) (q w : Int) (hx : Rx E Z S D R P σ) (hq : r32 q) (hw : r32 w) (hP0 : P.2.1 99 = 0) : xC l E X yX0_best cX0_best 8 (some .int) 13 0 0 [.ref (P.1), .int (iI q), .int (iI w)] S D R (fun rv S' D' R' => rv = some (.int (iI (sp_best σ q w))) ∧ (Rx E Z S D' R' P σ) ∧ S' = S ∧ fr S D D' [8003, 42, 43, 44, 112, 115, 116, 117, 46, 47, 48, 49, 1022, 68, 69, 132, 84] ∧ fr S R R' [1009, 1010]) := by
  refine xC.of hX.1 (by decide) [some (.ref (P.1)), some (.int (iI q)), some (.int (iI w)), none, none, none, none, none] (Nat.le_of_ble_eq_true rfl) rfl rfl (fun Γ hΓ => ?_)
  obtain ⟨hg, hp, hki, hro, hnw, hbh, hsa, hpd⟩ := id hx
  obtain ⟨N, NI, NM, NV, hN⟩ := (hx).now
  have hAw := hg.2.2.2.2.2.2
  have hG : GS S D R := hg.1
  obtain ⟨h1000, h1009, h1042, h1043, h1044, h1045, h1046, h1047, hms, hsi, hsm, hnm⟩ := id hro
  have eN := hN.2.2.2.2.2.2.2.2.2.2.2.2
  have kNV : (S NV).1 = 45 := by rw [hN.2.2.2.1.2]
  have nNV : (S NV).2.1 = 6 := by rw [hN.2.2.2.1.2]
  replace hsa := hsa hP0
  have hto := hsa.2.1.1
  refine g_iload_n hΓ rfl dX0_best_0 ?_
  refine g_i2l hΓ (by omega) dX0_best_1 ?_
  refine g_lconst (a := 0) hΓ rfl dX0_best_2 ?_
  refine g_ldc2 (n := 2) hΓ rfl q846 (by decide) dX0_best_3 ?_
  refine x_callS (As := [.long (lI q), .long (lI 0), .long (lI 2)]) (rest := []) hΓ (x_X0_isIn hE hX S D R q 0 2 (by first | assumption | omega) (by first | assumption | omega) (by first | assumption | omega)) rfl q387 q388 q123 q389 ndX0_isIn rfl (by decide) (by decide) (Nat.zero_le _) (Nat.zero_le _) rfl (Nat.le_of_ble_eq_true rfl) dX0_best_6 rfl (fun v1 S1 τ1 ρ1 h1 => ?_)
  obtain ⟨rfl, S1e, τ1e, ρ1e⟩ := h1
  have S1e := S1e.symm; subst S1e
  have τ1e := τ1e.symm; subst τ1e
  have ρ1e := ρ1e.symm; subst ρ1e
  show gW Γ E (xM E S D R) _ _ _ _ (.int (iI (if 0 ≤ q ∧ q ≤ 2 then 1 else 0)) :: _)
  refine g_ifB_eq (tgt := 40) hΓ  dX0_best_9 (by decide) (fun c2 => ?_) (fun c2 => ?_)
  · refine g_ldcw (n := -1000000) hΓ rfl q1089 (by decide) dX0_best_40 ?_
    exact x_iret hΓ dX0_best_43 (Nat.zero_le _) (Nat.zero_le _) ⟨ri (by rw [sp_best, if_neg (fun z => by have z1 := z.1; have z2 := z.2.1; have z3 := z.2.2.2; omega)]), hx, rfl, (fun q9 j9 hk9 => rfl), (fun q9 j9 hk9 => rfl)⟩
  · refine g_iload_n hΓ rfl dX0_best_12 ?_
    refine g_i2l hΓ (by omega) dX0_best_13 ?_
    refine g_lconst (a := 0) hΓ rfl dX0_best_14 ?_
    refine g_lconst (a := 1) hΓ rfl dX0_best_15 ?_
    refine x_callS (As := [.long (lI w), .long (lI 0), .long (lI 1)]) (rest := []) hΓ (x_X0_isIn hE hX S D R w 0 1 (by first | assumption | omega) (by first | assumption | omega) (by first | assumption | omega)) rfl q387 q388 q123 q389 ndX0_isIn rfl (by decide) (by decide) (Nat.zero_le _) (Nat.zero_le _) rfl (Nat.le_of_ble_eq_true rfl) dX0_best_16 rfl (fun v3 S3 τ3 ρ3 h3 => ?_)
    obtain ⟨rfl, S3e, τ3e, ρ3e⟩ := h3
    have S3e := S3e.symm; subst S3e
    have τ3e := τ3e.symm; subst τ3e
    have ρ3e := ρ3e.symm; subst ρ3e
    show gW Γ E (xM E S D R) _ _ _ _ (.int (iI (if 0 ≤ w ∧ w ≤ 1 then 1 else 0)) :: _)
    refine g_ifB_eq (tgt := 40) hΓ  dX0_best_19 (by decide) (fun c4 => ?_) (fun c4 => ?_)
    · refine g_ldcw (n := -1000000) hΓ rfl q1089 (by decide) dX0_best_40 ?_
      exact x_iret hΓ dX0_best_43 (Nat.zero_le _) (Nat.zero_le _) ⟨ri (by rw [sp_best, if_neg (fun z => by have z1 := z.1; have z2 := z.2.1; have z3 := z.2.2.2; omega)]), hx, rfl, (fun q9 j9 hk9 => rfl), (fun q9 j9 hk9 => rfl)⟩
    · refine g_aload_n hΓ rfl dX0_best_22 ?_
      refine x_geta (r := some (P.2.1 31)) (c := 0) hE hΓ in_X0 rfl hp.1 ⟨by decide, rfl⟩ 31 (ji := 31) rfl (by decide) (by decide) rfl q277 rfl rfl (pL_r hp 31 rfl rfl) dX0_best_23 ?_
      show gW Γ E (xM E S D R) 0 0 _ _ (.ref (P.2.1 31) :: _)
      have hz6 : D (P.2.1 31) 2 = σ 6 0 := hsa.1
      refine x_callV (As := []) (rest := []) (c := 10) hE hΓ (x_J2_isEmpty hE hX S D R (P.2.1 31) 16 (pL_k hp 31 rfl (n := 16) rfl) (by decide) (by omega) ) (pL_k hp 31 rfl (n := 16) rfl) ⟨by decide, rfl⟩ rfl rfl q1143 q1144 q1145 q127 q1146 ndJ2_isEmpty rfl (by decide) (by decide) (Nat.zero_le _) (Nat.zero_le _) rfl (Nat.le_of_ble_eq_true rfl) dX0_best_26 rfl (fun v5 S5 τ5 ρ5 h5 => ?_)
      obtain ⟨rfl, S5e, τ5e, ρ5e⟩ := h5
      have S5e := S5e.symm; subst S5e
      have τ5e := τ5e.symm; subst τ5e
      have ρ5e := ρ5e.symm; subst ρ5e
      refine g_topi (show (if D (P.2.1 31) 2 = 0 then 1 else 0 : Int) = (if σ 6 0 = 0 then 1 else 0) by rw [hsa.1]) ?_
      show gW Γ E (xM E S D R) _ _ _ _ (.int (iI (if σ 6 0 = 0 then 1 else 0)) :: _)
      refine g_ifB_ne (tgt := 40) hΓ  dX0_best_29 (by decide) (fun c7 => ?_) (fun c7 => ?_)
      · refine g_ldcw (n := -1000000) hΓ rfl q1089 (by decide) dX0_best_40 ?_
        exact x_iret hΓ dX0_best_43 (Nat.zero_le _) (Nat.zero_le _) ⟨ri (by rw [sp_best, if_neg (fun z => by have z1 := z.1; have z2 := z.2.1; have z3 := z.2.2.2; omega)]), hx, rfl, (fun q9 j9 hk9 => rfl), (fun q9 j9 hk9 => rfl)⟩
      · refine g_aload_n hΓ rfl dX0_best_32 ?_
        refine x_callV (As := []) (rest := []) (c := 0) hE hΓ (x_X0_models hE hX S D R P σ  hx  ) hp.1 ⟨by decide, rfl⟩ rfl rfl q841 q843 qs21 q123 q844 ndX0_models rfl (by decide) (by decide) (Nat.zero_le _) (Nat.zero_le _) rfl (Nat.le_of_ble_eq_true rfl) dX0_best_33 rfl (fun v8 S8 τ8 ρ8 h8 => ?_)
        obtain ⟨rfl, S8e, τ8e, ρ8e⟩ := h8
        have S8e := S8e.symm; subst S8e
        have τ8e := τ8e.symm; subst τ8e
        have ρ8e := ρ8e.symm; subst ρ8e
        show gW Γ E (xM E S D R) _ _ _ _ (.int (iI (σ 0 1000)) :: _)
        refine g_iconst hΓ dX0_best_36 ?_
        refine g_icmp_ge (tgt := 44) hΓ (by omega) (by omega) dX0_best_37 (by decide) (fun c9 => ?_) (fun c9 => ?_)
        · refine g_iload_n hΓ rfl dX0_best_44 ?_
          refine x_callS (As := [.int (iI q)]) (rest := []) hΓ (x_X0_mostOf hE hX S D R q (by first | assumption | omega)) rfl q1227 q1228 q123 q1229 ndX0_mostOf rfl (by decide) (by decide) (Nat.zero_le _) (Nat.zero_le _) rfl (Nat.le_of_ble_eq_true rfl) dX0_best_45 rfl (fun v10 S10 τ10 ρ10 h10 => ?_)
          obtain ⟨rfl, S10e, τ10e, ρ10e⟩ := h10
          have S10e := S10e.symm; subst S10e
          have τ10e := τ10e.symm; subst τ10e
          have ρ10e := ρ10e.symm; subst ρ10e
          show gW Γ E (xM E S D R) _ _ _ _ (.int (iI (if q = 2 then 16 else 40)) :: _)
          obtain ⟨x11, ex11⟩ : ∃ z9 : Int, z9 = if q = 2 then 16 else 40 := ⟨_, rfl⟩
          refine g_topi ex11.symm ?_
          refine g_istore_n hΓ dX0_best_48 rfl (Nat.le_of_ble_eq_true rfl) (lv' := [some (.ref (P.1)), some (.int (iI q)), some (.int (iI w)), some (.int (iI x11)), none, none, none, none]) rfl ?_
          refine g_iconst hΓ dX0_best_49 ?_
          refine g_istore hΓ dX0_best_50 rfl (Nat.le_of_ble_eq_true rfl) (lv' := [some (.ref (P.1)), some (.int (iI q)), some (.int (iI w)), some (.int (iI x11)), some (.int (iI 0)), none, none, none]) rfl ?_
          have hmo : x11 = if q = 2 then 16 else 40 := by omega
          have hm40 : 16 ≤ x11 ∧ x11 ≤ 40 := by rw [hmo]; split <;> omega
          have hvn : (vlN q - 1).toNat = x11.toNat := by rw [vlN, hmo]; split <;> rfl
          have h2m : 2 ≤ σ 0 1000 := by omega
          have lA : ∀ (fu : Nat) (t : xD) (v : Int), (x11 + 1 - v).toNat < fu → (Rx E Z S t R P σ) → (fr S D t [84]) → (0 ≤ v ∧ v ≤ x11 + 1) → (∀ j, 0 ≤ j → j < v → t (P.2.1 34) j = 100000) → gW Γ E (xM E S t R) 0 0 55 [some (.ref (P.1)), some (.int (iI q)), some (.int (iI w)), some (.int (iI x11)), some (.int (iI 0)), some (.int (iI v)), none, none] [] := by
            intro fu
            induction fu with
            | zero => intro t v hn; exact absurd hn (Nat.not_lt_zero _)
            | succ fu ih_lA =>
              intro t v hn hx1 ht hv hone
              refine g_iload hΓ rfl dX0_best_55 ?_
              refine g_iload_n hΓ rfl dX0_best_57 ?_
              refine g_icmp_gt (tgt := 77) hΓ (by omega) (by omega) dX0_best_58 (by decide) (fun c12 => ?_) (fun c12 => ?_)
              · have ht0 : fr S D t [8003, 42, 43, 44, 112, 115, 116, 117, 46, 47, 48, 49, 1022, 68, 69, 132, 84] := fr_w ht (by decide)
                have hx0 := hx1
                have hF0 : ∀ v, 0 ≤ v → v ≤ x11 → t (P.2.1 34) v = min 100000 (rbF σ q v (0 : Int).toNat) := fun v9 x9 y9 => hone v9 x9 (by omega)
                have lB : ∀ (fu : Nat) (u : xD) (ρ : xR) (i : Int), (σ 6 0 - i).toNat < fu → (Rx E Z S u ρ P σ) → (fr S D u [8003, 42, 43, 44, 112, 115, 116, 117, 46, 47, 48, 49, 1022, 68, 69, 132, 84]) → (fr S R ρ [1009, 1010]) → (0 ≤ i ∧ i ≤ σ 6 0) → (allM σ i.toNat = true) → (∀ v, 0 ≤ v → v ≤ x11 → u (P.2.1 34) v = min 100000 (rbF σ q v i.toNat)) → gW Γ E (xM E S u ρ) 0 0 80 [some (.ref (P.1)), some (.int (iI q)), some (.int (iI w)), some (.int (iI x11)), some (.int (iI 0)), some (.int (iI i)), none, none] [] := by
                  intro fu
                  induction fu with
                  | zero => intro u ρ i hn; exact absurd hn (Nat.not_lt_zero _)
                  | succ fu ih_lB =>
                    intro u ρ i hn hx1 ht hr hi hM hF
                    obtain ⟨hg, hp, hki, hro, hnw, hbh, hsa, hpd⟩ := id hx1
                    obtain ⟨N, NI, NM, NV, hN⟩ := (hx1).now
                    have hAw := hg.2.2.2.2.2.2
                    have hG : GS S u ρ := hg.1
                    obtain ⟨h1000, h1009, h1042, h1043, h1044, h1045, h1046, h1047, hms, hsi, hsm, hnm⟩ := id hro
                    have eN := hN.2.2.2.2.2.2.2.2.2.2.2.2
                    have kNV : (S NV).1 = 45 := by rw [hN.2.2.2.1.2]
                    have nNV : (S NV).2.1 = 6 := by rw [hN.2.2.2.1.2]
                    replace hsa := hsa hP0
                    have h6s := hsa.1
                    have hto := hsa.2.1.1
                    refine g_iload hΓ rfl dX0_best_80 ?_
                    refine g_aload_n hΓ rfl dX0_best_82 ?_
                    refine x_geta (r := some (P.2.1 31)) (c := 0) hE hΓ in_X0 rfl hp.1 ⟨by decide, rfl⟩ 31 (ji := 31) rfl (by decide) (by decide) rfl q277 rfl rfl (pL_r hp 31 rfl rfl) dX0_best_83 ?_
                    show gW Γ E (xM E S u ρ) 0 0 _ _ (.ref (P.2.1 31) :: _)
                    refine x_callV (As := []) (rest := [.int (iI i)]) (c := 10) hE hΓ (x_J2_size hE hX S u ρ (P.2.1 31) 16 (pL_k hp 31 rfl (n := 16) rfl) (by decide) ) (pL_k hp 31 rfl (n := 16) rfl) ⟨by decide, rfl⟩ rfl rfl q845 q662 q663 q127 q664 ndJ2_size rfl (by decide) (by decide) (Nat.zero_le _) (Nat.zero_le _) rfl (Nat.le_of_ble_eq_true rfl) dX0_best_86 rfl (fun v13 S13 τ13 ρ13 h13 => ?_)
                    obtain ⟨rfl, S13e, τ13e, ρ13e⟩ := h13
                    have S13e := S13e.symm; subst S13e
                    have τ13e := τ13e.symm; subst τ13e
                    have ρ13e := ρ13e.symm; subst ρ13e
                    refine g_topi (hsa.1) ?_
                    show gW Γ E (xM E S u ρ) _ _ _ _ (.int (iI (σ 6 0)) :: _)
                    refine g_icmp_ge (tgt := 176) hΓ (by omega) (by omega) dX0_best_89 (by decide) (fun c14 => ?_) (fun c14 => ?_)
                    · have hie : i = σ 6 0 := by omega
                      have hM9 : allM σ (σ 6 0).toNat = true := by rw [← hie]; exact hM
                      have hb9 : ∀ v, 0 ≤ v → v ≤ x11 → -1584 ≤ rbF σ q v (σ 6 0).toNat ∧ rbF σ q v (σ 6 0).toNat ≤ 1584 := fun v9 x9 y9 => by
                        have a9 := (rbF_r hro hsa.2.1 (which := q) (v := v9) ⟨by omega, by omega⟩ (σ 6 0).toNat (by omega)).1
                        have c9 := rgE_le hro hsa.2.1 (k := σ 6 0 - 1) (q := q) (v := v9) (by omega) (by omega) h2m (allM_at hM9 (by omega) (by omega))
                        have d9 := (rb_s (σ := σ) (q := q) (v := v9) (i := σ 6 0 - 1) (by omega)).1
                        rw [show σ 6 0 - 1 + 1 = σ 6 0 by omega] at d9
                        omega
                      have hF9 : ∀ v, 0 ≤ v → v ≤ x11 → u (P.2.1 34) v = rbF σ q v (σ 6 0).toNat := fun v9 x9 y9 => by
                        have h9 := hb9 v9 x9 y9
                        rw [hF v9 x9 y9, hie]; omega
                      have lD : ∀ (fu : Nat) (x : Int) (v : Int), (x11 + 1 - v).toNat < fu → (0 ≤ x ∧ x ≤ x11) → (1 ≤ v ∧ v ≤ x11 + 1) → (bvF (fun v => rbF σ q v (σ 6 0).toNat) (x11 + 1 - v).toNat v x = bvF (fun v => rbF σ q v (σ 6 0).toNat) (x11 + 1 - 1).toNat 1 0) → gW Γ E (xM E S u ρ) 0 0 179 [some (.ref (P.1)), some (.int (iI q)), some (.int (iI w)), some (.int (iI x11)), some (.int (iI x)), some (.int (iI v)), none, none] [] := by
                        intro fu
                        induction fu with
                        | zero => intro x v hn; exact absurd hn (Nat.not_lt_zero _)
                        | succ fu ih_lD =>
                          intro x v hn hxr hv hV
                          have hbx := hb9 x (by omega) (by omega)
                          refine g_iload hΓ rfl dX0_best_179 ?_
                          refine g_iload_n hΓ rfl dX0_best_181 ?_
                          refine g_icmp_gt (tgt := 212) hΓ (by omega) (by omega) dX0_best_182 (by decide) (fun c15 => ?_) (fun c15 => ?_)
                          · refine g_iload_n hΓ rfl dX0_best_212 ?_
                            refine g_if_ne (tgt := 221) hΓ (by omega) dX0_best_213 (by decide) (fun c16 => ?_) (fun c16 => ?_)
                            · refine g_aload_n hΓ rfl dX0_best_221 ?_
                              refine x_geta (r := some (P.2.1 34)) (c := 0) hE hΓ in_X0 rfl hp.1 ⟨by decide, rfl⟩ 34 (ji := 34) rfl (by decide) (by decide) rfl q280 rfl rfl (pA_r hp 34 rfl rfl) dX0_best_222 ?_
                              show gW Γ E (xM E S u ρ) 0 0 _ _ (.ref (P.2.1 34) :: _)
                              refine g_iload hΓ rfl dX0_best_225 ?_
                              refine x_iald hΓ (pA_k hp 34 rfl (n := 84) rfl) (pA_n hp 34 rfl (n := 41) rfl) ⟨by decide, rfl⟩ (by omega) (by omega) dX0_best_227 ?_
                              refine g_topi ((hF9 x (by omega) (by omega))) ?_
                              exact x_iret hΓ dX0_best_228 (Nat.zero_le _) (Nat.zero_le _) ⟨ri (by rw [sp_best, if_pos ⟨by omega, by omega, hM9, by omega, by omega⟩, bvE, hvn, show x11.toNat = (x11 + 1 - 1).toNat by omega, ← hV, show (x11 + 1 - v).toNat = 0 by omega, bvF]; first | (rw [if_pos (by omega)]; done) | (rw [if_neg (by omega)])), hx1, rfl, ht, hr⟩
                            · refine g_iload hΓ rfl dX0_best_216 ?_
                              refine g_goto (tgt := 228) hΓ dX0_best_218 (by decide) ?_
                              exact x_iret hΓ dX0_best_228 (Nat.zero_le _) (Nat.zero_le _) ⟨ri (by rw [sp_best, if_pos ⟨by omega, by omega, hM9, by omega, by omega⟩, bvE, hvn, show x11.toNat = (x11 + 1 - 1).toNat by omega, ← hV, show (x11 + 1 - v).toNat = 0 by omega, bvF]; first | (rw [if_pos (by omega)]; done) | (rw [if_neg (by omega)])), hx1, rfl, ht, hr⟩
                          · have hbv := hb9 v (by omega) (by omega)
                            refine g_aload_n hΓ rfl dX0_best_185 ?_
                            refine x_geta (r := some (P.2.1 34)) (c := 0) hE hΓ in_X0 rfl hp.1 ⟨by decide, rfl⟩ 34 (ji := 34) rfl (by decide) (by decide) rfl q280 rfl rfl (pA_r hp 34 rfl rfl) dX0_best_186 ?_
                            show gW Γ E (xM E S u ρ) 0 0 _ _ (.ref (P.2.1 34) :: _)
                            refine g_iload hΓ rfl dX0_best_189 ?_
                            refine x_iald hΓ (pA_k hp 34 rfl (n := 84) rfl) (pA_n hp 34 rfl (n := 41) rfl) ⟨by decide, rfl⟩ (by omega) (by omega) dX0_best_191 ?_
                            refine g_topi ((hF9 v (by omega) (by omega))) ?_
                            refine g_aload_n hΓ rfl dX0_best_192 ?_
                            refine x_geta (r := some (P.2.1 34)) (c := 0) hE hΓ in_X0 rfl hp.1 ⟨by decide, rfl⟩ 34 (ji := 34) rfl (by decide) (by decide) rfl q280 rfl rfl (pA_r hp 34 rfl rfl) dX0_best_193 ?_
                            show gW Γ E (xM E S u ρ) 0 0 _ _ (.ref (P.2.1 34) :: _)
                            refine g_iload hΓ rfl dX0_best_196 ?_
                            refine x_iald hΓ (pA_k hp 34 rfl (n := 84) rfl) (pA_n hp 34 rfl (n := 41) rfl) ⟨by decide, rfl⟩ (by omega) (by omega) dX0_best_198 ?_
                            refine g_topi ((hF9 x (by omega) (by omega))) ?_
                            refine g_icmp_le (tgt := 206) hΓ (by omega) (by omega) dX0_best_199 (by decide) (fun c17 => ?_) (fun c17 => ?_)
                            · obtain ⟨x18, ex18⟩ : ∃ z9 : Int, z9 = v + 1 := ⟨_, rfl⟩
                              refine g_iinc hΓ dX0_best_206 rfl rfl (lv' := [some (.ref (P.1)), some (.int (iI q)), some (.int (iI w)), some (.int (iI x11)), some (.int (iI x)), some (.int (iI x18)), none, none]) (by rw [ex18]; rfl) ?_
                              refine g_goto (tgt := 179) hΓ dX0_best_209 (by decide) ?_
                              exact ih_lD x x18 (by omega) (by omega) (by omega) (by rw [show (x11 + 1 - v).toNat = (x11 + 1 - x18).toNat + 1 by omega, bvF, if_neg (by omega)] at hV; rw [show x18 = v + 1 by omega] at hV ⊢; exact hV)
                            · refine g_iload hΓ rfl dX0_best_202 ?_
                              refine g_istore hΓ dX0_best_204 rfl (Nat.le_of_ble_eq_true rfl) (lv' := [some (.ref (P.1)), some (.int (iI q)), some (.int (iI w)), some (.int (iI x11)), some (.int (iI v)), some (.int (iI v)), none, none]) rfl ?_
                              obtain ⟨x19, ex19⟩ : ∃ z9 : Int, z9 = v + 1 := ⟨_, rfl⟩
                              refine g_iinc hΓ dX0_best_206 rfl rfl (lv' := [some (.ref (P.1)), some (.int (iI q)), some (.int (iI w)), some (.int (iI x11)), some (.int (iI v)), some (.int (iI x19)), none, none]) (by rw [ex19]; rfl) ?_
                              refine g_goto (tgt := 179) hΓ dX0_best_209 (by decide) ?_
                              exact ih_lD v x19 (by omega) (by omega) (by omega) (by rw [show (x11 + 1 - v).toNat = (x11 + 1 - x19).toNat + 1 by omega, bvF, if_pos (by omega)] at hV; rw [show x19 = v + 1 by omega] at hV ⊢; rw [show v = v by omega]; exact hV)
                      refine g_iconst hΓ dX0_best_176 ?_
                      refine g_istore hΓ dX0_best_177 rfl (Nat.le_of_ble_eq_true rfl) (lv' := [some (.ref (P.1)), some (.int (iI q)), some (.int (iI w)), some (.int (iI x11)), some (.int (iI 0)), some (.int (iI 1)), none, none]) rfl ?_
                      exact lD 43 0 1 (by omega) (by omega) (by omega) rfl
                    · obtain ⟨b20, kb20, hbr20, hbe20, hbk20, hbq20, hbc20⟩ := lsOK_b (hg.2.1 (P.2.1 31) (by rw [(pL_k hp 31 rfl (n := 16) rfl)]; decide) (by rw [(pL_k hp 31 rfl (n := 16) rfl)]; decide)) (by rw [(pL_k hp 31 rfl (n := 16) rfl)]; decide)
                      have he21 := lsOK_e (hg.2.1 (P.2.1 31) (by rw [(pL_k hp 31 rfl (n := 16) rfl)]; decide) (by rw [(pL_k hp 31 rfl (n := 16) rfl)]; decide)) hbe20 (i := i) (by omega)
                      have hk21 : (S (lE ρ (P.2.1 31) i)).1 = 9 := by rw [he21.2, (pL_k hp 31 rfl (n := 16) rfl)]; rfl
                      have hsk := hsa.2.2 i (by omega) (by omega)
                      have htk := hsa.2.1.2 i (by omega) (by omega)
                      refine g_aload_n hΓ rfl dX0_best_92 ?_
                      refine x_geta (r := some (P.2.1 31)) (c := 0) hE hΓ in_X0 rfl hp.1 ⟨by decide, rfl⟩ 31 (ji := 31) rfl (by decide) (by decide) rfl q277 rfl rfl (pL_r hp 31 rfl rfl) dX0_best_93 ?_
                      show gW Γ E (xM E S u ρ) 0 0 _ _ (.ref (P.2.1 31) :: _)
                      refine g_iload hΓ rfl dX0_best_96 ?_
                      have hz23 : u (P.2.1 31) 2 = σ 6 0 := hsa.1
                      refine x_callV (As := [.int (iI i)]) (rest := []) (c := 10) hE hΓ (x_J2_get hE hX S u ρ (P.2.1 31) b20 (lE ρ (P.2.1 31) i) 16 kb20 ((S b20).2.1) i (pL_k hp 31 rfl (n := 16) rfl) (by decide) hbr20 hbk20 hbq20 rfl (by omega) (by omega) he21.1 ) (pL_k hp 31 rfl (n := 16) rfl) ⟨by decide, rfl⟩ rfl rfl q857 q858 q859 q127 q860 ndJ2_get rfl (by decide) (by decide) (Nat.zero_le _) (Nat.zero_le _) rfl (Nat.le_of_ble_eq_true rfl) dX0_best_98 rfl (fun v22 S22 τ22 ρ22 h22 => ?_)
                      obtain ⟨rfl, S22e, τ22e, ρ22e⟩ := h22
                      have S22e := S22e.symm; subst S22e
                      have τ22e := τ22e.symm; subst τ22e
                      have ρ22e := ρ22e.symm; subst ρ22e
                      show gW Γ E (xM E S u ρ) _ _ _ _ (.ref (lE ρ (P.2.1 31) i) :: _)
                      refine x_castS (c := 9) hE hΓ rfl q1167 hk21 ⟨by decide, rfl⟩ rfl dX0_best_101 ?_
                      refine g_astore hΓ dX0_best_104 rfl (Nat.le_of_ble_eq_true rfl) (lv' := [some (.ref (P.1)), some (.int (iI q)), some (.int (iI w)), some (.int (iI x11)), some (.int (iI 0)), some (.int (iI i)), some (.ref (lE ρ (P.2.1 31) i)), none]) rfl ?_
                      refine g_aload_n hΓ rfl dX0_best_106 ?_
                      refine g_aload hΓ rfl dX0_best_107 ?_
                      refine x_geti (c := 9) hE hΓ in_X9 rfl hk21 ⟨by decide, rfl⟩ 0 (ji := 0) rfl (by decide) (by decide) rfl q1198 rfl rfl dX0_best_109 ?_
                      refine g_topi (hsk.1) ?_
                      refine x_callV (As := [.int (iI (σ 10 i))]) (rest := []) (c := 0) hE hΓ (x_X0_isModel hE hX S u ρ P σ (σ 10 i) hx1 (by first | assumption | omega) ) hp.1 ⟨by decide, rfl⟩ rfl rfl q852 q854 qs22 q123 q855 ndX0_isModel rfl (by decide) (by decide) (Nat.zero_le _) (Nat.zero_le _) rfl (Nat.le_of_ble_eq_true rfl) dX0_best_112 rfl (fun v24 S24 τ24 ρ24 h24 => ?_)
                      obtain ⟨rfl, S24e, τ24e, ρ24e⟩ := h24
                      have S24e := S24e.symm; subst S24e
                      have τ24e := τ24e.symm; subst τ24e
                      have ρ24e := ρ24e.symm; subst ρ24e
                      show gW Γ E (xM E S u ρ) _ _ _ _ (.int (iI (if 0 ≤ (σ 10 i) ∧ (σ 10 i) < σ 0 1000 then 1 else 0)) :: _)
                      refine g_ifB_ne (tgt := 122) hΓ  dX0_best_115 (by decide) (fun c25 => ?_) (fun c25 => ?_)
                      · refine g_aload_n hΓ rfl dX0_best_122 ?_
                        refine g_aload hΓ rfl dX0_best_123 ?_
                        refine g_iload_n hΓ rfl dX0_best_125 ?_
                        refine g_iload_n hΓ rfl dX0_best_126 ?_
                        refine x_callV (As := [.ref (lE ρ (P.2.1 31) i), .int (iI q), .int (iI x11)]) (rest := []) (c := 0) hE hΓ (x_X0_laysValued hE hX hL S u ρ P σ i q x11 hx1 (by omega) (by omega) hmo hP0 ) hp.1 ⟨by decide, rfl⟩ rfl rfl q1230 q1232 qs47 q123 q1233 ndX0_laysValued rfl (by decide) (by decide) (Nat.zero_le _) (Nat.zero_le _) rfl (Nat.le_of_ble_eq_true rfl) dX0_best_127 rfl (fun v26 S26 τ26 ρ26 h26 => ?_)
                        obtain ⟨rfl, h26, S26e, τ26f, ρ26f⟩ := h26
                        have S26e := S26e.symm; subst S26e
                        have hxv := h26.1
                        have hTv := h26.2
                        have hmd : 0 ≤ σ 10 i ∧ σ 10 i < σ 0 1000 := by omega
                        have hFD : fr S u τ26 [8003, 42, 43, 44, 112, 115, 116, 117, 46, 47, 48, 49, 1022, 68, 69, 132, 84] := fr_w τ26f (by decide)
                        have hFR : fr S ρ ρ26 [1009, 1010] := ρ26f
                        have hFv : ∀ v, 0 ≤ v → v ≤ x11 → τ26 (P.2.1 34) v = min 100000 (rbF σ q v i.toNat) := fun v9 x9 y9 => (congrFun (fr_row τ26f (pA_k hp 34 rfl (n := 84) rfl) (by decide) (by decide)) v9).trans (hF v9 x9 y9)
                        have heq : lE ρ (P.2.1 31) i = (lE ρ26 (P.2.1 31) i) := ((ls_scr (fr_w ρ26f (by decide)) (by rw [(pL_k hp 31 rfl (n := 16) rfl)]; decide) (hg.2.1 (P.2.1 31) (by rw [(pL_k hp 31 rfl (n := 16) rfl)]; decide) (by rw [(pL_k hp 31 rfl (n := 16) rfl)]; decide))).2.2.2 i).symm
                        rw [heq]
                        have lC : ∀ (fu : Nat) (u2 : xD) (v : Int), (x11 + 1 - v).toNat < fu → (Rx E Z S u2 ρ26 P σ) → (fr S τ26 u2 [84]) → (vtI P u2 σ i q x11 (σ 0 1000) 0) → (0 ≤ v ∧ v ≤ x11 + 1) → (∀ j, 0 ≤ j → j < v → u2 (P.2.1 34) j = min 100000 (rbF σ q j (i + 1).toNat)) → (∀ j, v ≤ j → j ≤ x11 → u2 (P.2.1 34) j = min 100000 (rbF σ q j i.toNat)) → gW Γ E (xM E S u2 ρ26) 0 0 133 [some (.ref (P.1)), some (.int (iI q)), some (.int (iI w)), some (.int (iI x11)), some (.int (iI 0)), some (.int (iI i)), some (.ref (lE ρ26 (P.2.1 31) i)), some (.int (iI v))] [] := by
                          intro fu
                          induction fu with
                          | zero => intro u2 v hn; exact absurd hn (Nat.not_lt_zero _)
                          | succ fu ih_lC =>
                            intro u2 v hn hx2 hf2 hT2 hv hlo hhi
                            obtain ⟨hg, hp, hki, hro, hnw, hbh, hsa, hpd⟩ := id hx2
                            obtain ⟨N, NI, NM, NV, hN⟩ := (hx2).now
                            have hAw := hg.2.2.2.2.2.2
                            have hG : GS S u2 ρ26 := hg.1
                            obtain ⟨h1000, h1009, h1042, h1043, h1044, h1045, h1046, h1047, hms, hsi, hsm, hnm⟩ := id hro
                            have eN := hN.2.2.2.2.2.2.2.2.2.2.2.2
                            have kNV : (S NV).1 = 45 := by rw [hN.2.2.2.1.2]
                            have nNV : (S NV).2.1 = 6 := by rw [hN.2.2.2.1.2]
                            replace hsa := hsa hP0
                            have h6s := hsa.1
                            have hto := hsa.2.1.1
                            obtain ⟨b27, kb27, hbr27, hbe27, hbk27, hbq27, hbc27⟩ := lsOK_b (hg.2.1 (P.2.1 31) (by rw [(pL_k hp 31 rfl (n := 16) rfl)]; decide) (by rw [(pL_k hp 31 rfl (n := 16) rfl)]; decide)) (by rw [(pL_k hp 31 rfl (n := 16) rfl)]; decide)
                            have he28 := lsOK_e (hg.2.1 (P.2.1 31) (by rw [(pL_k hp 31 rfl (n := 16) rfl)]; decide) (by rw [(pL_k hp 31 rfl (n := 16) rfl)]; decide)) hbe27 (i := i) (by omega)
                            have hk28 : (S (lE ρ26 (P.2.1 31) i)).1 = 9 := by rw [he28.2, (pL_k hp 31 rfl (n := 16) rfl)]; rfl
                            refine g_iload hΓ rfl dX0_best_133 ?_
                            refine g_iload_n hΓ rfl dX0_best_135 ?_
                            refine g_icmp_gt (tgt := 170) hΓ (by omega) (by omega) dX0_best_136 (by decide) (fun c29 => ?_) (fun c29 => ?_)
                            · obtain ⟨x30, ex30⟩ : ∃ z9 : Int, z9 = i + 1 := ⟨_, rfl⟩
                              refine g_iinc hΓ dX0_best_170 rfl rfl (lv' := [some (.ref (P.1)), some (.int (iI q)), some (.int (iI w)), some (.int (iI x11)), some (.int (iI 0)), some (.int (iI x30)), some (.ref (lE ρ26 (P.2.1 31) i)), some (.int (iI v))]) (by rw [ex30]; rfl) ?_
                              refine g_goto (tgt := 80) hΓ dX0_best_173 (by decide) ?_
                              refine g_lvw (lv' := [some (.ref (P.1)), some (.int (iI q)), some (.int (iI w)), some (.int (iI x11)), some (.int (iI 0)), some (.int (iI x30)), none, none]) ⟨rfl, ⟨rfl, ⟨rfl, ⟨rfl, ⟨rfl, ⟨rfl, trivial⟩⟩⟩⟩⟩⟩ ?_
                              exact ih_lB u2 ρ26 x30 (by omega) hx2 (fr_t ht (fr_t hFD (fr_w hf2 (by decide)))) (fr_t hr hFR) (by omega) (by rw [show x30 = i + 1 by omega]; exact allM_s (by omega) hM hmd) (fun v9 x9 y9 => by rw [show x30 = i + 1 by omega]; exact hlo v9 x9 (by omega))
                            · have hdr := (rbF_r hro hsa.2.1 (which := q) (v := v) ⟨by omega, by omega⟩ i.toNat (by omega)).1
                              have hrg := (rgE_r hro hsa.2.1 (k := i) (which := q) (v := v) (by omega) (by omega)).2
                              refine g_aload_n hΓ rfl dX0_best_139 ?_
                              refine x_geta (r := some (P.2.1 34)) (c := 0) hE hΓ in_X0 rfl hp.1 ⟨by decide, rfl⟩ 34 (ji := 34) rfl (by decide) (by decide) rfl q280 rfl rfl (pA_r hp 34 rfl rfl) dX0_best_140 ?_
                              show gW Γ E (xM E S u2 ρ26) 0 0 _ _ (.ref (P.2.1 34) :: _)
                              refine g_iload hΓ rfl dX0_best_143 ?_
                              refine g_aload_n hΓ rfl dX0_best_145 ?_
                              refine x_geta (r := some (P.2.1 34)) (c := 0) hE hΓ in_X0 rfl hp.1 ⟨by decide, rfl⟩ 34 (ji := 34) rfl (by decide) (by decide) rfl q280 rfl rfl (pA_r hp 34 rfl rfl) dX0_best_146 ?_
                              show gW Γ E (xM E S u2 ρ26) 0 0 _ _ (.ref (P.2.1 34) :: _)
                              refine g_iload hΓ rfl dX0_best_149 ?_
                              refine x_iald hΓ (pA_k hp 34 rfl (n := 84) rfl) (pA_n hp 34 rfl (n := 41) rfl) ⟨by decide, rfl⟩ (by omega) (by omega) dX0_best_151 ?_
                              refine g_topi ((hhi v (by omega) (by omega))) ?_
                              refine g_aload_n hΓ rfl dX0_best_152 ?_
                              refine g_aload hΓ rfl dX0_best_153 ?_
                              refine g_iload hΓ rfl dX0_best_155 ?_
                              refine x_callV (As := [.ref (lE ρ26 (P.2.1 31) i), .int (iI v)]) (rest := [.int (iI (min 100000 (rbF σ q v i.toNat))), .int (iI v), .ref (P.2.1 34)]) (c := 0) hE hΓ (x_X0_rightBy hE hX S u2 ρ26 P σ i q x11 v hx2 (by omega) (by omega) (by omega) (by omega) hT2 h2m hmd hP0 ) hp.1 ⟨by decide, rfl⟩ rfl rfl q1242 q1244 qs49 q123 q1245 ndX0_rightBy rfl (by decide) (by decide) (Nat.zero_le _) (Nat.zero_le _) rfl (Nat.le_of_ble_eq_true rfl) dX0_best_157 rfl (fun v31 S31 τ31 ρ31 h31 => ?_)
                              obtain ⟨rfl, S31e, τ31e, ρ31e⟩ := h31
                              have S31e := S31e.symm; subst S31e
                              have τ31e := τ31e.symm; subst τ31e
                              have ρ31e := ρ31e.symm; subst ρ31e
                              show gW Γ E (xM E S u2 ρ26) _ _ _ _ (.int (iI ((rgE σ i q v).2)) :: _)
                              refine x_callS (As := [.int (iI (min 100000 (rbF σ q v i.toNat))), .int (iI ((rgE σ i q v).2))]) (rest := [.int (iI v), .ref (P.2.1 34)]) hΓ (x_J3_min hE hX S u2 ρ26 (min 100000 (rbF σ q v i.toNat)) ((rgE σ i q v).2) (by first | assumption | omega) (by first | assumption | omega)) rfl q222 q223 q129 q224 ndJ3_min rfl (by decide) (by decide) (Nat.zero_le _) (Nat.zero_le _) rfl (Nat.le_of_ble_eq_true rfl) dX0_best_160 rfl (fun v32 S32 τ32 ρ32 h32 => ?_)
                              obtain ⟨rfl, S32e, τ32e, ρ32e⟩ := h32
                              have S32e := S32e.symm; subst S32e
                              have τ32e := τ32e.symm; subst τ32e
                              have ρ32e := ρ32e.symm; subst ρ32e
                              show gW Γ E (xM E S u2 ρ26) _ _ _ _ (.int (iI (min (min 100000 (rbF σ q v i.toNat)) ((rgE σ i q v).2))) :: _)
                              refine x_iast hΓ (pA_k hp 34 rfl (n := 84) rfl) (pA_n hp 34 rfl (n := 41) rfl) ⟨by decide, rfl⟩ (hAw _ (by rw [(pA_k hp 34 rfl (n := 84) rfl)]; rfl)) (by omega) (by omega) dX0_best_163 (fun τ33 τ33e => ?_)
                              have τ33r : τ33 (P.2.1 34) v = min (min 100000 (rbF σ q v i.toNat)) ((rgE σ i q v).2) := by rw [τ33e]; exact us_s _ _ _ _
                              have τ33f : ∀ (q9 : Nat) (j9 : Int), (q9 ≠ (P.2.1 34) ∨ j9 ≠ v) → τ33 q9 j9 = u2 q9 j9 := fun q9 j9 hh => by rw [τ33e]; exact us_n hh
                              obtain ⟨x34, ex34⟩ : ∃ z9 : Int, z9 = v + 1 := ⟨_, rfl⟩
                              refine g_iinc hΓ dX0_best_164 rfl rfl (lv' := [some (.ref (P.1)), some (.int (iI q)), some (.int (iI w)), some (.int (iI x11)), some (.int (iI 0)), some (.int (iI i)), some (.ref (lE ρ26 (P.2.1 31) i)), some (.int (iI x34))]) (by rw [ex34]; rfl) ?_
                              refine g_goto (tgt := 133) hΓ dX0_best_167 (by decide) ?_
                              have hfr : fr S u2 τ33 [84] := (fun q9 j9 hk9 => by exact (τ33f q9 j9 (Or.inl (fun e9 => hk9 (by rw [e9, (pA_k hp 34 rfl (n := 84) rfl), mdN _ (by decide)]; decide)))))
                              have hx5 := Rx_scr hx2 (fr_w hfr (by decide)) fr_rfl (GS_fr hx2.1.1 hfr fr_rfl (m' := []) (by decide) (by decide))
                              exact ih_lC τ33 x34 (by omega) hx5 (fr_t hf2 hfr) (vtI_fr hp (by omega) hT2 (fun q9 j9 h9 => hfr q9 j9 (by rw [h9, mdN _ (by decide)]; decide))) (by omega) (fun j9 x9 y9 => by
                                by_cases c9 : j9 = v
                                · rw [c9, (rb_s (by omega)).1]; refine τ33r.trans ?_; omega
                                · exact (τ33f _ _ (Or.inr c9)).trans (hlo j9 x9 (by omega))) (fun j9 x9 y9 => (τ33f _ _ (Or.inr (by omega))).trans (hhi j9 (by omega) y9))
                        refine g_iconst hΓ dX0_best_130 ?_
                        refine g_istore hΓ dX0_best_131 rfl (Nat.le_of_ble_eq_true rfl) (lv' := [some (.ref (P.1)), some (.int (iI q)), some (.int (iI w)), some (.int (iI x11)), some (.int (iI 0)), some (.int (iI i)), some (.ref (lE ρ26 (P.2.1 31) i)), some (.int (iI 0))]) rfl ?_
                        exact lC 43 τ26 0 (by omega) hxv fr_rfl hTv (by omega) (fun j9 x9 y9 => absurd x9 (by omega)) (fun j9 x9 y9 => hFv j9 x9 y9)
                      · refine g_ldcw (n := -1000000) hΓ rfl q1089 (by decide) dX0_best_118 ?_
                        exact x_iret hΓ dX0_best_121 (Nat.zero_le _) (Nat.zero_le _) ⟨ri (by rw [sp_best, if_neg (fun z => by have z9 := allM_at z.2.2.1 (k := i) (by omega) (by omega); omega)]), hx1, rfl, ht, hr⟩
                refine g_iconst hΓ dX0_best_77 ?_
                refine g_istore hΓ dX0_best_78 rfl (Nat.le_of_ble_eq_true rfl) (lv' := [some (.ref (P.1)), some (.int (iI q)), some (.int (iI w)), some (.int (iI x11)), some (.int (iI 0)), some (.int (iI 0)), none, none]) rfl ?_
                exact lB 9 t R 0 (by omega) hx0 ht0 fr_rfl (by omega) rfl hF0
              · refine g_aload_n hΓ rfl dX0_best_61 ?_
                refine x_geta (r := some (P.2.1 34)) (c := 0) hE hΓ in_X0 rfl hp.1 ⟨by decide, rfl⟩ 34 (ji := 34) rfl (by decide) (by decide) rfl q280 rfl rfl (pA_r hp 34 rfl rfl) dX0_best_62 ?_
                show gW Γ E (xM E S t R) 0 0 _ _ (.ref (P.2.1 34) :: _)
                refine g_iload hΓ rfl dX0_best_65 ?_
                refine g_ldcw (n := 100000) hΓ rfl q1002 (by decide) dX0_best_67 ?_
                refine x_iast hΓ (pA_k hp 34 rfl (n := 84) rfl) (pA_n hp 34 rfl (n := 41) rfl) ⟨by decide, rfl⟩ (hAw _ (by rw [(pA_k hp 34 rfl (n := 84) rfl)]; rfl)) (by omega) (by omega) dX0_best_70 (fun τ35 τ35e => ?_)
                have τ35r : τ35 (P.2.1 34) v = 100000 := by rw [τ35e]; exact us_s _ _ _ _
                have τ35f : ∀ (q9 : Nat) (j9 : Int), (q9 ≠ (P.2.1 34) ∨ j9 ≠ v) → τ35 q9 j9 = t q9 j9 := fun q9 j9 hh => by rw [τ35e]; exact us_n hh
                obtain ⟨x36, ex36⟩ : ∃ z9 : Int, z9 = v + 1 := ⟨_, rfl⟩
                refine g_iinc hΓ dX0_best_71 rfl rfl (lv' := [some (.ref (P.1)), some (.int (iI q)), some (.int (iI w)), some (.int (iI x11)), some (.int (iI 0)), some (.int (iI x36)), none, none]) (by rw [ex36]; rfl) ?_
                refine g_goto (tgt := 55) hΓ dX0_best_74 (by decide) ?_
                have hfr : fr S t τ35 [84] := (fun q9 j9 hk9 => by exact (τ35f q9 j9 (Or.inl (fun e9 => hk9 (by rw [e9, (pA_k hp 34 rfl (n := 84) rfl), mdN _ (by decide)]; decide)))))
                have hx5 := Rx_scr hx1 (fr_w hfr (by decide)) fr_rfl (GS_fr hx1.1.1 hfr fr_rfl (m' := []) (by decide) (by decide))
                exact ih_lA τ35 x36 (by omega) hx5 (fr_t ht hfr) (by omega) (fun j9 x9 y9 => by
                  by_cases c9 : j9 = v
                  · rw [c9]; exact τ35r
                  · exact (τ35f _ _ (Or.inr c9)).trans (hone j9 x9 (by omega)))
          refine g_iconst hΓ dX0_best_52 ?_
          refine g_istore hΓ dX0_best_53 rfl (Nat.le_of_ble_eq_true rfl) (lv' := [some (.ref (P.1)), some (.int (iI q)), some (.int (iI w)), some (.int (iI x11)), some (.int (iI 0)), some (.int (iI 0)), none, none]) rfl ?_
          exact lA 43 D 0 (by omega) hx fr_rfl (by omega) (fun j9 x9 y9 => absurd x9 (by omega))
        · refine g_ldcw (n := -1000000) hΓ rfl q1089 (by decide) dX0_best_40 ?_
          exact x_iret hΓ dX0_best_43 (Nat.zero_le _) (Nat.zero_le _) ⟨ri (by rw [sp_best, if_neg (fun z => by have z1 := z.1; have z2 := z.2.1; have z3 := z.2.2.2; omega)]), hx, rfl, (fun q9 j9 hk9 => rfl), (fun q9 j9 hk9 => rfl)⟩
