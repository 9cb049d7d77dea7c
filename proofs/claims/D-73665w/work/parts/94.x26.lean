set_option maxRecDepth 100000
set_option maxHeartbeats 4000000 in
theorem x_X0_closest {l : Launch} {E : gE} {X : State → Prop} {Z : Nat → Nat} {Y : Nat → Option Nat} (hE : E.2.1 = clsX) (hX : xOK l E X Z Y) (hL : xLam l E X (Z 20) (Z 21)) (S : xS) (D : xD) (R : xR) (P : xPk) (σ : mS) (u : Int) (hx : Rx E Z S D R P σ) (hu : r32 u) : xC l E X yX0_closest cX0_closest 8 (some .int) 14 0 0 [.ref (P.1), .int (iI u)] S D R (fun rv S' D' R' => rv = some (.int (iI (sp_closest σ u))) ∧ (Rx E Z S D' R' P σ) ∧ S' = S ∧ fr S D D' [8003, 42, 43, 44, 112, 115, 116, 117, 46, 47, 48, 49, 1022, 68, 69] ∧ fr S R R' [1009, 1010]) := by
  refine xC.of hX.1 (by decide) [some (.ref (P.1)), some (.int (iI u)), none, none, none, none, none, none] (Nat.le_of_ble_eq_true rfl) rfl rfl (fun Γ hΓ => ?_)
  obtain ⟨hg, hp, hki, hro, hnw, hbh, hsa, hpd⟩ := id hx
  obtain ⟨N, NI, NM, NV, hN⟩ := (hx).now
  have hAw := hg.2.2.2.2.2.2
  have hG : GS S D R := hg.1
  obtain ⟨h1000, h1009, h1042, h1043, h1044, h1045, h1046, h1047, hms, hsi, hsm, hnm⟩ := id hro
  have eN := hN.2.2.2.2.2.2.2.2.2.2.2.2
  have kNV : (S NV).1 = 45 := by rw [hN.2.2.2.1.2]
  have nNV : (S NV).2.1 = 6 := by rw [hN.2.2.2.1.2]
  refine g_aload_n hΓ rfl dX0_closest_0 ?_
  refine x_callV (As := []) (rest := []) (c := 0) hE hΓ (x_X0_models hE hX S D R P σ  hx  ) hp.1 ⟨by decide, rfl⟩ rfl rfl q841 q843 qs21 q123 q844 ndX0_models rfl (by decide) (by decide) (Nat.zero_le _) (Nat.zero_le _) rfl (Nat.le_of_ble_eq_true rfl) dX0_closest_1 rfl (fun v1 S1 τ1 ρ1 h1 => ?_)
  obtain ⟨rfl, S1e, τ1e, ρ1e⟩ := h1
  have S1e := S1e.symm; subst S1e
  have τ1e := τ1e.symm; subst τ1e
  have ρ1e := ρ1e.symm; subst ρ1e
  show gW Γ E (xM E S D R) _ _ _ _ (.int (iI (σ 0 1000)) :: _)
  refine g_iconst hΓ dX0_closest_4 ?_
  refine g_icmp_lt (tgt := 20) hΓ (by omega) (by omega) dX0_closest_5 (by decide) (fun c2 => ?_) (fun c2 => ?_)
  · refine g_iconst hΓ dX0_closest_20 ?_
    exact x_iret hΓ dX0_closest_21 (Nat.zero_le _) (Nat.zero_le _) ⟨ri (by rw [sp_closest, if_neg (by omega)]), hx, rfl, (fun q9 j9 hk9 => rfl), (fun q9 j9 hk9 => rfl)⟩
  · refine g_iload_n hΓ rfl dX0_closest_8 ?_
    refine g_i2l hΓ (by omega) dX0_closest_9 ?_
    refine g_lconst (a := 0) hΓ rfl dX0_closest_10 ?_
    refine g_ldc2 (n := 2) hΓ rfl q846 (by decide) dX0_closest_11 ?_
    refine x_callS (As := [.long (lI u), .long (lI 0), .long (lI 2)]) (rest := []) hΓ (x_X0_isIn hE hX S D R u 0 2 (by first | assumption | omega) (by first | assumption | omega) (by first | assumption | omega)) rfl q387 q388 q123 q389 ndX0_isIn rfl (by decide) (by decide) (Nat.zero_le _) (Nat.zero_le _) rfl (Nat.le_of_ble_eq_true rfl) dX0_closest_14 rfl (fun v3 S3 τ3 ρ3 h3 => ?_)
    obtain ⟨rfl, S3e, τ3e, ρ3e⟩ := h3
    have S3e := S3e.symm; subst S3e
    have τ3e := τ3e.symm; subst τ3e
    have ρ3e := ρ3e.symm; subst ρ3e
    show gW Γ E (xM E S D R) _ _ _ _ (.int (iI (if 0 ≤ u ∧ u ≤ 2 then 1 else 0)) :: _)
    refine g_ifB_ne (tgt := 22) hΓ  dX0_closest_17 (by decide) (fun c4 => ?_) (fun c4 => ?_)
    · refine g_iconst hΓ dX0_closest_22 ?_
      refine g_istore_n hΓ dX0_closest_23 rfl (Nat.le_of_ble_eq_true rfl) (lv' := [some (.ref (P.1)), some (.int (iI u)), some (.int (iI 0)), none, none, none, none, none]) rfl ?_
      refine g_iconst hΓ dX0_closest_24 ?_
      refine g_istore_n hΓ dX0_closest_25 rfl (Nat.le_of_ble_eq_true rfl) (lv' := [some (.ref (P.1)), some (.int (iI u)), some (.int (iI 0)), some (.int (iI 1)), none, none, none, none]) rfl ?_
      refine g_ldcw (n := 100000) hΓ rfl q1002 (by decide) dX0_closest_26 ?_
      refine g_istore hΓ dX0_closest_29 rfl (Nat.le_of_ble_eq_true rfl) (lv' := [some (.ref (P.1)), some (.int (iI u)), some (.int (iI 0)), some (.int (iI 1)), some (.int (iI 100000)), none, none, none]) rfl ?_
      have hcs := clE_start hro (by omega)
      have out : ∀ (fu : Nat) (t : xD) (ρ : xR) (on : Int) (ot : Int) (few : Int) (a : Int), (σ 0 1000 - a).toNat < fu → (Rx E Z S t ρ P σ) → (fr S D t [8003, 42, 43, 44, 112, 115, 116, 117, 46, 47, 48, 49, 1022, 68, 69]) → (fr S R ρ [1009, 1010]) → (0 ≤ few ∧ few ≤ 100000) → (0 ≤ a ∧ a ≤ σ 0 1000) → (clE σ = clO (sc2 σ) (σ 0 1000) (σ 0 1000 - a).toNat a ((on, ot), few)) → gW Γ E (xM E S t ρ) 0 0 34 [some (.ref (P.1)), some (.int (iI u)), some (.int (iI on)), some (.int (iI ot)), some (.int (iI few)), some (.int (iI a)), none, none] [] := by
        intro fu
        induction fu with
        | zero => intro t ρ on ot few a hn; exact absurd hn (Nat.not_lt_zero _)
        | succ fu ih_out =>
          intro t ρ on ot few a hn hx1 ht hr hfw ha ho
          obtain ⟨hg, hp, hki, hro, hnw, hbh, hsa, hpd⟩ := id hx1
          obtain ⟨N, NI, NM, NV, hN⟩ := (hx1).now
          have hAw := hg.2.2.2.2.2.2
          have hG : GS S t ρ := hg.1
          obtain ⟨h1000, h1009, h1042, h1043, h1044, h1045, h1046, h1047, hms, hsi, hsm, hnm⟩ := id hro
          have eN := hN.2.2.2.2.2.2.2.2.2.2.2.2
          have kNV : (S NV).1 = 45 := by rw [hN.2.2.2.1.2]
          have nNV : (S NV).2.1 = 6 := by rw [hN.2.2.2.1.2]
          refine g_iload hΓ rfl dX0_closest_34 ?_
          refine g_aload_n hΓ rfl dX0_closest_36 ?_
          refine x_callV (As := []) (rest := [.int (iI a)]) (c := 0) hE hΓ (x_X0_models hE hX S t ρ P σ  hx1  ) hp.1 ⟨by decide, rfl⟩ rfl rfl q841 q843 qs21 q123 q844 ndX0_models rfl (by decide) (by decide) (Nat.zero_le _) (Nat.zero_le _) rfl (Nat.le_of_ble_eq_true rfl) dX0_closest_37 rfl (fun v5 S5 τ5 ρ5 h5 => ?_)
          obtain ⟨rfl, S5e, τ5e, ρ5e⟩ := h5
          have S5e := S5e.symm; subst S5e
          have τ5e := τ5e.symm; subst τ5e
          have ρ5e := ρ5e.symm; subst ρ5e
          show gW Γ E (xM E S t ρ) _ _ _ _ (.int (iI (σ 0 1000)) :: _)
          refine g_icmp_ge (tgt := 100) hΓ (by omega) (by omega) dX0_closest_40 (by decide) (fun c6 => ?_) (fun c6 => ?_)
          · refine g_iload_n hΓ rfl dX0_closest_100 ?_
            refine g_if_ne (tgt := 108) hΓ (by omega) dX0_closest_101 (by decide) (fun c7 => ?_) (fun c7 => ?_)
            · refine g_iload_n hΓ rfl dX0_closest_108 ?_
              refine g_iconst hΓ dX0_closest_109 ?_
              refine g_icmp_ne (tgt := 117) hΓ (by omega) (by omega) dX0_closest_110 (by decide) (fun c8 => ?_) (fun c8 => ?_)
              · refine g_iload hΓ rfl dX0_closest_117 ?_
                exact x_iret hΓ dX0_closest_119 (Nat.zero_le _) (Nat.zero_le _) ⟨ri (by rw [sp_closest, if_pos (by omega), ho, show (σ 0 1000 - a).toNat = 0 by omega, clO]; first | (rw [if_pos (by omega)]; done) | (rw [if_neg (by omega), if_pos (by omega)]; done) | (rw [if_neg (by omega), if_neg (by omega)])), hx1, rfl, ht, hr⟩
              · refine g_iload_n hΓ rfl dX0_closest_113 ?_
                refine g_goto (tgt := 119) hΓ dX0_closest_114 (by decide) ?_
                exact x_iret hΓ dX0_closest_119 (Nat.zero_le _) (Nat.zero_le _) ⟨ri (by rw [sp_closest, if_pos (by omega), ho, show (σ 0 1000 - a).toNat = 0 by omega, clO]; first | (rw [if_pos (by omega)]; done) | (rw [if_neg (by omega), if_pos (by omega)]; done) | (rw [if_neg (by omega), if_neg (by omega)])), hx1, rfl, ht, hr⟩
            · refine g_iload_n hΓ rfl dX0_closest_104 ?_
              refine g_goto (tgt := 119) hΓ dX0_closest_105 (by decide) ?_
              exact x_iret hΓ dX0_closest_119 (Nat.zero_le _) (Nat.zero_le _) ⟨ri (by rw [sp_closest, if_pos (by omega), ho, show (σ 0 1000 - a).toNat = 0 by omega, clO]; first | (rw [if_pos (by omega)]; done) | (rw [if_neg (by omega), if_pos (by omega)]; done) | (rw [if_neg (by omega), if_neg (by omega)])), hx1, rfl, ht, hr⟩
          · have inn : ∀ (fu : Nat) (t : xD) (ρ : xR) (on : Int) (ot : Int) (few : Int) (b : Int), (σ 0 1000 - b).toNat < fu → (Rx E Z S t ρ P σ) → (fr S D t [8003, 42, 43, 44, 112, 115, 116, 117, 46, 47, 48, 49, 1022, 68, 69]) → (fr S R ρ [1009, 1010]) → (0 ≤ few ∧ few ≤ 100000) → (a + 1 ≤ b ∧ b ≤ σ 0 1000) → (clE σ = clO (sc2 σ) (σ 0 1000) (σ 0 1000 - (a + 1)).toNat (a + 1) (clJ (sc2 σ) a (σ 0 1000 - b).toNat b ((on, ot), few))) → gW Γ E (xM E S t ρ) 0 0 49 [some (.ref (P.1)), some (.int (iI u)), some (.int (iI on)), some (.int (iI ot)), some (.int (iI few)), some (.int (iI a)), some (.int (iI b)), none] [] := by
              intro fu
              induction fu with
              | zero => intro t ρ on ot few b hn; exact absurd hn (Nat.not_lt_zero _)
              | succ fu ih_inn =>
                intro t ρ on ot few b hn hx1 ht hr hfw hb hj
                obtain ⟨hg, hp, hki, hro, hnw, hbh, hsa, hpd⟩ := id hx1
                obtain ⟨N, NI, NM, NV, hN⟩ := (hx1).now
                have hAw := hg.2.2.2.2.2.2
                have hG : GS S t ρ := hg.1
                obtain ⟨h1000, h1009, h1042, h1043, h1044, h1045, h1046, h1047, hms, hsi, hsm, hnm⟩ := id hro
                have eN := hN.2.2.2.2.2.2.2.2.2.2.2.2
                have kNV : (S NV).1 = 45 := by rw [hN.2.2.2.1.2]
                have nNV : (S NV).2.1 = 6 := by rw [hN.2.2.2.1.2]
                refine g_iload hΓ rfl dX0_closest_49 ?_
                refine g_aload_n hΓ rfl dX0_closest_51 ?_
                refine x_callV (As := []) (rest := [.int (iI b)]) (c := 0) hE hΓ (x_X0_models hE hX S t ρ P σ  hx1  ) hp.1 ⟨by decide, rfl⟩ rfl rfl q841 q843 qs21 q123 q844 ndX0_models rfl (by decide) (by decide) (Nat.zero_le _) (Nat.zero_le _) rfl (Nat.le_of_ble_eq_true rfl) dX0_closest_52 rfl (fun v9 S9 τ9 ρ9 h9 => ?_)
                obtain ⟨rfl, S9e, τ9e, ρ9e⟩ := h9
                have S9e := S9e.symm; subst S9e
                have τ9e := τ9e.symm; subst τ9e
                have ρ9e := ρ9e.symm; subst ρ9e
                show gW Γ E (xM E S t ρ) _ _ _ _ (.int (iI (σ 0 1000)) :: _)
                refine g_icmp_ge (tgt := 94) hΓ (by omega) (by omega) dX0_closest_55 (by decide) (fun c10 => ?_) (fun c10 => ?_)
                · obtain ⟨x11, ex11⟩ : ∃ z9 : Int, z9 = a + 1 := ⟨_, rfl⟩
                  refine g_iinc hΓ dX0_closest_94 rfl rfl (lv' := [some (.ref (P.1)), some (.int (iI u)), some (.int (iI on)), some (.int (iI ot)), some (.int (iI few)), some (.int (iI x11)), some (.int (iI b)), none]) (by rw [ex11]; rfl) ?_
                  refine g_goto (tgt := 34) hΓ dX0_closest_97 (by decide) ?_
                  refine g_lvw (lv' := [some (.ref (P.1)), some (.int (iI u)), some (.int (iI on)), some (.int (iI ot)), some (.int (iI few)), some (.int (iI x11)), none, none]) ⟨rfl, ⟨rfl, ⟨rfl, ⟨rfl, ⟨rfl, ⟨rfl, trivial⟩⟩⟩⟩⟩⟩ ?_
                  exact ih_out t ρ on ot few x11 (by omega) hx1 ht hr (by omega) (by omega) (by rw [hj, show (σ 0 1000 - b).toNat = 0 by omega, clJ, show a + 1 = x11 by omega])
                · refine g_aload_n hΓ rfl dX0_closest_58 ?_
                  refine g_iload hΓ rfl dX0_closest_59 ?_
                  refine g_iload hΓ rfl dX0_closest_61 ?_
                  have hsm := sc2_r hro (x := a) (y := b) (Or.inr (by omega)) (Or.inr (by omega))
                  refine x_callV (As := [.int (iI a), .int (iI b)]) (rest := []) (c := 0) hE hΓ (x_X0_between hE hX hL S t ρ P σ a b hx1 (by first | assumption | omega) (by first | assumption | omega) (by first | assumption | omega) ) hp.1 ⟨by decide, rfl⟩ rfl rfl q1102 q1104 qs40 q123 q1105 ndX0_between rfl (by decide) (by decide) (Nat.zero_le _) (Nat.zero_le _) rfl (Nat.le_of_ble_eq_true rfl) dX0_closest_63 rfl (fun v12 S12 τ12 ρ12 h12 => ?_)
                  obtain ⟨rfl, h12, S12e, τ12f, ρ12f⟩ := h12
                  have S12e := S12e.symm; subst S12e
                  show gW Γ E (xM E S τ12 ρ12) _ _ _ _ (.int (iI (sc2 σ a b)) :: _)
                  obtain ⟨x13, ex13⟩ : ∃ z9 : Int, z9 = sc2 σ a b := ⟨_, rfl⟩
                  refine g_topi ex13.symm ?_
                  refine g_istore hΓ dX0_closest_66 rfl (Nat.le_of_ble_eq_true rfl) (lv' := [some (.ref (P.1)), some (.int (iI u)), some (.int (iI on)), some (.int (iI ot)), some (.int (iI few)), some (.int (iI a)), some (.int (iI b)), some (.int (iI x13))]) rfl ?_
                  refine g_iload hΓ rfl dX0_closest_68 ?_
                  refine g_iload hΓ rfl dX0_closest_70 ?_
                  refine g_icmp_lt (tgt := 78) hΓ (by omega) (by omega) dX0_closest_72 (by decide) (fun c14 => ?_) (fun c14 => ?_)
                  · refine g_iload hΓ rfl dX0_closest_78 ?_
                    refine g_istore_n hΓ dX0_closest_80 rfl (Nat.le_of_ble_eq_true rfl) (lv' := [some (.ref (P.1)), some (.int (iI u)), some (.int (iI a)), some (.int (iI ot)), some (.int (iI few)), some (.int (iI a)), some (.int (iI b)), some (.int (iI x13))]) rfl ?_
                    refine g_iload hΓ rfl dX0_closest_81 ?_
                    refine g_istore_n hΓ dX0_closest_83 rfl (Nat.le_of_ble_eq_true rfl) (lv' := [some (.ref (P.1)), some (.int (iI u)), some (.int (iI a)), some (.int (iI b)), some (.int (iI few)), some (.int (iI a)), some (.int (iI b)), some (.int (iI x13))]) rfl ?_
                    refine g_iload hΓ rfl dX0_closest_84 ?_
                    refine g_istore hΓ dX0_closest_86 rfl (Nat.le_of_ble_eq_true rfl) (lv' := [some (.ref (P.1)), some (.int (iI u)), some (.int (iI a)), some (.int (iI b)), some (.int (iI x13)), some (.int (iI a)), some (.int (iI b)), some (.int (iI x13))]) rfl ?_
                    obtain ⟨x15, ex15⟩ : ∃ z9 : Int, z9 = b + 1 := ⟨_, rfl⟩
                    refine g_iinc hΓ dX0_closest_88 rfl rfl (lv' := [some (.ref (P.1)), some (.int (iI u)), some (.int (iI a)), some (.int (iI b)), some (.int (iI x13)), some (.int (iI a)), some (.int (iI x15)), some (.int (iI x13))]) (by rw [ex15]; rfl) ?_
                    refine g_goto (tgt := 49) hΓ dX0_closest_91 (by decide) ?_
                    refine g_lvw (lv' := [some (.ref (P.1)), some (.int (iI u)), some (.int (iI a)), some (.int (iI b)), some (.int (iI x13)), some (.int (iI a)), some (.int (iI x15)), none]) ⟨rfl, ⟨rfl, ⟨rfl, ⟨rfl, ⟨rfl, ⟨rfl, ⟨rfl, trivial⟩⟩⟩⟩⟩⟩⟩ ?_
                    exact ih_inn τ12 ρ12 a b x13 x15 (by omega) h12 (fr_t ht (fun q9 j9 hk9 => by exact (τ12f q9 j9 (fun e9 => hk9 ((show ∀ x ∈ [8003, 42, 43, 44, 112, 115, 116, 117, 46, 47, 48, 49, 1022, 68, 69], x ∈ [8003, 42, 43, 44, 112, 115, 116, 117, 46, 47, 48, 49, 1022, 68, 69] by decide) _ e9))))) (fr_t hr (fun q9 j9 hk9 => by exact (ρ12f q9 j9 (fun e9 => hk9 ((show ∀ x ∈ [1009, 1010], x ∈ [1009, 1010] by decide) _ e9))))) (by omega) (by omega) (by rw [hj, show (σ 0 1000 - b).toNat = (σ 0 1000 - x15).toNat + 1 by omega, clJ, show b + 1 = x15 by omega]; first | (rw [if_neg (by show ¬ sc2 σ a b < few; omega)]; done) | (rw [if_pos (by show sc2 σ a b < few; omega), ← ex13]))
                  · refine g_goto (tgt := 88) hΓ dX0_closest_75 (by decide) ?_
                    obtain ⟨x16, ex16⟩ : ∃ z9 : Int, z9 = b + 1 := ⟨_, rfl⟩
                    refine g_iinc hΓ dX0_closest_88 rfl rfl (lv' := [some (.ref (P.1)), some (.int (iI u)), some (.int (iI on)), some (.int (iI ot)), some (.int (iI few)), some (.int (iI a)), some (.int (iI x16)), some (.int (iI x13))]) (by rw [ex16]; rfl) ?_
                    refine g_goto (tgt := 49) hΓ dX0_closest_91 (by decide) ?_
                    refine g_lvw (lv' := [some (.ref (P.1)), some (.int (iI u)), some (.int (iI on)), some (.int (iI ot)), some (.int (iI few)), some (.int (iI a)), some (.int (iI x16)), none]) ⟨rfl, ⟨rfl, ⟨rfl, ⟨rfl, ⟨rfl, ⟨rfl, ⟨rfl, trivial⟩⟩⟩⟩⟩⟩⟩ ?_
                    exact ih_inn τ12 ρ12 on ot few x16 (by omega) h12 (fr_t ht (fun q9 j9 hk9 => by exact (τ12f q9 j9 (fun e9 => hk9 ((show ∀ x ∈ [8003, 42, 43, 44, 112, 115, 116, 117, 46, 47, 48, 49, 1022, 68, 69], x ∈ [8003, 42, 43, 44, 112, 115, 116, 117, 46, 47, 48, 49, 1022, 68, 69] by decide) _ e9))))) (fr_t hr (fun q9 j9 hk9 => by exact (ρ12f q9 j9 (fun e9 => hk9 ((show ∀ x ∈ [1009, 1010], x ∈ [1009, 1010] by decide) _ e9))))) (by omega) (by omega) (by rw [hj, show (σ 0 1000 - b).toNat = (σ 0 1000 - x16).toNat + 1 by omega, clJ, show b + 1 = x16 by omega]; first | (rw [if_neg (by show ¬ sc2 σ a b < few; omega)]; done) | (rw [if_pos (by show sc2 σ a b < few; omega), ← ex13]))
            refine g_iload hΓ rfl dX0_closest_43 ?_
            refine g_iconst hΓ dX0_closest_45 ?_
            refine g_iadd hΓ dX0_closest_46 ?_
            obtain ⟨x17, ex17⟩ : ∃ z9 : Int, z9 = a + 1 := ⟨_, rfl⟩
            refine g_topi ex17.symm ?_
            refine g_istore hΓ dX0_closest_47 rfl (Nat.le_of_ble_eq_true rfl) (lv' := [some (.ref (P.1)), some (.int (iI u)), some (.int (iI on)), some (.int (iI ot)), some (.int (iI few)), some (.int (iI a)), some (.int (iI x17)), none]) rfl ?_
            exact inn 9 t ρ on ot few x17 (by omega) hx1 ht hr hfw (by omega) (by rw [ho, show (σ 0 1000 - a).toNat = (σ 0 1000 - (a + 1)).toNat + 1 by omega, clO, show x17 = a + 1 by omega])
      refine g_iconst hΓ dX0_closest_31 ?_
      refine g_istore hΓ dX0_closest_32 rfl (Nat.le_of_ble_eq_true rfl) (lv' := [some (.ref (P.1)), some (.int (iI u)), some (.int (iI 0)), some (.int (iI 1)), some (.int (iI 100000)), some (.int (iI 0)), none, none]) rfl ?_
      exact out 9 D R 0 1 100000 0 (by omega) hx fr_rfl fr_rfl (by omega) (by omega) hcs
    · refine g_iconst hΓ dX0_closest_20 ?_
      exact x_iret hΓ dX0_closest_21 (Nat.zero_le _) (Nat.zero_le _) ⟨ri (by rw [sp_closest, if_neg (by omega)]), hx, rfl, (fun q9 j9 hk9 => rfl), (fun q9 j9 hk9 => rfl)⟩
set_option maxHeartbeats 4000000 in
theorem x_X0_laysGroups {l : Launch} {E : gE} {X : State → Prop} {Z : Nat → Nat} {Y : Nat → Option Nat} (hE : E.2.1 = clsX) (hX : xOK l E X Z Y) (hL : xLam l E X (Z 20) (Z 21)) (S : xS) (D : xD) (R : xR) (P : xPk) (σ : mS)  (hx : Rx E Z S D R P σ) : xC l E X yX0_laysGroups cX0_laysGroups 7 (some .int) 14 0 0 [.ref (P.1)] S D R (fun rv S' D' R' => rv = some (.int (iI (sp_groups σ))) ∧ (Rx E Z S D' R' P σ ∧ ∀ m, 0 ≤ m → m < σ 0 1000 → D' (P.2.1 25) m = grE σ m) ∧ S' = S ∧ fr S D D' [8003, 42, 43, 44, 112, 115, 116, 117, 46, 47, 48, 49, 1022, 68, 69, 75] ∧ fr S R R' [1009, 1010]) := by
  refine xC.of hX.1 (by decide) [some (.ref (P.1)), none, none, none, none, none, none] (Nat.le_of_ble_eq_true rfl) rfl rfl (fun Γ hΓ => ?_)
  obtain ⟨hg, hp, hki, hro, hnw, hbh, hsa, hpd⟩ := id hx
  obtain ⟨N, NI, NM, NV, hN⟩ := (hx).now
  have hAw := hg.2.2.2.2.2.2
  have hG : GS S D R := hg.1
  obtain ⟨h1000, h1009, h1042, h1043, h1044, h1045, h1046, h1047, hms, hsi, hsm, hnm⟩ := id hro
  have eN := hN.2.2.2.2.2.2.2.2.2.2.2.2
  have kNV : (S NV).1 = 45 := by rw [hN.2.2.2.1.2]
  have nNV : (S NV).2.1 = 6 := by rw [hN.2.2.2.1.2]
  have out : ∀ (fu : Nat) (t : xD) (ρ : xR) (g : Int → Int) (many : Int) (a : Int), (σ 0 1000 - a).toNat < fu → (Rx E Z S t ρ P σ) → (fr S D t [8003, 42, 43, 44, 112, 115, 116, 117, 46, 47, 48, 49, 1022, 68, 69, 75]) → (fr S R ρ [1009, 1010]) → (grI g many (σ 0 1000)) → (∀ m, 0 ≤ m → m < σ 0 1000 → t (P.2.1 25) m = g m) → (0 ≤ a ∧ a ≤ σ 0 1000) → (grE σ = grO (sc2 σ) (σ 0 1046) (σ 0 1000) (σ 0 1000 - a).toNat a g) → gW Γ E (xM E S t ρ) 0 0 30 [some (.ref (P.1)), some (.int (iI many)), some (.int (iI a)), none, none, none, none] [] := by
    intro fu
    induction fu with
    | zero => intro t ρ g many a hn; exact absurd hn (Nat.not_lt_zero _)
    | succ fu ih_out =>
      intro t ρ g many a hn hx1 ht hr hI hg9 ha ho
      obtain ⟨hg, hp, hki, hro, hnw, hbh, hsa, hpd⟩ := id hx1
      obtain ⟨N, NI, NM, NV, hN⟩ := (hx1).now
      have hAw := hg.2.2.2.2.2.2
      have hG : GS S t ρ := hg.1
      obtain ⟨h1000, h1009, h1042, h1043, h1044, h1045, h1046, h1047, hms, hsi, hsm, hnm⟩ := id hro
      have eN := hN.2.2.2.2.2.2.2.2.2.2.2.2
      have kNV : (S NV).1 = 45 := by rw [hN.2.2.2.1.2]
      have nNV : (S NV).2.1 = 6 := by rw [hN.2.2.2.1.2]
      have hIr := grI_r hI (by omega)
      refine g_iload_n hΓ rfl dX0_laysGroups_30 ?_
      refine g_aload_n hΓ rfl dX0_laysGroups_31 ?_
      refine x_callV (As := []) (rest := [.int (iI a)]) (c := 0) hE hΓ (x_X0_models hE hX S t ρ P σ  hx1  ) hp.1 ⟨by decide, rfl⟩ rfl rfl q841 q843 qs21 q123 q844 ndX0_models rfl (by decide) (by decide) (Nat.zero_le _) (Nat.zero_le _) rfl (Nat.le_of_ble_eq_true rfl) dX0_laysGroups_32 rfl (fun v1 S1 τ1 ρ1 h1 => ?_)
      obtain ⟨rfl, S1e, τ1e, ρ1e⟩ := h1
      have S1e := S1e.symm; subst S1e
      have τ1e := τ1e.symm; subst τ1e
      have ρ1e := ρ1e.symm; subst ρ1e
      show gW Γ E (xM E S t ρ) _ _ _ _ (.int (iI (σ 0 1000)) :: _)
      refine g_icmp_ge (tgt := 174) hΓ (by omega) (by omega) dX0_laysGroups_35 (by decide) (fun c2 => ?_) (fun c2 => ?_)
      · refine g_iload_n hΓ rfl dX0_laysGroups_174 ?_
        have heg : grE σ = g := by rw [ho, show (σ 0 1000 - a).toNat = 0 by omega, grO]
        exact x_iret hΓ dX0_laysGroups_175 (Nat.zero_le _) (Nat.zero_le _) ⟨ri (by rw [sp_groups, heg, nMod]; exact hI.2), ⟨hx1, fun o9 x9 y9 => by rw [heg]; exact hg9 o9 x9 y9⟩, rfl, ht, hr⟩
      · have inn : ∀ (fu : Nat) (t : xD) (ρ : xR) (g : Int → Int) (many : Int) (b : Int), (σ 0 1000 - b).toNat < fu → (Rx E Z S t ρ P σ) → (fr S D t [8003, 42, 43, 44, 112, 115, 116, 117, 46, 47, 48, 49, 1022, 68, 69, 75]) → (fr S R ρ [1009, 1010]) → (grI g many (σ 0 1000)) → (∀ m, 0 ≤ m → m < σ 0 1000 → t (P.2.1 25) m = g m) → (a + 1 ≤ b ∧ b ≤ σ 0 1000) → (grE σ = grO (sc2 σ) (σ 0 1046) (σ 0 1000) (σ 0 1000 - (a + 1)).toNat (a + 1) (grJ (sc2 σ) (σ 0 1046) (σ 0 1000) a (σ 0 1000 - b).toNat b g)) → gW Γ E (xM E S t ρ) 0 0 42 [some (.ref (P.1)), some (.int (iI many)), some (.int (iI a)), some (.int (iI b)), none, none, none] [] := by
          intro fu
          induction fu with
          | zero => intro t ρ g many b hn; exact absurd hn (Nat.not_lt_zero _)
          | succ fu ih_inn =>
            intro t ρ g many b hn hx1 ht hr hI hg9 hb hj
            obtain ⟨hg, hp, hki, hro, hnw, hbh, hsa, hpd⟩ := id hx1
            obtain ⟨N, NI, NM, NV, hN⟩ := (hx1).now
            have hAw := hg.2.2.2.2.2.2
            have hG : GS S t ρ := hg.1
            obtain ⟨h1000, h1009, h1042, h1043, h1044, h1045, h1046, h1047, hms, hsi, hsm, hnm⟩ := id hro
            have eN := hN.2.2.2.2.2.2.2.2.2.2.2.2
            have kNV : (S NV).1 = 45 := by rw [hN.2.2.2.1.2]
            have nNV : (S NV).2.1 = 6 := by rw [hN.2.2.2.1.2]
            have hIr := grI_r hI (by omega)
            refine g_iload_n hΓ rfl dX0_laysGroups_42 ?_
            refine g_aload_n hΓ rfl dX0_laysGroups_43 ?_
            refine x_callV (As := []) (rest := [.int (iI b)]) (c := 0) hE hΓ (x_X0_models hE hX S t ρ P σ  hx1  ) hp.1 ⟨by decide, rfl⟩ rfl rfl q841 q843 qs21 q123 q844 ndX0_models rfl (by decide) (by decide) (Nat.zero_le _) (Nat.zero_le _) rfl (Nat.le_of_ble_eq_true rfl) dX0_laysGroups_44 rfl (fun v3 S3 τ3 ρ3 h3 => ?_)
            obtain ⟨rfl, S3e, τ3e, ρ3e⟩ := h3
            have S3e := S3e.symm; subst S3e
            have τ3e := τ3e.symm; subst τ3e
            have ρ3e := ρ3e.symm; subst ρ3e
            show gW Γ E (xM E S t ρ) _ _ _ _ (.int (iI (σ 0 1000)) :: _)
            refine g_icmp_ge (tgt := 168) hΓ (by omega) (by omega) dX0_laysGroups_47 (by decide) (fun c4 => ?_) (fun c4 => ?_)
            · obtain ⟨x5, ex5⟩ : ∃ z9 : Int, z9 = a + 1 := ⟨_, rfl⟩
              refine g_iinc hΓ dX0_laysGroups_168 rfl rfl (lv' := [some (.ref (P.1)), some (.int (iI many)), some (.int (iI x5)), some (.int (iI b)), none, none, none]) (by rw [ex5]; rfl) ?_
              refine g_goto (tgt := 30) hΓ dX0_laysGroups_171 (by decide) ?_
              refine g_lvw (lv' := [some (.ref (P.1)), some (.int (iI many)), some (.int (iI x5)), none, none, none, none]) ⟨rfl, ⟨rfl, ⟨rfl, trivial⟩⟩⟩ ?_
              exact ih_out t ρ g many x5 (by omega) hx1 ht hr hI hg9 (by omega) (by rw [hj, show (σ 0 1000 - b).toNat = 0 by omega, grJ, show a + 1 = x5 by omega])
            · have ha9 := hI.1 a (by omega) (by omega)
              have hb9 := hI.1 b (by omega) (by omega)
              refine g_aload_n hΓ rfl dX0_laysGroups_50 ?_
              refine x_geta (r := some (P.2.1 25)) (c := 0) hE hΓ in_X0 rfl hp.1 ⟨by decide, rfl⟩ 25 (ji := 25) rfl (by decide) (by decide) rfl q271 rfl rfl (pA_r hp 25 rfl rfl) dX0_laysGroups_51 ?_
              show gW Γ E (xM E S t ρ) 0 0 _ _ (.ref (P.2.1 25) :: _)
              refine g_iload_n hΓ rfl dX0_laysGroups_54 ?_
              refine x_iald hΓ (pA_k hp 25 rfl (n := 75) rfl) (pA_n hp 25 rfl (n := 8) rfl) ⟨by decide, rfl⟩ (by omega) (by omega) dX0_laysGroups_55 ?_
              refine g_topi ((hg9 a (by omega) (by omega))) ?_
              refine g_aload_n hΓ rfl dX0_laysGroups_56 ?_
              refine x_geta (r := some (P.2.1 25)) (c := 0) hE hΓ in_X0 rfl hp.1 ⟨by decide, rfl⟩ 25 (ji := 25) rfl (by decide) (by decide) rfl q271 rfl rfl (pA_r hp 25 rfl rfl) dX0_laysGroups_57 ?_
              show gW Γ E (xM E S t ρ) 0 0 _ _ (.ref (P.2.1 25) :: _)
              refine g_iload_n hΓ rfl dX0_laysGroups_60 ?_
              refine x_iald hΓ (pA_k hp 25 rfl (n := 75) rfl) (pA_n hp 25 rfl (n := 8) rfl) ⟨by decide, rfl⟩ (by omega) (by omega) dX0_laysGroups_61 ?_
              refine g_topi ((hg9 b (by omega) (by omega))) ?_
              refine g_icmp_eq (tgt := 162) hΓ (by omega) (by omega) dX0_laysGroups_62 (by decide) (fun c6 => ?_) (fun c6 => ?_)
              · obtain ⟨x7, ex7⟩ : ∃ z9 : Int, z9 = b + 1 := ⟨_, rfl⟩
                refine g_iinc hΓ dX0_laysGroups_162 rfl rfl (lv' := [some (.ref (P.1)), some (.int (iI many)), some (.int (iI a)), some (.int (iI x7)), none, none, none]) (by rw [ex7]; rfl) ?_
                refine g_goto (tgt := 42) hΓ dX0_laysGroups_165 (by decide) ?_
                exact ih_inn t ρ g many x7 (by omega) hx1 ht hr hI hg9 (by omega) (by rw [hj, show (σ 0 1000 - b).toNat = (σ 0 1000 - x7).toNat + 1 by omega, grJ, show b + 1 = x7 by omega]; first | (rw [if_neg (by omega)]; done) | (rw [jn_same (by omega)]; split <;> rfl))
              · refine g_aload_n hΓ rfl dX0_laysGroups_65 ?_
                refine g_iload_n hΓ rfl dX0_laysGroups_66 ?_
                refine g_iload_n hΓ rfl dX0_laysGroups_67 ?_
                have hsm := sc2_r hro (x := a) (y := b) (Or.inr (by omega)) (Or.inr (by omega))
                refine x_callV (As := [.int (iI a), .int (iI b)]) (rest := []) (c := 0) hE hΓ (x_X0_between hE hX hL S t ρ P σ a b hx1 (by first | assumption | omega) (by first | assumption | omega) (by first | assumption | omega) ) hp.1 ⟨by decide, rfl⟩ rfl rfl q1102 q1104 qs40 q123 q1105 ndX0_between rfl (by decide) (by decide) (Nat.zero_le _) (Nat.zero_le _) rfl (Nat.le_of_ble_eq_true rfl) dX0_laysGroups_68 rfl (fun v8 S8 τ8 ρ8 h8 => ?_)
                obtain ⟨rfl, h8, S8e, τ8f, ρ8f⟩ := h8
                have S8e := S8e.symm; subst S8e
                show gW Γ E (xM E S τ8 ρ8) _ _ _ _ (.int (iI (sc2 σ a b)) :: _)
                refine g_aload_n hΓ rfl dX0_laysGroups_71 ?_
                refine x_geta (r := some N) (c := 0) hE hΓ in_X0 rfl hp.1 ⟨by decide, rfl⟩ 4 (ji := 4) rfl (by decide) (by decide) rfl q250 rfl rfl ((ρ8f (P.1) 4 (by rw [hp.1]; decide)).trans hN.1.1) dX0_laysGroups_72 ?_
                show gW Γ E (xM E S τ8 ρ8) 0 0 _ _ (.ref N :: _)
                refine x_geta (r := some NV) (c := 1) hE hΓ in_X1 rfl hN.1.2 ⟨by decide, rfl⟩ 2 (ji := 2) rfl (by decide) (by decide) rfl q203 rfl rfl ((ρ8f N 2 (by rw [hN.1.2]; decide)).trans hN.2.2.2.1.1) dX0_laysGroups_75 ?_
                show gW Γ E (xM E S τ8 ρ8) 0 0 _ _ (.ref NV :: _)
                refine g_iconst hΓ dX0_laysGroups_78 ?_
                refine x_iald hΓ kNV nNV ⟨by decide, rfl⟩ (by omega) (by omega) dX0_laysGroups_79 ?_
                refine g_topi (((τ8f NV 4 (by rw [kNV, mdN _ (by decide)]; decide)).trans hN.2.2.2.2.2.2.2.2.2.2.1)) ?_
                refine g_icmp_lt (tgt := 86) hΓ (by omega) (by omega) dX0_laysGroups_80 (by decide) (fun c9 => ?_) (fun c9 => ?_)
                · refine g_aload_n hΓ rfl dX0_laysGroups_86 ?_
                  refine x_geta (r := some (P.2.1 25)) (c := 0) hE hΓ in_X0 rfl hp.1 ⟨by decide, rfl⟩ 25 (ji := 25) rfl (by decide) (by decide) rfl q271 rfl rfl ((ρ8f (P.1) 25 (by rw [hp.1]; decide)).trans (pA_r hp 25 rfl rfl)) dX0_laysGroups_87 ?_
                  show gW Γ E (xM E S τ8 ρ8) 0 0 _ _ (.ref (P.2.1 25) :: _)
                  refine g_iload_n hΓ rfl dX0_laysGroups_90 ?_
                  refine x_iald hΓ (pA_k hp 25 rfl (n := 75) rfl) (pA_n hp 25 rfl (n := 8) rfl) ⟨by decide, rfl⟩ (by omega) (by omega) dX0_laysGroups_91 ?_
                  refine g_topi (((τ8f (P.2.1 25) a (by rw [(pA_k hp 25 rfl (n := 75) rfl), mdN _ (by decide)]; decide)).trans (hg9 a (by omega) (by omega)))) ?_
                  refine g_aload_n hΓ rfl dX0_laysGroups_92 ?_
                  refine x_geta (r := some (P.2.1 25)) (c := 0) hE hΓ in_X0 rfl hp.1 ⟨by decide, rfl⟩ 25 (ji := 25) rfl (by decide) (by decide) rfl q271 rfl rfl ((ρ8f (P.1) 25 (by rw [hp.1]; decide)).trans (pA_r hp 25 rfl rfl)) dX0_laysGroups_93 ?_
                  show gW Γ E (xM E S τ8 ρ8) 0 0 _ _ (.ref (P.2.1 25) :: _)
                  refine g_iload_n hΓ rfl dX0_laysGroups_96 ?_
                  refine x_iald hΓ (pA_k hp 25 rfl (n := 75) rfl) (pA_n hp 25 rfl (n := 8) rfl) ⟨by decide, rfl⟩ (by omega) (by omega) dX0_laysGroups_97 ?_
                  refine g_topi (((τ8f (P.2.1 25) b (by rw [(pA_k hp 25 rfl (n := 75) rfl), mdN _ (by decide)]; decide)).trans (hg9 b (by omega) (by omega)))) ?_
                  refine x_callS (As := [.int (iI (g a)), .int (iI (g b))]) (rest := []) hΓ (x_J3_min hE hX S τ8 ρ8 (g a) (g b) (by first | assumption | omega) (by first | assumption | omega)) rfl q222 q223 q129 q224 ndJ3_min rfl (by decide) (by decide) (Nat.zero_le _) (Nat.zero_le _) rfl (Nat.le_of_ble_eq_true rfl) dX0_laysGroups_98 rfl (fun v10 S10 τ10 ρ10 h10 => ?_)
                  obtain ⟨rfl, S10e, τ10e, ρ10e⟩ := h10
                  have S10e := S10e.symm; subst S10e
                  have τ10e := τ10e.symm; subst τ10e
                  have ρ10e := ρ10e.symm; subst ρ10e
                  show gW Γ E (xM E S τ8 ρ8) _ _ _ _ (.int (iI (min (g a) (g b))) :: _)
                  obtain ⟨x11, ex11⟩ : ∃ z9 : Int, z9 = min (g a) (g b) := ⟨_, rfl⟩
                  refine g_topi ex11.symm ?_
                  refine g_istore hΓ dX0_laysGroups_101 rfl (Nat.le_of_ble_eq_true rfl) (lv' := [some (.ref (P.1)), some (.int (iI many)), some (.int (iI a)), some (.int (iI b)), some (.int (iI x11)), none, none]) rfl ?_
                  refine g_aload_n hΓ rfl dX0_laysGroups_103 ?_
                  refine x_geta (r := some (P.2.1 25)) (c := 0) hE hΓ in_X0 rfl hp.1 ⟨by decide, rfl⟩ 25 (ji := 25) rfl (by decide) (by decide) rfl q271 rfl rfl ((ρ8f (P.1) 25 (by rw [hp.1]; decide)).trans (pA_r hp 25 rfl rfl)) dX0_laysGroups_104 ?_
                  show gW Γ E (xM E S τ8 ρ8) 0 0 _ _ (.ref (P.2.1 25) :: _)
                  refine g_iload_n hΓ rfl dX0_laysGroups_107 ?_
                  refine x_iald hΓ (pA_k hp 25 rfl (n := 75) rfl) (pA_n hp 25 rfl (n := 8) rfl) ⟨by decide, rfl⟩ (by omega) (by omega) dX0_laysGroups_108 ?_
                  refine g_topi (((τ8f (P.2.1 25) a (by rw [(pA_k hp 25 rfl (n := 75) rfl), mdN _ (by decide)]; decide)).trans (hg9 a (by omega) (by omega)))) ?_
                  refine g_aload_n hΓ rfl dX0_laysGroups_109 ?_
                  refine x_geta (r := some (P.2.1 25)) (c := 0) hE hΓ in_X0 rfl hp.1 ⟨by decide, rfl⟩ 25 (ji := 25) rfl (by decide) (by decide) rfl q271 rfl rfl ((ρ8f (P.1) 25 (by rw [hp.1]; decide)).trans (pA_r hp 25 rfl rfl)) dX0_laysGroups_110 ?_
                  show gW Γ E (xM E S τ8 ρ8) 0 0 _ _ (.ref (P.2.1 25) :: _)
                  refine g_iload_n hΓ rfl dX0_laysGroups_113 ?_
                  refine x_iald hΓ (pA_k hp 25 rfl (n := 75) rfl) (pA_n hp 25 rfl (n := 8) rfl) ⟨by decide, rfl⟩ (by omega) (by omega) dX0_laysGroups_114 ?_
                  refine g_topi (((τ8f (P.2.1 25) b (by rw [(pA_k hp 25 rfl (n := 75) rfl), mdN _ (by decide)]; decide)).trans (hg9 b (by omega) (by omega)))) ?_
                  refine x_callS (As := [.int (iI (g a)), .int (iI (g b))]) (rest := []) hΓ (x_J3_max hE hX S τ8 ρ8 (g a) (g b) (by first | assumption | omega) (by first | assumption | omega)) rfl q1019 q722 q129 q723 ndJ3_max rfl (by decide) (by decide) (Nat.zero_le _) (Nat.zero_le _) rfl (Nat.le_of_ble_eq_true rfl) dX0_laysGroups_115 rfl (fun v12 S12 τ12 ρ12 h12 => ?_)
                  obtain ⟨rfl, S12e, τ12e, ρ12e⟩ := h12
                  have S12e := S12e.symm; subst S12e
                  have τ12e := τ12e.symm; subst τ12e
                  have ρ12e := ρ12e.symm; subst ρ12e
                  show gW Γ E (xM E S τ8 ρ8) _ _ _ _ (.int (iI (max (g a) (g b))) :: _)
                  obtain ⟨x13, ex13⟩ : ∃ z9 : Int, z9 = max (g a) (g b) := ⟨_, rfl⟩
                  refine g_topi ex13.symm ?_
                  refine g_istore hΓ dX0_laysGroups_118 rfl (Nat.le_of_ble_eq_true rfl) (lv' := [some (.ref (P.1)), some (.int (iI many)), some (.int (iI a)), some (.int (iI b)), some (.int (iI x11)), some (.int (iI x13)), none]) rfl ?_
                  have hF0 : fr S t τ8 [8003, 42, 43, 44, 112, 115, 116, 117, 46, 47, 48, 49, 1022, 68, 69, 75] := (fun q9 j9 hk9 => by exact (τ8f q9 j9 (fun e9 => hk9 ((show ∀ x ∈ [8003, 42, 43, 44, 112, 115, 116, 117, 46, 47, 48, 49, 1022, 68, 69], x ∈ [8003, 42, 43, 44, 112, 115, 116, 117, 46, 47, 48, 49, 1022, 68, 69, 75] by decide) _ e9))))
                  have hR0 : fr S ρ ρ8 [1009, 1010] := (fun q9 j9 hk9 => by exact (ρ8f q9 j9 (fun e9 => hk9 ((show ∀ x ∈ [1009, 1010], x ∈ [1009, 1010] by decide) _ e9))))
                  have rel : ∀ (fu : Nat) (v : xD) (m : Int), (σ 0 1000 - m).toNat < fu → (Rx E Z S v ρ8 P σ) → (fr S τ8 v [75]) → (0 ≤ m ∧ m ≤ σ 0 1000) → (∀ o, 0 ≤ o → o < σ 0 1000 → v (P.2.1 25) o = if o < m ∧ g o = x13 then x11 else g o) → gW Γ E (xM E S v ρ8) 0 0 123 [some (.ref (P.1)), some (.int (iI many)), some (.int (iI a)), some (.int (iI b)), some (.int (iI x11)), some (.int (iI x13)), some (.int (iI m))] [] := by
                    intro fu
                    induction fu with
                    | zero => intro v m hn; exact absurd hn (Nat.not_lt_zero _)
                    | succ fu ih_rel =>
                      intro v m hn hx3 vf hm hv
                      have hp := (hx3).2.1
                      obtain ⟨N, NI, NM, NV, hN⟩ := (hx3).now
                      have eN := hN.2.2.2.2.2.2.2.2.2.2.2.2
                      have kNV : (S NV).1 = 45 := by rw [hN.2.2.2.1.2]
                      have nNV : (S NV).2.1 = 6 := by rw [hN.2.2.2.1.2]
                      refine g_iload hΓ rfl dX0_laysGroups_123 ?_
                      refine g_aload_n hΓ rfl dX0_laysGroups_125 ?_
                      refine x_callV (As := []) (rest := [.int (iI m)]) (c := 0) hE hΓ (x_X0_models hE hX S v ρ8 P σ  hx3  ) hp.1 ⟨by decide, rfl⟩ rfl rfl q841 q843 qs21 q123 q844 ndX0_models rfl (by decide) (by decide) (Nat.zero_le _) (Nat.zero_le _) rfl (Nat.le_of_ble_eq_true rfl) dX0_laysGroups_126 rfl (fun v14 S14 τ14 ρ14 h14 => ?_)
                      obtain ⟨rfl, S14e, τ14e, ρ14e⟩ := h14
                      have S14e := S14e.symm; subst S14e
                      have τ14e := τ14e.symm; subst τ14e
                      have ρ14e := ρ14e.symm; subst ρ14e
                      show gW Γ E (xM E S v ρ8) _ _ _ _ (.int (iI (σ 0 1000)) :: _)
                      refine g_icmp_ge (tgt := 159) hΓ (by omega) (by omega) dX0_laysGroups_129 (by decide) (fun c15 => ?_) (fun c15 => ?_)
                      · have hv9 := hv
                        have hv : ∀ o, 0 ≤ o → o < σ 0 1000 → v (P.2.1 25) o = if o < σ 0 1000 ∧ g o = x13 then x11 else g o := by rw [show σ 0 1000 = m by omega]; rw [show σ 0 1000 = m by omega] at hv9; exact hv9
                        obtain ⟨x16, ex16⟩ : ∃ z9 : Int, z9 = many + (-1) := ⟨_, rfl⟩
                        refine g_iinc hΓ dX0_laysGroups_159 rfl rfl (lv' := [some (.ref (P.1)), some (.int (iI x16)), some (.int (iI a)), some (.int (iI b)), some (.int (iI x11)), some (.int (iI x13)), some (.int (iI m))]) (by rw [ex16]; rfl) ?_
                        obtain ⟨x17, ex17⟩ : ∃ z9 : Int, z9 = b + 1 := ⟨_, rfl⟩
                        refine g_iinc hΓ dX0_laysGroups_162 rfl rfl (lv' := [some (.ref (P.1)), some (.int (iI x16)), some (.int (iI a)), some (.int (iI x17)), some (.int (iI x11)), some (.int (iI x13)), some (.int (iI m))]) (by rw [ex17]; rfl) ?_
                        refine g_goto (tgt := 42) hΓ dX0_laysGroups_165 (by decide) ?_
                        refine g_lvw (lv' := [some (.ref (P.1)), some (.int (iI x16)), some (.int (iI a)), some (.int (iI x17)), none, none, none]) ⟨rfl, ⟨rfl, ⟨rfl, ⟨rfl, trivial⟩⟩⟩⟩ ?_
                        exact ih_inn v ρ8 (jnF g a b (σ 0 1000)) x16 x17 (by omega) hx3 (fr_t ht (fr_t hF0 (fr_w vf (by decide)))) (fr_t hr hR0) (by rw [show x16 = many - 1 by omega]; exact grI_join hI (by omega) (by omega) (by omega)) (fun o9 x9 y9 => by rw [hv o9 x9 y9, jnF, ex11, ex13]; by_cases c9 : g o9 = max (g a) (g b); rw [if_pos ⟨by omega, c9⟩, if_pos ⟨x9, y9, c9⟩]; rw [if_neg (fun z9 => c9 z9.2), if_neg (fun z9 => c9 z9.2.2)]) (by omega) (by rw [hj, show (σ 0 1000 - b).toNat = (σ 0 1000 - x17).toNat + 1 by omega, grJ, show b + 1 = x17 by omega]; rw [if_pos (by omega)])
                      · have hm9 := hI.1 m (by omega) (by omega)
                        refine g_aload_n hΓ rfl dX0_laysGroups_132 ?_
                        refine x_geta (r := some (P.2.1 25)) (c := 0) hE hΓ in_X0 rfl hp.1 ⟨by decide, rfl⟩ 25 (ji := 25) rfl (by decide) (by decide) rfl q271 rfl rfl (pA_r hp 25 rfl rfl) dX0_laysGroups_133 ?_
                        show gW Γ E (xM E S v ρ8) 0 0 _ _ (.ref (P.2.1 25) :: _)
                        refine g_iload hΓ rfl dX0_laysGroups_136 ?_
                        refine x_iald hΓ (pA_k hp 25 rfl (n := 75) rfl) (pA_n hp 25 rfl (n := 8) rfl) ⟨by decide, rfl⟩ (by omega) (by omega) dX0_laysGroups_138 ?_
                        refine g_topi (((hv m (by omega) (by omega)).trans (if_neg (by omega)))) ?_
                        refine g_iload hΓ rfl dX0_laysGroups_139 ?_
                        refine g_icmp_ne (tgt := 153) hΓ (by omega) (by omega) dX0_laysGroups_141 (by decide) (fun c18 => ?_) (fun c18 => ?_)
                        · obtain ⟨x19, ex19⟩ : ∃ z9 : Int, z9 = m + 1 := ⟨_, rfl⟩
                          refine g_iinc hΓ dX0_laysGroups_153 rfl rfl (lv' := [some (.ref (P.1)), some (.int (iI many)), some (.int (iI a)), some (.int (iI b)), some (.int (iI x11)), some (.int (iI x13)), some (.int (iI x19))]) (by rw [ex19]; rfl) ?_
                          refine g_goto (tgt := 123) hΓ dX0_laysGroups_156 (by decide) ?_
                          exact ih_rel v x19 (by omega) hx3 vf (by omega) (fun o9 x9 y9 => (hv o9 x9 y9).trans (rl_skip (show x19 = m + 1 by omega) (by omega)))
                        · refine g_aload_n hΓ rfl dX0_laysGroups_144 ?_
                          refine x_geta (r := some (P.2.1 25)) (c := 0) hE hΓ in_X0 rfl hp.1 ⟨by decide, rfl⟩ 25 (ji := 25) rfl (by decide) (by decide) rfl q271 rfl rfl (pA_r hp 25 rfl rfl) dX0_laysGroups_145 ?_
                          show gW Γ E (xM E S v ρ8) 0 0 _ _ (.ref (P.2.1 25) :: _)
                          refine g_iload hΓ rfl dX0_laysGroups_148 ?_
                          refine g_iload hΓ rfl dX0_laysGroups_150 ?_
                          refine x_iast hΓ (pA_k hp 25 rfl (n := 75) rfl) (pA_n hp 25 rfl (n := 8) rfl) ⟨by decide, rfl⟩ (hAw _ (by rw [(pA_k hp 25 rfl (n := 75) rfl)]; rfl)) (by omega) (by omega) dX0_laysGroups_152 (fun τ20 τ20e => ?_)
                          have τ20r : τ20 (P.2.1 25) m = x11 := by rw [τ20e]; exact us_s _ _ _ _
                          have τ20f : ∀ (q9 : Nat) (j9 : Int), (q9 ≠ (P.2.1 25) ∨ j9 ≠ m) → τ20 q9 j9 = v q9 j9 := fun q9 j9 hh => by rw [τ20e]; exact us_n hh
                          obtain ⟨x21, ex21⟩ : ∃ z9 : Int, z9 = m + 1 := ⟨_, rfl⟩
                          refine g_iinc hΓ dX0_laysGroups_153 rfl rfl (lv' := [some (.ref (P.1)), some (.int (iI many)), some (.int (iI a)), some (.int (iI b)), some (.int (iI x11)), some (.int (iI x13)), some (.int (iI x21))]) (by rw [ex21]; rfl) ?_
                          refine g_goto (tgt := 123) hΓ dX0_laysGroups_156 (by decide) ?_
                          have hfD22 : fr S v τ20 [75] := (fun q9 j9 hk9 => by exact (τ20f q9 j9 (Or.inl (fun e9 => hk9 (by rw [e9, (pA_k hp 25 rfl (n := 75) rfl), mdN _ (by decide)]; decide)))))
                          have hxs22 : Rx E Z S τ20 ρ8 P σ := Rx_scr hx3 (fr_w hfD22 (by decide)) fr_rfl (GS_fr (hx3).1.1 hfD22 fr_rfl (m' := []) (by decide) (by decide))
                          exact ih_rel τ20 x21 (by omega) hxs22 (fr_t vf hfD22) (by omega) (fun o9 x9 y9 => rl_take (show x21 = m + 1 by omega) (by omega) (hv o9 x9 y9) τ20r (fun z9 => τ20f _ _ (Or.inr z9)))
                  refine g_iconst hΓ dX0_laysGroups_120 ?_
                  refine g_istore hΓ dX0_laysGroups_121 rfl (Nat.le_of_ble_eq_true rfl) (lv' := [some (.ref (P.1)), some (.int (iI many)), some (.int (iI a)), some (.int (iI b)), some (.int (iI x11)), some (.int (iI x13)), some (.int (iI 0))]) rfl ?_
                  exact rel 9 τ8 0 (by omega) h8 fr_rfl (by omega) (fun o9 x9 y9 => by rw [if_neg (by omega), show τ8 (P.2.1 25) = t (P.2.1 25) from fr_row τ8f (pA_k hp 25 rfl (n := 75) rfl) (by decide) (by decide)]; exact hg9 o9 x9 y9)
                · refine g_goto (tgt := 162) hΓ dX0_laysGroups_83 (by decide) ?_
                  obtain ⟨x23, ex23⟩ : ∃ z9 : Int, z9 = b + 1 := ⟨_, rfl⟩
                  refine g_iinc hΓ dX0_laysGroups_162 rfl rfl (lv' := [some (.ref (P.1)), some (.int (iI many)), some (.int (iI a)), some (.int (iI x23)), none, none, none]) (by rw [ex23]; rfl) ?_
                  refine g_goto (tgt := 42) hΓ dX0_laysGroups_165 (by decide) ?_
                  exact ih_inn τ8 ρ8 g many x23 (by omega) h8 (fr_t ht (fun q9 j9 hk9 => by exact (τ8f q9 j9 (fun e9 => hk9 ((show ∀ x ∈ [8003, 42, 43, 44, 112, 115, 116, 117, 46, 47, 48, 49, 1022, 68, 69], x ∈ [8003, 42, 43, 44, 112, 115, 116, 117, 46, 47, 48, 49, 1022, 68, 69, 75] by decide) _ e9))))) (fr_t hr (fun q9 j9 hk9 => by exact (ρ8f q9 j9 (fun e9 => hk9 ((show ∀ x ∈ [1009, 1010], x ∈ [1009, 1010] by decide) _ e9))))) hI (fun o9 x9 y9 => by rw [show τ8 (P.2.1 25) = t (P.2.1 25) from fr_row τ8f (pA_k hp 25 rfl (n := 75) rfl) (by decide) (by decide)]; exact hg9 o9 x9 y9) (by omega) (by rw [hj, show (σ 0 1000 - b).toNat = (σ 0 1000 - x23).toNat + 1 by omega, grJ, show b + 1 = x23 by omega]; first | (rw [if_neg (by omega)]; done) | (rw [jn_same (by omega)]; split <;> rfl))
        refine g_iload_n hΓ rfl dX0_laysGroups_38 ?_
        refine g_iconst hΓ dX0_laysGroups_39 ?_
        refine g_iadd hΓ dX0_laysGroups_40 ?_
        obtain ⟨x24, ex24⟩ : ∃ z9 : Int, z9 = a + 1 := ⟨_, rfl⟩
        refine g_topi ex24.symm ?_
        refine g_istore_n hΓ dX0_laysGroups_41 rfl (Nat.le_of_ble_eq_true rfl) (lv' := [some (.ref (P.1)), some (.int (iI many)), some (.int (iI a)), some (.int (iI x24)), none, none, none]) rfl ?_
        exact inn 9 t ρ g many x24 (by omega) hx1 ht hr hI hg9 (by omega) (by rw [ho, show (σ 0 1000 - a).toNat = (σ 0 1000 - (a + 1)).toNat + 1 by omega, grO, show x24 = a + 1 by omega])
  refine g_aload_n hΓ rfl dX0_laysGroups_0 ?_
  refine x_callV (As := []) (rest := []) (c := 0) hE hΓ (x_X0_models hE hX S D R P σ  hx  ) hp.1 ⟨by decide, rfl⟩ rfl rfl q841 q843 qs21 q123 q844 ndX0_models rfl (by decide) (by decide) (Nat.zero_le _) (Nat.zero_le _) rfl (Nat.le_of_ble_eq_true rfl) dX0_laysGroups_1 rfl (fun v25 S25 τ25 ρ25 h25 => ?_)
  obtain ⟨rfl, S25e, τ25e, ρ25e⟩ := h25
  have S25e := S25e.symm; subst S25e
  have τ25e := τ25e.symm; subst τ25e
  have ρ25e := ρ25e.symm; subst ρ25e
  show gW Γ E (xM E S D R) _ _ _ _ (.int (iI (σ 0 1000)) :: _)
  obtain ⟨x26, ex26⟩ : ∃ z9 : Int, z9 = σ 0 1000 := ⟨_, rfl⟩
  refine g_topi ex26.symm ?_
  refine g_istore_n hΓ dX0_laysGroups_4 rfl (Nat.le_of_ble_eq_true rfl) (lv' := [some (.ref (P.1)), some (.int (iI x26)), none, none, none, none, none]) rfl ?_
  have ini : ∀ (fu : Nat) (t : xD) (q : Int), (σ 0 1000 - q).toNat < fu → (Rx E Z S t R P σ) → (fr S D t [75]) → (0 ≤ q ∧ q ≤ σ 0 1000) → (∀ o, 0 ≤ o → o < q → t (P.2.1 25) o = o) → gW Γ E (xM E S t R) 0 0 7 [some (.ref (P.1)), some (.int (iI x26)), some (.int (iI q)), none, none, none, none] [] := by
    intro fu
    induction fu with
    | zero => intro t q hn; exact absurd hn (Nat.not_lt_zero _)
    | succ fu ih_ini =>
      intro t q hn hx1 tf0 hq ho
      obtain ⟨hg, hp, hki, hro, hnw, hbh, hsa, hpd⟩ := id hx1
      obtain ⟨N, NI, NM, NV, hN⟩ := (hx1).now
      have hAw := hg.2.2.2.2.2.2
      have hG : GS S t R := hg.1
      obtain ⟨h1000, h1009, h1042, h1043, h1044, h1045, h1046, h1047, hms, hsi, hsm, hnm⟩ := id hro
      have eN := hN.2.2.2.2.2.2.2.2.2.2.2.2
      have kNV : (S NV).1 = 45 := by rw [hN.2.2.2.1.2]
      have nNV : (S NV).2.1 = 6 := by rw [hN.2.2.2.1.2]
      refine g_iload_n hΓ rfl dX0_laysGroups_7 ?_
      refine g_aload_n hΓ rfl dX0_laysGroups_8 ?_
      refine x_callV (As := []) (rest := [.int (iI q)]) (c := 0) hE hΓ (x_X0_models hE hX S t R P σ  hx1  ) hp.1 ⟨by decide, rfl⟩ rfl rfl q841 q843 qs21 q123 q844 ndX0_models rfl (by decide) (by decide) (Nat.zero_le _) (Nat.zero_le _) rfl (Nat.le_of_ble_eq_true rfl) dX0_laysGroups_9 rfl (fun v27 S27 τ27 ρ27 h27 => ?_)
      obtain ⟨rfl, S27e, τ27e, ρ27e⟩ := h27
      have S27e := S27e.symm; subst S27e
      have τ27e := τ27e.symm; subst τ27e
      have ρ27e := ρ27e.symm; subst ρ27e
      show gW Γ E (xM E S t R) _ _ _ _ (.int (iI (σ 0 1000)) :: _)
      refine g_icmp_ge (tgt := 28) hΓ (by omega) (by omega) dX0_laysGroups_12 (by decide) (fun c28 => ?_) (fun c28 => ?_)
      · refine g_iconst hΓ dX0_laysGroups_28 ?_
        refine g_istore_n hΓ dX0_laysGroups_29 rfl (Nat.le_of_ble_eq_true rfl) (lv' := [some (.ref (P.1)), some (.int (iI x26)), some (.int (iI 0)), none, none, none, none]) rfl ?_
        exact out 9 t R (fun m => m) x26 0 (by omega) hx1 (fr_w tf0 (by decide)) fr_rfl (by rw [show (x26 : Int) = σ 0 1000 by omega]; exact grI_0 (by omega)) (fun o9 x9 y9 => ho o9 x9 (by omega)) (by omega) (by rw [grE, show nMod σ = (σ 0 1000 - 0).toNat by rw [nMod]; omega])
      · refine g_aload_n hΓ rfl dX0_laysGroups_15 ?_
        refine x_geta (r := some (P.2.1 25)) (c := 0) hE hΓ in_X0 rfl hp.1 ⟨by decide, rfl⟩ 25 (ji := 25) rfl (by decide) (by decide) rfl q271 rfl rfl (pA_r hp 25 rfl rfl) dX0_laysGroups_16 ?_
        show gW Γ E (xM E S t R) 0 0 _ _ (.ref (P.2.1 25) :: _)
        refine g_iload_n hΓ rfl dX0_laysGroups_19 ?_
        refine g_iload_n hΓ rfl dX0_laysGroups_20 ?_
        refine x_iast hΓ (pA_k hp 25 rfl (n := 75) rfl) (pA_n hp 25 rfl (n := 8) rfl) ⟨by decide, rfl⟩ (hAw _ (by rw [(pA_k hp 25 rfl (n := 75) rfl)]; rfl)) (by omega) (by omega) dX0_laysGroups_21 (fun τ29 τ29e => ?_)
        have τ29r : τ29 (P.2.1 25) q = q := by rw [τ29e]; exact us_s _ _ _ _
        have τ29f : ∀ (q9 : Nat) (j9 : Int), (q9 ≠ (P.2.1 25) ∨ j9 ≠ q) → τ29 q9 j9 = t q9 j9 := fun q9 j9 hh => by rw [τ29e]; exact us_n hh
        obtain ⟨x30, ex30⟩ : ∃ z9 : Int, z9 = q + 1 := ⟨_, rfl⟩
        refine g_iinc hΓ dX0_laysGroups_22 rfl rfl (lv' := [some (.ref (P.1)), some (.int (iI x26)), some (.int (iI x30)), none, none, none, none]) (by rw [ex30]; rfl) ?_
        refine g_goto (tgt := 7) hΓ dX0_laysGroups_25 (by decide) ?_
        have hfD31 : fr S t τ29 [75] := (fun q9 j9 hk9 => by exact (τ29f q9 j9 (Or.inl (fun e9 => hk9 (by rw [e9, (pA_k hp 25 rfl (n := 75) rfl), mdN _ (by decide)]; decide)))))
        have hxs31 : Rx E Z S τ29 R P σ := Rx_scr hx1 (fr_w hfD31 (by decide)) fr_rfl (GS_fr (hx1).1.1 hfD31 fr_rfl (m' := []) (by decide) (by decide))
        exact ih_ini τ29 x30 (by omega) hxs31 (fr_t tf0 hfD31) (by omega) (fun o9 x9 y9 => by by_cases c9 : o9 = q; rw [c9]; exact τ29r; exact (τ29f _ _ (Or.inr c9)).trans (ho o9 x9 (by omega)))
  refine g_iconst hΓ dX0_laysGroups_5 ?_
  refine g_istore_n hΓ dX0_laysGroups_6 rfl (Nat.le_of_ble_eq_true rfl) (lv' := [some (.ref (P.1)), some (.int (iI x26)), some (.int (iI 0)), none, none, none, none]) rfl ?_
  exact ini 9 D 0 (by omega) hx fr_rfl (by omega) (fun o9 x9 y9 => absurd x9 (by omega))
set_option maxHeartbeats 4000000 in
theorem x_X0_group {l : Launch} {E : gE} {X : State → Prop} {Z : Nat → Nat} {Y : Nat → Option Nat} (hE : E.2.1 = clsX) (hX : xOK l E X Z Y) (hL : xLam l E X (Z 20) (Z 21)) (S : xS) (D : xD) (R : xR) (P : xPk) (σ : mS) (m : Int) (hx : Rx E Z S D R P σ) (hm : r32 m) : xC l E X yX0_group cX0_group 2 (some .int) 15 0 0 [.ref (P.1), .int (iI m)] S D R (fun rv S' D' R' => rv = some (.int (iI (sp_group σ m))) ∧ (Rx E Z S D' R' P σ) ∧ S' = S ∧ fr S D D' [8003, 42, 43, 44, 112, 115, 116, 117, 46, 47, 48, 49, 1022, 68, 69, 75] ∧ fr S R R' [1009, 1010]) := by
  refine xC.of hX.1 (by decide) [some (.ref (P.1)), some (.int (iI m))] (Nat.le_of_ble_eq_true rfl) rfl rfl (fun Γ hΓ => ?_)
  obtain ⟨hg, hp, hki, hro, hnw, hbh, hsa, hpd⟩ := id hx
  obtain ⟨N, NI, NM, NV, hN⟩ := (hx).now
  have hAw := hg.2.2.2.2.2.2
  have hG : GS S D R := hg.1
  obtain ⟨h1000, h1009, h1042, h1043, h1044, h1045, h1046, h1047, hms, hsi, hsm, hnm⟩ := id hro
  have eN := hN.2.2.2.2.2.2.2.2.2.2.2.2
  have kNV : (S NV).1 = 45 := by rw [hN.2.2.2.1.2]
  have nNV : (S NV).2.1 = 6 := by rw [hN.2.2.2.1.2]
  refine g_aload_n hΓ rfl dX0_group_0 ?_
  refine g_iload_n hΓ rfl dX0_group_1 ?_
  refine x_callV (As := [.int (iI m)]) (rest := []) (c := 0) hE hΓ (x_X0_isModel hE hX S D R P σ m hx (by first | assumption | omega) ) hp.1 ⟨by decide, rfl⟩ rfl rfl q852 q854 qs22 q123 q855 ndX0_isModel rfl (by decide) (by decide) (Nat.zero_le _) (Nat.zero_le _) rfl (Nat.le_of_ble_eq_true rfl) dX0_group_2 rfl (fun v1 S1 τ1 ρ1 h1 => ?_)
  obtain ⟨rfl, S1e, τ1e, ρ1e⟩ := h1
  have S1e := S1e.symm; subst S1e
  have τ1e := τ1e.symm; subst τ1e
  have ρ1e := ρ1e.symm; subst ρ1e
  show gW Γ E (xM E S D R) _ _ _ _ (.int (iI (if 0 ≤ m ∧ m < σ 0 1000 then 1 else 0)) :: _)
  refine g_ifB_ne (tgt := 10) hΓ  dX0_group_5 (by decide) (fun c2 => ?_) (fun c2 => ?_)
  · refine g_aload_n hΓ rfl dX0_group_10 ?_
    refine x_callV (As := []) (rest := []) (c := 0) hE hΓ (x_X0_laysGroups hE hX hL S D R P σ  hx  ) hp.1 ⟨by decide, rfl⟩ rfl rfl q1114 q1116 qs41 q123 q1117 ndX0_laysGroups rfl (by decide) (by decide) (Nat.zero_le _) (Nat.zero_le _) rfl (Nat.le_of_ble_eq_true rfl) dX0_group_11 rfl (fun v3 S3 τ3 ρ3 h3 => ?_)
    obtain ⟨rfl, h3, S3e, τ3f, ρ3f⟩ := h3
    have S3e := S3e.symm; subst S3e
    show gW Γ E (xM E S τ3 ρ3) _ _ _ _ (.int (iI (sp_groups σ)) :: _)
    refine g_pop hΓ rfl dX0_group_14 ?_
    refine g_aload_n hΓ rfl dX0_group_15 ?_
    refine x_geta (r := some (P.2.1 25)) (c := 0) hE hΓ in_X0 rfl hp.1 ⟨by decide, rfl⟩ 25 (ji := 25) rfl (by decide) (by decide) rfl q271 rfl rfl ((ρ3f (P.1) 25 (by rw [hp.1]; decide)).trans (pA_r hp 25 rfl rfl)) dX0_group_16 ?_
    show gW Γ E (xM E S τ3 ρ3) 0 0 _ _ (.ref (P.2.1 25) :: _)
    refine g_iload_n hΓ rfl dX0_group_19 ?_
    refine x_iald hΓ (pA_k hp 25 rfl (n := 75) rfl) (pA_n hp 25 rfl (n := 8) rfl) ⟨by decide, rfl⟩ (by omega) (by omega) dX0_group_20 ?_
    refine g_topi ((h3.2 m (by omega) (by omega))) ?_
    exact x_iret hΓ dX0_group_21 (Nat.zero_le _) (Nat.zero_le _) ⟨ri (by rw [sp_group]; first | (rw [if_pos (by omega)]; done) | (rw [if_neg (by omega)])), h3.1, rfl, (fun q9 j9 hk9 => by exact (τ3f q9 j9 (fun e9 => hk9 ((show ∀ x ∈ [8003, 42, 43, 44, 112, 115, 116, 117, 46, 47, 48, 49, 1022, 68, 69, 75], x ∈ [8003, 42, 43, 44, 112, 115, 116, 117, 46, 47, 48, 49, 1022, 68, 69, 75] by decide) _ e9)))), (fun q9 j9 hk9 => by exact (ρ3f q9 j9 (fun e9 => hk9 ((show ∀ x ∈ [1009, 1010], x ∈ [1009, 1010] by decide) _ e9))))⟩
  · refine g_iconst hΓ dX0_group_8 ?_
    exact x_iret hΓ dX0_group_9 (Nat.zero_le _) (Nat.zero_le _) ⟨ri (by rw [sp_group]; first | (rw [if_pos (by omega)]; done) | (rw [if_neg (by omega)])), hx, rfl, (fun q9 j9 hk9 => rfl), (fun q9 j9 hk9 => rfl)⟩
set_option maxHeartbeats 4000000 in
theorem x_X0_groups {l : Launch} {E : gE} {X : State → Prop} {Z : Nat → Nat} {Y : Nat → Option Nat} (hE : E.2.1 = clsX) (hX : xOK l E X Z Y) (hL : xLam l E X (Z 20) (Z 21)) (S : xS) (D : xD) (R : xR) (P : xPk) (σ : mS)  (hx : Rx E Z S D R P σ) : xC l E X yX0_groups cX0_groups 1 (some .int) 15 0 0 [.ref (P.1)] S D R (fun rv S' D' R' => rv = some (.int (iI (sp_groups σ))) ∧ (Rx E Z S D' R' P σ) ∧ S' = S ∧ fr S D D' [8003, 42, 43, 44, 112, 115, 116, 117, 46, 47, 48, 49, 1022, 68, 69, 75] ∧ fr S R R' [1009, 1010]) := by
  refine xC.of hX.1 (by decide) [some (.ref (P.1))] (Nat.le_of_ble_eq_true rfl) rfl rfl (fun Γ hΓ => ?_)
  obtain ⟨hg, hp, hki, hro, hnw, hbh, hsa, hpd⟩ := id hx
  obtain ⟨N, NI, NM, NV, hN⟩ := (hx).now
  have hAw := hg.2.2.2.2.2.2
  have hG : GS S D R := hg.1
  obtain ⟨h1000, h1009, h1042, h1043, h1044, h1045, h1046, h1047, hms, hsi, hsm, hnm⟩ := id hro
  have eN := hN.2.2.2.2.2.2.2.2.2.2.2.2
  have kNV : (S NV).1 = 45 := by rw [hN.2.2.2.1.2]
  have nNV : (S NV).2.1 = 6 := by rw [hN.2.2.2.1.2]
  refine g_aload_n hΓ rfl dX0_groups_0 ?_
  refine x_callV (As := []) (rest := []) (c := 0) hE hΓ (x_X0_laysGroups hE hX hL S D R P σ  hx  ) hp.1 ⟨by decide, rfl⟩ rfl rfl q1114 q1116 qs41 q123 q1117 ndX0_laysGroups rfl (by decide) (by decide) (Nat.zero_le _) (Nat.zero_le _) rfl (Nat.le_of_ble_eq_true rfl) dX0_groups_1 rfl (fun v1 S1 τ1 ρ1 h1 => ?_)
  obtain ⟨rfl, h1, S1e, τ1f, ρ1f⟩ := h1
  have S1e := S1e.symm; subst S1e
  show gW Γ E (xM E S τ1 ρ1) _ _ _ _ (.int (iI (sp_groups σ)) :: _)
  exact x_iret hΓ dX0_groups_4 (Nat.zero_le _) (Nat.zero_le _) ⟨rfl, h1.1, rfl, (fun q9 j9 hk9 => by exact (τ1f q9 j9 (fun e9 => hk9 ((show ∀ x ∈ [8003, 42, 43, 44, 112, 115, 116, 117, 46, 47, 48, 49, 1022, 68, 69, 75], x ∈ [8003, 42, 43, 44, 112, 115, 116, 117, 46, 47, 48, 49, 1022, 68, 69, 75] by decide) _ e9)))), (fun q9 j9 hk9 => by exact (ρ1f q9 j9 (fun e9 => hk9 ((show ∀ x ∈ [1009, 1010], x ∈ [1009, 1010] by decide) _ e9))))⟩
