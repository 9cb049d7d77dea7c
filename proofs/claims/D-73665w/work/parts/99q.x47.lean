set_option maxRecDepth 100000
set_option maxHeartbeats 4000000 in
theorem x_X0_areStrokes {l : Launch} {E : gE} {X : State → Prop} {Z : Nat → Nat} {Y : Nat → Option Nat} (hE : E.2.1 = clsX) (hX : xOK l E X Z Y) (S : xS) (D : xD) (R : xR) (P : xPk) (σ : mS) (n : Int) (hx : Rx E Z S D R P σ) (hn : 2 ≤ n ∧ n ≤ 1600) (h08 : σ 11 0 ≤ 8) (hrw : D (P.2.1 30) 2 = 0) : xC l E X yX0_areStrokes cX0_areStrokes 7 (some .boolean) 7 56 1400 [.ref (P.1), .ref (P.2.1 30), .int (iI n)] S D R (fun rv S' D' R' => rv = some (.int (iI (if (tkP (σ 11) (n - 1) (σ 11 0).toNat) = n - 1 then 1 else 0))) ∧ (Rx E Z S' D' R' P σ ∧ ((tkP (σ 11) (n - 1) (σ 11 0).toNat) = n - 1 → rwL S' D' R' (P.2.1 30) (σ 11 0) (fun i => σ 11 (tkP (σ 11) (n - 1) i.toNat)) (fun i j => σ 11 ((tkP (σ 11) (n - 1) i.toNat) + 1 + j)) ∧ ∀ s', 0 ≤ s' → s' < σ 11 0 → 2 ≤ σ 11 (tkP (σ 11) (n - 1) s'.toNat) ∧ σ 11 (tkP (σ 11) (n - 1) s'.toNat) ≤ 12)) ∧ sle S S') := by
  refine xC.of hX.1 (by decide) [some (.ref (P.1)), some (.ref (P.2.1 30)), some (.int (iI n)), none, none, none, none] (Nat.le_of_ble_eq_true rfl) rfl rfl (fun Γ hΓ => ?_)
  obtain ⟨hg, hp, hki, hro, hnw, hbh, hsa, hpd⟩ := id hx
  obtain ⟨N, NI, NM, NV, hN⟩ := (hx).now
  have hAw := hg.2.2.2.2.2.2
  have hG : GS S D R := hg.1
  obtain ⟨h1000, h1009, h1042, h1043, h1044, h1045, h1046, h1047, hms, hsi, hsm, hnm⟩ := id hro
  have eN := hN.2.2.2.2.2.2.2.2.2.2.2.2
  have kNV : (S NV).1 = 45 := by rw [hN.2.2.2.1.2]
  have nNV : (S NV).2.1 = 6 := by rw [hN.2.2.2.1.2]
  have htd := hpd.2.1
  have h00 := (htd 0 (by decide) (by decide)).2
  have out : ∀ (fu : Nat) (S1 : xS) (D1 : xD) (R1 : xR) (at9 : Int) (s : Int), (σ 11 0 - s).toNat < fu → (sle S S1) → (Rx E Z S1 D1 R1 P σ) → (0 ≤ s ∧ s ≤ σ 11 0) → (at9 = (tkP (σ 11) (n - 1) s.toNat) ∧ 1 ≤ at9 ∧ at9 ≤ n) → (rwL S1 D1 R1 (P.2.1 30) s (fun i => σ 11 (tkP (σ 11) (n - 1) i.toNat)) (fun i j => σ 11 ((tkP (σ 11) (n - 1) i.toNat) + 1 + j))) → (∀ s', 0 ≤ s' → s' < s → 2 ≤ σ 11 (tkP (σ 11) (n - 1) s'.toNat) ∧ σ 11 (tkP (σ 11) (n - 1) s'.toNat) ≤ 12) → gW Γ E (xM E S1 D1 R1) (7 * s.toNat) (168 * s.toNat) 5 [some (.ref (P.1)), some (.ref (P.2.1 30)), some (.int (iI n)), some (.int (iI at9)), some (.int (iI s)), none, none] [] := by
    intro fu
    induction fu with
    | zero => intro S1 D1 R1 at9 s hn; exact absurd hn (Nat.not_lt_zero _)
    | succ fu ih_out =>
      intro S1 D1 R1 at9 s hn hsl hx1 hs hat hrw hcn
      obtain ⟨hg, hp, hki, hro, hnw, hbh, hsa, hpd⟩ := id hx1
      obtain ⟨N, NI, NM, NV, hN⟩ := (hx1).now
      have hAw := hg.2.2.2.2.2.2
      have hG : GS S1 D1 R1 := hg.1
      obtain ⟨h1000, h1009, h1042, h1043, h1044, h1045, h1046, h1047, hms, hsi, hsm, hnm⟩ := id hro
      have eN := hN.2.2.2.2.2.2.2.2.2.2.2.2
      have kNV : (S1 NV).1 = 45 := by rw [hN.2.2.2.1.2]
      have nNV : (S1 NV).2.1 = 6 := by rw [hN.2.2.2.1.2]
      have eNI : NI = rf R1 (rf R1 P.1 4) 1 := by rw [eN.2.2.1, eN.1]
      have htd1 := hpd.2.1
      refine g_iload hΓ rfl dX0_areStrokes_5 ?_
      refine g_aload_n hΓ rfl dX0_areStrokes_7 ?_
      refine x_geta (r := some (P.2.1 0)) (c := 0) hE hΓ in_X0 rfl hp.1 ⟨by decide, rfl⟩ 0 (ji := 0) rfl (by decide) (by decide) rfl q244 rfl rfl (pA_r hp 0 rfl rfl) dX0_areStrokes_8 ?_
      show gW Γ E (xM E S1 D1 R1) (7 * s.toNat) (168 * s.toNat) _ _ (.ref (P.2.1 0) :: _)
      refine g_iconst hΓ dX0_areStrokes_11 ?_
      refine x_cald hΓ (pA_k hp 0 rfl (n := 50) rfl) (pA_n hp 0 rfl (n := 1600) rfl) ⟨by decide, rfl⟩ (by omega) (by omega) dX0_areStrokes_12 ?_
      refine g_topi ((htd1 0 (by decide) (by decide)).1) ?_
      refine g_icmp_ge (tgt := 155) hΓ (by omega) (by omega) dX0_areStrokes_13 (by decide) (fun c1 => ?_) (fun c1 => ?_)
      · refine g_iload_n hΓ rfl dX0_areStrokes_155 ?_
        refine g_iload_n hΓ rfl dX0_areStrokes_156 ?_
        refine g_iconst hΓ dX0_areStrokes_157 ?_
        refine g_isub hΓ dX0_areStrokes_158 ?_
        refine g_icmp_ne (tgt := 166) hΓ (by omega) (by omega) dX0_areStrokes_159 (by decide) (fun c2 => ?_) (fun c2 => ?_)
        · refine g_iconst hΓ dX0_areStrokes_166 ?_
          have hse : s = σ 11 0 := by omega
          exact x_zret hΓ (by omega) dX0_areStrokes_167 (by omega) (by omega) ⟨ri (by rw [← hse, ← hat.1]; first | (rw [if_pos (by omega)]; done) | (rw [if_neg (by omega)])), ⟨hx1, fun _ => by rw [← hse]; exact ⟨hrw, hcn⟩⟩, hsl⟩
        · refine g_iconst hΓ dX0_areStrokes_162 ?_
          refine g_goto (tgt := 167) hΓ dX0_areStrokes_163 (by decide) ?_
          have hse : s = σ 11 0 := by omega
          exact x_zret hΓ (by omega) dX0_areStrokes_167 (by omega) (by omega) ⟨ri (by rw [← hse, ← hat.1]; first | (rw [if_pos (by omega)]; done) | (rw [if_neg (by omega)])), ⟨hx1, fun _ => by rw [← hse]; exact ⟨hrw, hcn⟩⟩, hsl⟩
      · refine g_iload_n hΓ rfl dX0_areStrokes_16 ?_
        refine g_iload_n hΓ rfl dX0_areStrokes_17 ?_
        refine g_iconst hΓ dX0_areStrokes_18 ?_
        refine g_isub hΓ dX0_areStrokes_19 ?_
        refine g_icmp_ge (tgt := 60) hΓ (by omega) (by omega) dX0_areStrokes_20 (by decide) (fun c3 => ?_) (fun c3 => ?_)
        · refine g_iconst hΓ dX0_areStrokes_60 ?_
          have hnt : ¬ tkC (σ 11) (n - 1) at9 := fun z => by have z1 := z.1; have z2 := z.2.1; have z3 := z.2.2.1; omega
          have hdd : (tkP (σ 11) (n - 1) (σ 11 0).toNat) ≠ n - 1 := fun h9 => by
            have h8 := tkP_dead (f := σ 11) (e := n - 1) (s := s.toNat + 1) (by rw [tkP, if_neg (fun z => hnt (by rw [← hat.1] at z; exact z.2))]) ((σ 11 0).toNat - (s.toNat + 1))
            rw [show s.toNat + 1 + ((σ 11 0).toNat - (s.toNat + 1)) = (σ 11 0).toNat by omega] at h8
            omega
          exact x_zret hΓ (by omega) dX0_areStrokes_61 (by omega) (by omega) ⟨ri (by rw [if_neg hdd]), ⟨hx1, fun h9 => absurd h9 hdd⟩, hsl⟩
        · refine g_aload_n hΓ rfl dX0_areStrokes_23 ?_
          refine x_geta (r := some (P.2.1 0)) (c := 0) hE hΓ in_X0 rfl hp.1 ⟨by decide, rfl⟩ 0 (ji := 0) rfl (by decide) (by decide) rfl q244 rfl rfl (pA_r hp 0 rfl rfl) dX0_areStrokes_24 ?_
          show gW Γ E (xM E S1 D1 R1) (7 * s.toNat) (168 * s.toNat) _ _ (.ref (P.2.1 0) :: _)
          refine g_iload_n hΓ rfl dX0_areStrokes_27 ?_
          have hta := (htd1 at9 (by omega) (by omega)).2
          refine x_cald hΓ (pA_k hp 0 rfl (n := 50) rfl) (pA_n hp 0 rfl (n := 1600) rfl) ⟨by decide, rfl⟩ (by omega) (by omega) dX0_areStrokes_28 ?_
          refine g_topi ((htd1 at9 (by omega) (by omega)).1) ?_
          refine g_i2l hΓ (by omega) dX0_areStrokes_29 ?_
          refine g_ldc2 (n := 2) hΓ rfl q846 (by decide) dX0_areStrokes_30 ?_
          refine g_ldc2 (n := 12) hΓ rfl q1346 (by decide) dX0_areStrokes_33 ?_
          refine x_callS (As := [.long (lI (σ 11 at9)), .long (lI 2), .long (lI 12)]) (rest := []) hΓ (x_X0_isIn hE hX S1 D1 R1 (σ 11 at9) 2 12 (by first | assumption | omega) (by first | assumption | omega) (by first | assumption | omega)) rfl q387 q388 q123 q389 ndX0_isIn rfl (by decide) (by decide) (by omega) (by omega) rfl (Nat.le_of_ble_eq_true rfl) dX0_areStrokes_36 rfl (fun v4 S4 τ4 ρ4 h4 => ?_)
          obtain ⟨rfl, S4e, τ4e, ρ4e⟩ := h4
          have S4e := S4e.symm; subst S4e
          have τ4e := τ4e.symm; subst τ4e
          have ρ4e := ρ4e.symm; subst ρ4e
          show gW Γ E (xM E S1 D1 R1) _ _ _ _ (.int (iI (if 2 ≤ (σ 11 at9) ∧ (σ 11 at9) ≤ 12 then 1 else 0)) :: _)
          refine g_ifB_eq (tgt := 60) hΓ  dX0_areStrokes_39 (by decide) (fun c5 => ?_) (fun c5 => ?_)
          · refine g_iconst hΓ dX0_areStrokes_60 ?_
            have hnt : ¬ tkC (σ 11) (n - 1) at9 := fun z => by have z1 := z.1; have z2 := z.2.1; have z3 := z.2.2.1; omega
            have hdd : (tkP (σ 11) (n - 1) (σ 11 0).toNat) ≠ n - 1 := fun h9 => by
              have h8 := tkP_dead (f := σ 11) (e := n - 1) (s := s.toNat + 1) (by rw [tkP, if_neg (fun z => hnt (by rw [← hat.1] at z; exact z.2))]) ((σ 11 0).toNat - (s.toNat + 1))
              rw [show s.toNat + 1 + ((σ 11 0).toNat - (s.toNat + 1)) = (σ 11 0).toNat by omega] at h8
              omega
            exact x_zret hΓ (by omega) dX0_areStrokes_61 (by omega) (by omega) ⟨ri (by rw [if_neg hdd]), ⟨hx1, fun h9 => absurd h9 hdd⟩, hsl⟩
          · refine g_iload_n hΓ rfl dX0_areStrokes_42 ?_
            refine g_iconst hΓ dX0_areStrokes_43 ?_
            refine g_iadd hΓ dX0_areStrokes_44 ?_
            refine g_iconst hΓ dX0_areStrokes_45 ?_
            refine g_aload_n hΓ rfl dX0_areStrokes_46 ?_
            refine x_geta (r := some (P.2.1 0)) (c := 0) hE hΓ in_X0 rfl hp.1 ⟨by decide, rfl⟩ 0 (ji := 0) rfl (by decide) (by decide) rfl q244 rfl rfl (pA_r hp 0 rfl rfl) dX0_areStrokes_47 ?_
            show gW Γ E (xM E S1 D1 R1) ((7 * s.toNat) + 0) ((168 * s.toNat) + 0) _ _ (.ref (P.2.1 0) :: _)
            refine g_iload_n hΓ rfl dX0_areStrokes_50 ?_
            have hta2 := (htd1 at9 (by omega) (by omega)).2
            refine x_cald hΓ (pA_k hp 0 rfl (n := 50) rfl) (pA_n hp 0 rfl (n := 1600) rfl) ⟨by decide, rfl⟩ (by omega) (by omega) dX0_areStrokes_51 ?_
            refine g_topi ((htd1 at9 (by omega) (by omega)).1) ?_
            refine g_imul hΓ dX0_areStrokes_52 ?_
            refine g_iadd hΓ dX0_areStrokes_53 ?_
            refine g_iload_n hΓ rfl dX0_areStrokes_54 ?_
            refine g_iconst hΓ dX0_areStrokes_55 ?_
            refine g_isub hΓ dX0_areStrokes_56 ?_
            refine g_icmp_le (tgt := 62) hΓ (by omega) (by omega) dX0_areStrokes_57 (by decide) (fun c6 => ?_) (fun c6 => ?_)
            · refine g_iconst hΓ dX0_areStrokes_62 ?_
              refine g_aload_n hΓ rfl dX0_areStrokes_63 ?_
              refine x_geta (r := some (P.2.1 0)) (c := 0) hE hΓ in_X0 rfl hp.1 ⟨by decide, rfl⟩ 0 (ji := 0) rfl (by decide) (by decide) rfl q244 rfl rfl (pA_r hp 0 rfl rfl) dX0_areStrokes_64 ?_
              show gW Γ E (xM E S1 D1 R1) ((7 * s.toNat) + 0) ((168 * s.toNat) + 0) _ _ (.ref (P.2.1 0) :: _)
              refine g_iload_n hΓ rfl dX0_areStrokes_67 ?_
              refine x_cald hΓ (pA_k hp 0 rfl (n := 50) rfl) (pA_n hp 0 rfl (n := 1600) rfl) ⟨by decide, rfl⟩ (by omega) (by omega) dX0_areStrokes_68 ?_
              refine g_topi ((htd1 at9 (by omega) (by omega)).1) ?_
              refine g_imul hΓ dX0_areStrokes_69 ?_
              obtain ⟨x7, ex7⟩ : ∃ z9 : Int, z9 = 2 * (σ 11 at9) := ⟨_, rfl⟩
              refine g_topi ex7.symm ?_
              refine g_istore hΓ dX0_areStrokes_70 rfl (Nat.le_of_ble_eq_true rfl) (lv' := [some (.ref (P.1)), some (.ref (P.2.1 30)), some (.int (iI n)), some (.int (iI at9)), some (.int (iI s)), some (.int (iI x7)), none]) rfl ?_
              have hm9 := (htd1 at9 (by omega) (by omega)).2
              have hmr : x7 = 2 * σ 11 at9 := by omega
              have k53 := pA_k hp 3 rfl (n := 53) rfl
              have k30 := pL_k hp 30 rfl (n := 13) rfl
              have inn : ∀ (fu : Nat) (t : xD) (k : Int), (x7 - k).toNat < fu → (Rx E Z S1 t R1 P σ) → (fr S1 D1 t [53]) → (0 ≤ k ∧ k ≤ x7) → (∀ j, 0 ≤ j → j < k → t (P.2.1 3) j = σ 11 (at9 + 1 + j)) → (smlF (fun k => σ 11 (at9 + 1 + k)) k.toNat = true) → gW Γ E (xM E S1 t R1) ((7 * s.toNat) + 0) ((168 * s.toNat) + 0) 75 [some (.ref (P.1)), some (.ref (P.2.1 30)), some (.int (iI n)), some (.int (iI at9)), some (.int (iI s)), some (.int (iI x7)), some (.int (iI k))] [] := by
                intro fu
                induction fu with
                | zero => intro t k hn; exact absurd hn (Nat.not_lt_zero _)
                | succ fu ih_inn =>
                  intro t k hn hx2 hfr2 hk hw hsm9
                  have hpd2 := hx2.2.2.2.2.2.2.2
                  have htd2 := hpd2.2.1
                  refine g_iload hΓ rfl dX0_areStrokes_75 ?_
                  refine g_iload hΓ rfl dX0_areStrokes_77 ?_
                  refine g_icmp_ge (tgt := 124) hΓ (by omega) (by omega) dX0_areStrokes_79 (by decide) (fun c8 => ?_) (fun c8 => ?_)
                  · refine g_aload_n hΓ rfl dX0_areStrokes_124 ?_
                    refine x_new (c := 8) hE hΓ (xn_new hX) 8 0 in_X8 rfl ⟨by decide, rfl⟩ tyX8 tyX8_ok rfl q915 q786 q144 fs0_8 (by omega) (by omega) dX0_areStrokes_125 (fun q9 S9 δ9 ρ9 q9z q9w S9e δ9e ρ9e => ?_)
                    have S9f : ∀ q9 : Nat, (S1 q9).1 ≠ 0 → S9 q9 = S1 q9 := fun q9 h9 => by rw [S9e]; exact uS_n (fun e9 => h9 (by rw [e9]; exact q9z))
                    have S9q : S9 q9 = (8, 7, 0) := by rw [S9e]; exact uS_s _ _ _ _ _
                    have δ9z : ∀ j9 : Int, δ9 q9 j9 = 0 := fun j9 => by rw [δ9e, uN_s]
                    have δ9f : ∀ (qq : Nat) (j9 : Int), qq ≠ q9 → δ9 qq j9 = t qq j9 := fun qq j9 h9 => by rw [δ9e, uN_n h9]
                    have ρ9z : ∀ j9 : Int, ρ9 q9 j9 = none := fun j9 => by rw [ρ9e, uN_s]
                    have ρ9f : ∀ (qq : Nat) (j9 : Int), qq ≠ q9 → ρ9 qq j9 = R1 qq j9 := fun qq j9 h9 => by rw [ρ9e, uN_n h9]
                    have kd10 : (S9 (P.1)).1 = 1 := kup hp.1 (by decide) S9f
                    have kd11 : (S9 N).1 = 2 := kup hN.1.2 (by decide) S9f
                    have kd12 : (S9 NI).1 = 10 := kup hN.2.2.1.2 (by decide) S9f
                    have kd13 : (S9 NM).1 = 11 := kup hN.2.1.2 (by decide) S9f
                    have kd14 : (S9 NV).1 = 45 := kup kNV (by decide) S9f
                    have ln14 : (S9 NV).2.1 = 6 := nup kNV (by decide) nNV S9f
                    have kd15 : (S9 (P.2.1 0)).1 = 50 := kup (pA_k hp 0 rfl (n := 50) rfl) (by decide) S9f
                    have ln15 : (S9 (P.2.1 0)).2.1 = 1600 := nup (pA_k hp 0 rfl (n := 50) rfl) (by decide) (pA_n hp 0 rfl (n := 1600) rfl) S9f
                    have kdq9 : (S9 q9).1 = 8 := by rw [S9q]
                    have lnq9 : (S9 q9).2.1 = 7 := by rw [S9q]
                    refine g_dup hΓ rfl dX0_areStrokes_128 ?_
                    refine g_aload_n hΓ rfl dX0_areStrokes_129 ?_
                    refine x_geta (r := some (P.2.1 3)) (c := 0) hE hΓ in_X0 rfl kd10 ⟨by decide, rfl⟩ 3 (ji := 3) rfl (by decide) (by decide) rfl q248 rfl rfl ((ρ9f (P.1) 3 (ne_k hp.1 q9z (by decide))).trans (pA_r hp 3 rfl rfl)) dX0_areStrokes_130 ?_
                    show gW Γ E (xM E S9 δ9 ρ9) ((7 * s.toNat) + 0 + 1) ((168 * s.toNat) + 0 + 7) _ _ (.ref (P.2.1 3) :: _)
                    refine g_iload hΓ rfl dX0_areStrokes_133 ?_
                    have hdn := del_new hx2.1 q9z S9e δ9e ρ9e
                    have er9 : ∀ j9, 0 ≤ j9 → j9 < x7 → δ9 (P.2.1 3) j9 = σ 11 (at9 + 1 + j9) := fun j9 x9 y9 => (δ9f _ _ (ne_k k53 q9z (by decide))).trans (hw j9 x9 (by omega))
                    have htc : tkC (σ 11) (n - 1) at9 := ⟨by omega, by omega, by omega, by rw [show (2 * σ 11 at9).toNat = k.toNat by omega]; exact hsm9⟩
                    refine x_callI (As := [.ref (P.2.1 3), .int (iI x7)]) (rest := [.ref q9, .ref (P.2.1 30)]) hΓ (x_X8_init hE hX S9 δ9 ρ9 q9 (P.2.1 3) 0 x7 S9q q9w hdn.1 (kup k53 (by decide) S9f) (nup k53 (by decide) (pA_n hp 3 rfl (n := 24) rfl) S9f) (hAw _ (by rw [k53]; rfl)) (by omega) (fun j9 x9 y9 => by rw [er9 j9 x9 y9]; exact ⟨(htd1 _ (by omega) (by omega)).2.1, by have z4 := smlF_at hsm9 (k := j9) (by omega) (by omega); exact z4⟩) δ9z ) rfl q1274 q788 q144 q789 ndX8_init rfl rfl (by decide) (by decide) (by omega) (by omega) rfl (Nat.le_of_ble_eq_true rfl) dX0_areStrokes_135 rfl (fun v16 S16 τ16 ρ16 h16 => ?_)
                    obtain ⟨rfl, h16, S16f⟩ := h16
                    have kd17 : (S16 (P.1)).1 = 1 := kup kd10 (by decide) S16f
                    have kd18 : (S16 N).1 = 2 := kup kd11 (by decide) S16f
                    have kd19 : (S16 NI).1 = 10 := kup kd12 (by decide) S16f
                    have kd20 : (S16 NM).1 = 11 := kup kd13 (by decide) S16f
                    have kd21 : (S16 NV).1 = 45 := kup kd14 (by decide) S16f
                    have ln21 : (S16 NV).2.1 = 6 := nup kd14 (by decide) ln14 S16f
                    have kd22 : (S16 (P.2.1 0)).1 = 50 := kup kd15 (by decide) S16f
                    have ln22 : (S16 (P.2.1 0)).2.1 = 1600 := nup kd15 (by decide) ln15 S16f
                    have kd23 : (S16 q9).1 = 8 := kup kdq9 (by decide) S16f
                    have ln23 : (S16 q9).2.1 = 7 := nup kdq9 (by decide) lnq9 S16f
                    have he9 := ext_t hdn.2 h16.2.1
                    have hx3 := Rx_ext0 he9 hx2 h16.1
                    have hsk9 : skR S16 τ16 ρ16 q9 (σ 11 at9) (fun j => σ 11 (at9 + 1 + j)) := skR_to h16.2.2 (by omega) (fun j9 x9 y9 => (er9 j9 x9 (by omega)).symm)
                    have hrw2 := rwL_ext he9 hx2.1 (by omega) (rwL_nd hfr2 (by decide) hG (by omega) hrw)
                    have k30b : (S16 (P.2.1 30)).1 = 13 := pL_k hx3.2.1 30 rfl (n := 13) rfl
                    have hz25 : τ16 (P.2.1 30) 2 = s := hrw2.1
                    refine x_callV (As := [.ref q9]) (rest := []) (c := 10) hE hΓ (x_J2_add hE hX S16 τ16 ρ16 (P.2.1 30) q9 13 8 k30b (by decide) (hx3).1 kd23 rfl (by omega) ) k30b ⟨by decide, rfl⟩ rfl rfl q1138 q703 q704 q127 q705 ndJ2_add rfl (by decide) (by decide) (by omega) (by omega) rfl (Nat.le_of_ble_eq_true rfl) dX0_areStrokes_138 rfl (fun v24 S24 τ24 ρ24 h24 => ?_)
                    obtain ⟨rfl, h24, S24f⟩ := h24
                    have kd26 : (S24 (P.1)).1 = 1 := kup kd17 (by decide) S24f
                    have kd27 : (S24 N).1 = 2 := kup kd18 (by decide) S24f
                    have kd28 : (S24 NI).1 = 10 := kup kd19 (by decide) S24f
                    have kd29 : (S24 NM).1 = 11 := kup kd20 (by decide) S24f
                    have kd30 : (S24 NV).1 = 45 := kup kd21 (by decide) S24f
                    have ln30 : (S24 NV).2.1 = 6 := nup kd21 (by decide) ln21 S24f
                    have kd31 : (S24 (P.2.1 0)).1 = 50 := kup kd22 (by decide) S24f
                    have ln31 : (S24 (P.2.1 0)).2.1 = 1600 := nup kd22 (by decide) ln22 S24f
                    have kd32 : (S24 q9).1 = 8 := kup kd23 (by decide) S24f
                    have ln32 : (S24 q9).2.1 = 7 := nup kd23 (by decide) ln23 S24f
                    have kd33 : (S24 (P.2.1 30)).1 = 13 := kup k30b (by decide) S24f
                    have hrw3 := rwL_add hx3.1 (by omega) hrw2 (by rw [← hat.1]; exact hsk9) h24
                    have hx4 := Rx_rw hx3 h24.2.2.1 h24.1
                    show gW Γ E (xM E S24 τ24 ρ24) _ _ _ _ (.int (iI 1) :: _)
                    refine g_pop hΓ rfl dX0_areStrokes_141 ?_
                    refine g_iload_n hΓ rfl dX0_areStrokes_142 ?_
                    refine g_iconst hΓ dX0_areStrokes_143 ?_
                    refine g_iload hΓ rfl dX0_areStrokes_144 ?_
                    refine g_iadd hΓ dX0_areStrokes_146 ?_
                    refine g_iadd hΓ dX0_areStrokes_147 ?_
                    obtain ⟨x34, ex34⟩ : ∃ z9 : Int, z9 = at9 + (1 + x7) := ⟨_, rfl⟩
                    refine g_topi ex34.symm ?_
                    refine g_istore_n hΓ dX0_areStrokes_148 rfl (Nat.le_of_ble_eq_true rfl) (lv' := [some (.ref (P.1)), some (.ref (P.2.1 30)), some (.int (iI n)), some (.int (iI x34)), some (.int (iI s)), some (.int (iI x7)), some (.int (iI k))]) rfl ?_
                    obtain ⟨x35, ex35⟩ : ∃ z9 : Int, z9 = s + 1 := ⟨_, rfl⟩
                    refine g_iinc hΓ dX0_areStrokes_149 rfl rfl (lv' := [some (.ref (P.1)), some (.ref (P.2.1 30)), some (.int (iI n)), some (.int (iI x34)), some (.int (iI x35)), some (.int (iI x7)), some (.int (iI k))]) (by rw [ex35]; rfl) ?_
                    refine g_goto (tgt := 5) hΓ dX0_areStrokes_152 (by decide) ?_
                    have hts : (tkP (σ 11) (n - 1) x35.toNat) = x34 := by rw [show x35.toNat = s.toNat + 1 by omega, tkP, if_pos (by rw [← hat.1]; exact ⟨by omega, htc⟩), ← hat.1]; omega
                    refine g_wid (c' := 7 * x35.toNat) (s' := 168 * x35.toNat) (by omega) (by omega) ?_
                    refine g_lvw (lv' := [some (.ref (P.1)), some (.ref (P.2.1 30)), some (.int (iI n)), some (.int (iI x34)), some (.int (iI x35)), none, none]) ⟨rfl, ⟨rfl, ⟨rfl, ⟨rfl, ⟨rfl, trivial⟩⟩⟩⟩⟩ ?_
                    exact ih_out S24 τ24 ρ24 x34 x35 (by omega) (sle_t (sle_t (sle_t hsl S9f) S16f) S24f) hx4 (by omega) ⟨hts.symm, by omega, by omega⟩ (by rw [show x35 = s + 1 by omega]; exact hrw3) (fun s9 x9 y9 => by
                      by_cases c9 : s9 = s
                      · rw [c9, ← hat.1]; omega
                      · exact hcn s9 x9 (by omega))
                  · refine g_aload_n hΓ rfl dX0_areStrokes_82 ?_
                    refine x_geta (r := some (P.2.1 0)) (c := 0) hE hΓ in_X0 rfl hp.1 ⟨by decide, rfl⟩ 0 (ji := 0) rfl (by decide) (by decide) rfl q244 rfl rfl (pA_r hp 0 rfl rfl) dX0_areStrokes_83 ?_
                    show gW Γ E (xM E S1 t R1) ((7 * s.toNat) + 0) ((168 * s.toNat) + 0) _ _ (.ref (P.2.1 0) :: _)
                    refine g_iload_n hΓ rfl dX0_areStrokes_86 ?_
                    refine g_iconst hΓ dX0_areStrokes_87 ?_
                    refine g_iadd hΓ dX0_areStrokes_88 ?_
                    refine g_iload hΓ rfl dX0_areStrokes_89 ?_
                    refine g_iadd hΓ dX0_areStrokes_91 ?_
                    have hk9 := (htd1 ((at9 + 1) + k) (by omega) (by omega)).2
                    refine x_cald hΓ (pA_k hp 0 rfl (n := 50) rfl) (pA_n hp 0 rfl (n := 1600) rfl) ⟨by decide, rfl⟩ (by omega) (by omega) dX0_areStrokes_92 ?_
                    refine g_topi ((htd2 ((at9 + 1) + k) (by omega) (by omega)).1) ?_
                    refine g_bipush hΓ (by decide) dX0_areStrokes_93 ?_
                    refine g_icmp_le (tgt := 100) hΓ (by omega) (by omega) dX0_areStrokes_95 (by decide) (fun c36 => ?_) (fun c36 => ?_)
                    · refine g_aload_n hΓ rfl dX0_areStrokes_100 ?_
                      refine x_geta (r := some (P.2.1 3)) (c := 0) hE hΓ in_X0 rfl hp.1 ⟨by decide, rfl⟩ 3 (ji := 3) rfl (by decide) (by decide) rfl q248 rfl rfl (pA_r hp 3 rfl rfl) dX0_areStrokes_101 ?_
                      show gW Γ E (xM E S1 t R1) ((7 * s.toNat) + 0) ((168 * s.toNat) + 0) _ _ (.ref (P.2.1 3) :: _)
                      refine g_iload hΓ rfl dX0_areStrokes_104 ?_
                      refine g_aload_n hΓ rfl dX0_areStrokes_106 ?_
                      refine x_geta (r := some (P.2.1 0)) (c := 0) hE hΓ in_X0 rfl hp.1 ⟨by decide, rfl⟩ 0 (ji := 0) rfl (by decide) (by decide) rfl q244 rfl rfl (pA_r hp 0 rfl rfl) dX0_areStrokes_107 ?_
                      show gW Γ E (xM E S1 t R1) ((7 * s.toNat) + 0) ((168 * s.toNat) + 0) _ _ (.ref (P.2.1 0) :: _)
                      refine g_iload_n hΓ rfl dX0_areStrokes_110 ?_
                      refine g_iconst hΓ dX0_areStrokes_111 ?_
                      refine g_iadd hΓ dX0_areStrokes_112 ?_
                      refine g_iload hΓ rfl dX0_areStrokes_113 ?_
                      refine g_iadd hΓ dX0_areStrokes_115 ?_
                      refine x_cald hΓ (pA_k hp 0 rfl (n := 50) rfl) (pA_n hp 0 rfl (n := 1600) rfl) ⟨by decide, rfl⟩ (by omega) (by omega) dX0_areStrokes_116 ?_
                      refine g_topi ((htd2 ((at9 + 1) + k) (by omega) (by omega)).1) ?_
                      refine x_iast hΓ (pA_k hp 3 rfl (n := 53) rfl) (pA_n hp 3 rfl (n := 24) rfl) ⟨by decide, rfl⟩ (hAw _ (by rw [(pA_k hp 3 rfl (n := 53) rfl)]; rfl)) (by omega) (by omega) dX0_areStrokes_117 (fun τ37 τ37e => ?_)
                      have τ37r : τ37 (P.2.1 3) k = σ 11 ((at9 + 1) + k) := by rw [τ37e]; exact us_s _ _ _ _
                      have τ37f : ∀ (q9 : Nat) (j9 : Int), (q9 ≠ (P.2.1 3) ∨ j9 ≠ k) → τ37 q9 j9 = t q9 j9 := fun q9 j9 hh => by rw [τ37e]; exact us_n hh
                      obtain ⟨x38, ex38⟩ : ∃ z9 : Int, z9 = k + 1 := ⟨_, rfl⟩
                      refine g_iinc hΓ dX0_areStrokes_118 rfl rfl (lv' := [some (.ref (P.1)), some (.ref (P.2.1 30)), some (.int (iI n)), some (.int (iI at9)), some (.int (iI s)), some (.int (iI x7)), some (.int (iI x38))]) (by rw [ex38]; rfl) ?_
                      refine g_goto (tgt := 75) hΓ dX0_areStrokes_121 (by decide) ?_
                      have hfr : fr S1 t τ37 [53] := (fun q9 j9 hk9 => by exact (τ37f q9 j9 (Or.inl (fun e9 => hk9 (by rw [e9, (pA_k hp 3 rfl (n := 53) rfl), mdN _ (by decide)]; decide)))))
                      have hx5 := Rx_tmp hx2 hfr (by decide) (by decide)
                      exact ih_inn τ37 x38 (by omega) hx5 (fr_t hfr2 hfr) (by omega) (fun j9 x9 y9 => by
                        by_cases c9 : j9 = k
                        · rw [c9]; exact τ37r
                        · exact (τ37f _ _ (Or.inr c9)).trans (hw j9 x9 (by omega))) (by rw [show x38.toNat = k.toNat + 1 by omega, smlF, Bool.and_eq_true, show ((k.toNat : Nat) : Int) = k by omega]; exact ⟨hsm9, decide_eq_true (by omega)⟩)
                    · refine g_iconst hΓ dX0_areStrokes_98 ?_
                      have hnt : ¬ tkC (σ 11) (n - 1) at9 := fun z => by
                        have z4 := smlF_at z.2.2.2 (k := k) (by omega) (by omega)
                        have z5 : σ 11 (at9 + 1 + k) ≤ 99 := z4
                        omega
                      have hdd : (tkP (σ 11) (n - 1) (σ 11 0).toNat) ≠ n - 1 := fun h9 => by
                        have h8 := tkP_dead (f := σ 11) (e := n - 1) (s := s.toNat + 1) (by rw [tkP, if_neg (fun z => hnt (by rw [← hat.1] at z; exact z.2))]) ((σ 11 0).toNat - (s.toNat + 1))
                        rw [show s.toNat + 1 + ((σ 11 0).toNat - (s.toNat + 1)) = (σ 11 0).toNat by omega] at h8
                        omega
                      exact x_zret hΓ (by omega) dX0_areStrokes_99 (by omega) (by omega) ⟨ri (by rw [if_neg hdd]), ⟨hx2, fun h9 => absurd h9 hdd⟩, hsl⟩
              refine g_iconst hΓ dX0_areStrokes_72 ?_
              refine g_istore hΓ dX0_areStrokes_73 rfl (Nat.le_of_ble_eq_true rfl) (lv' := [some (.ref (P.1)), some (.ref (P.2.1 30)), some (.int (iI n)), some (.int (iI at9)), some (.int (iI s)), some (.int (iI x7)), some (.int (iI 0))]) rfl ?_
              exact inn 25 D1 0 (by omega) hx1 fr_rfl (by omega) (fun j9 x9 y9 => absurd x9 (by omega)) rfl
            · refine g_iconst hΓ dX0_areStrokes_60 ?_
              have hnt : ¬ tkC (σ 11) (n - 1) at9 := fun z => by have z1 := z.1; have z2 := z.2.1; have z3 := z.2.2.1; omega
              have hdd : (tkP (σ 11) (n - 1) (σ 11 0).toNat) ≠ n - 1 := fun h9 => by
                have h8 := tkP_dead (f := σ 11) (e := n - 1) (s := s.toNat + 1) (by rw [tkP, if_neg (fun z => hnt (by rw [← hat.1] at z; exact z.2))]) ((σ 11 0).toNat - (s.toNat + 1))
                rw [show s.toNat + 1 + ((σ 11 0).toNat - (s.toNat + 1)) = (σ 11 0).toNat by omega] at h8
                omega
              exact x_zret hΓ (by omega) dX0_areStrokes_61 (by omega) (by omega) ⟨ri (by rw [if_neg hdd]), ⟨hx1, fun h9 => absurd h9 hdd⟩, hsl⟩
  refine g_iconst hΓ dX0_areStrokes_0 ?_
  refine g_istore_n hΓ dX0_areStrokes_1 rfl (Nat.le_of_ble_eq_true rfl) (lv' := [some (.ref (P.1)), some (.ref (P.2.1 30)), some (.int (iI n)), some (.int (iI 1)), none, none, none]) rfl ?_
  refine g_iconst hΓ dX0_areStrokes_2 ?_
  refine g_istore hΓ dX0_areStrokes_3 rfl (Nat.le_of_ble_eq_true rfl) (lv' := [some (.ref (P.1)), some (.ref (P.2.1 30)), some (.int (iI n)), some (.int (iI 1)), some (.int (iI 0)), none, none]) rfl ?_
  refine g_wid (c' := 7 * (0 : Int).toNat) (s' := 168 * (0 : Int).toNat) (by omega) (by omega) ?_
  exact out 9 S D R 1 0 (by omega) (fun q9 h9 => rfl) hx (by omega) ⟨rfl, by omega, by omega⟩ ⟨hrw, fun i9 x9 y9 => absurd x9 (by omega)⟩ (fun s9 x9 y9 => absurd x9 (by omega))
set_option maxHeartbeats 4000000 in
theorem x_X0_on {l : Launch} {E : gE} {X : State → Prop} {Z : Nat → Nat} {Y : Nat → Option Nat} (hE : E.2.1 = clsX) (hX : xOK l E X Z Y) (S : xS) (D : xD) (R : xR) (P : xPk) (σ : mS)  (hx : Rx E Z S D R P σ) : xC l E X yX0_on cX0_on 2 (some .boolean) 8 60 1600 [.ref (P.1)] S D R (fun rv S' D' R' => rv = some (.int (iI (if onC σ then 1 else 0))) ∧ ((if onC σ then ∀ r, onQ σ (σ 12 0) r → Rx E Z S' D' R' P (onS σ r) else Rx E Z S' D' R' P (us (us σ 12 0 0) 13 5 (σ 13 5 + 1)))) ∧ sle S S') := by
  refine xC.of hX.1 (by decide) [some (.ref (P.1)), none] (Nat.le_of_ble_eq_true rfl) rfl rfl (fun Γ hΓ => ?_)
  obtain ⟨hg, hp, hki, hro, hnw, hbh, hsa, hpd⟩ := id hx
  obtain ⟨N, NI, NM, NV, hN⟩ := (hx).now
  have hAw := hg.2.2.2.2.2.2
  have hG : GS S D R := hg.1
  obtain ⟨h1000, h1009, h1042, h1043, h1044, h1045, h1046, h1047, hms, hsi, hsm, hnm⟩ := id hro
  have eN := hN.2.2.2.2.2.2.2.2.2.2.2.2
  have kNV : (S NV).1 = 45 := by rw [hN.2.2.2.1.2]
  have nNV : (S NV).2.1 = 6 := by rw [hN.2.2.2.1.2]
  have htp := hpd.1.2
  have htd := hpd.2.1
  have h00 := (htd 0 (by decide) (by decide)).2
  refine g_aload_n hΓ rfl dX0_on_0 ?_
  refine x_geti (c := 0) hE hΓ in_X0 rfl hp.1 ⟨by decide, rfl⟩ 1 (ji := 1) rfl (by decide) (by decide) rfl q246 rfl rfl dX0_on_1 ?_
  refine g_topi (hpd.1.1) ?_
  obtain ⟨x1, ex1⟩ : ∃ z9 : Int, z9 = σ 12 0 := ⟨_, rfl⟩
  refine g_topi ex1.symm ?_
  refine g_istore_n hΓ dX0_on_4 rfl (Nat.le_of_ble_eq_true rfl) (lv' := [some (.ref (P.1)), some (.int (iI x1))]) rfl ?_
  refine g_aload_n hΓ rfl dX0_on_5 ?_
  refine g_iconst hΓ dX0_on_6 ?_
  refine x_puti (c := 0) hE hΓ in_X0 rfl hp.1 ⟨by decide, rfl⟩ tyX0 tyX0_ok nmX0 (hAw _ (by rw [hp.1]; rfl)) 1 (ji := 1) rfl (by decide) (by decide) rfl q246 rfl rfl rfl rfl rfl rfl dX0_on_7 (fun τ2 τ2e => ?_)
  have τ2r : τ2 (P.1) 1 = 0 := by rw [τ2e]; exact us_s _ _ _ _
  have τ2f : ∀ (q9 : Nat) (j9 : Int), (q9 ≠ (P.1) ∨ j9 ≠ 1) → τ2 q9 j9 = D q9 j9 := fun q9 j9 hh => by rw [τ2e]; exact us_n hh
  have hf9 : fr S D τ2 [1001] := (fun q9 j9 hk9 => by exact (τ2f q9 j9 (by by_cases e9 : q9 = (P.1); exact Or.inr (fun e8 => hk9 (by rw [e9, e8, hp.1]; decide)); exact Or.inl e9)))
  have hx0 : Rx E Z S τ2 R P (us σ 12 0 0) := (Rx_pen hx hf9 (by decide) (us_f (by decide)) (us_f (by decide)) (us_n (Or.inl (by decide))) (us_n (Or.inl (by decide))) (us_f (by decide)) (us_f (by decide)) (us_f (by decide)) (us_f (by decide)) ⟨⟨by rw [us_s]; exact τ2r, by rw [us_s]; decide⟩, by rw [show τ2 (P.2.1 0) = D (P.2.1 0) from fr_row hf9 (pA_k hp 0 rfl (n := 50) rfl) (by decide) (by decide)]; exact hpd.2.1, by rw [show τ2 (P.2.1 2) = D (P.2.1 2) from fr_row hf9 (pA_k hp 2 rfl (n := 52) rfl) (by decide) (by decide)]; exact hpd.2.2.1, by rw [show τ2 P.1 7 = D P.1 7 from fr_at hf9 hp.1 (by decide), show τ2 P.1 8 = D P.1 8 from fr_at hf9 hp.1 (by decide)]; exact hpd.2.2.2.1, by rw [show τ2 P.1 35 = D P.1 35 from fr_at hf9 hp.1 (by decide)]; exact hpd.2.2.2.2.1, by rw [show τ2 P.1 37 = D P.1 37 from fr_at hf9 hp.1 (by decide)]; exact hpd.2.2.2.2.2.1, by rw [show τ2 (P.2.1 36) = D (P.2.1 36) from fr_row hf9 (pA_k hp 36 rfl (n := 86) rfl) (by decide) (by decide)]; exact hpd.2.2.2.2.2.2⟩)
  obtain ⟨hg, hp, hki, hro0, hnw, hbh, hsa, hpd⟩ := id hx0
  have hro : rowOK (σ 0) := hro0
  obtain ⟨N, NI, NM, NV, hN0⟩ := (hx0).now
  have hN : nowF S τ2 R P σ N NI NM NV := hN0
  have hAw := hg.2.2.2.2.2.2
  have hG : GS S τ2 R := hg.1
  obtain ⟨h1000, h1009, h1042, h1043, h1044, h1045, h1046, h1047, hms, hsi, hsm, hnm⟩ := id hro
  have eN := hN.2.2.2.2.2.2.2.2.2.2.2.2
  have kNV : (S NV).1 = 45 := by rw [hN.2.2.2.1.2]
  have nNV : (S NV).2.1 = 6 := by rw [hN.2.2.2.1.2]
  have eNI : NI = rf R (rf R P.1 4) 1 := by rw [eN.2.2.1, eN.1]
  have eNM : NM = rf R (rf R P.1 4) 0 := by rw [eN.2.1, eN.1]
  have eNV : NV = rf R (rf R P.1 4) 2 := by rw [eN.2.2.2, eN.1]
  refine g_aload_n hΓ rfl dX0_on_10 ?_
  refine x_geta (r := some (P.2.1 30)) (c := 0) hE hΓ in_X0 rfl hp.1 ⟨by decide, rfl⟩ 30 (ji := 30) rfl (by decide) (by decide) rfl q276 rfl rfl (pL_r hp 30 rfl rfl) dX0_on_11 ?_
  show gW Γ E (xM E S τ2 R) 0 0 _ _ (.ref (P.2.1 30) :: _)
  refine x_callV (As := []) (rest := []) (c := 10) hE hΓ (x_J2_clear hE hX S τ2 R (P.2.1 30) 13 (pL_k hp 30 rfl (n := 13) rfl) (by decide) (hx0).1 ) (pL_k hp 30 rfl (n := 13) rfl) ⟨by decide, rfl⟩ rfl rfl q829 q830 q831 q127 q832 ndJ2_clear rfl (by decide) (by decide) (Nat.zero_le _) (Nat.zero_le _) rfl (Nat.le_of_ble_eq_true rfl) dX0_on_14 rfl (fun v3 S3 τ3 ρ3 h3 => ?_)
  obtain ⟨rfl, h3, S3e⟩ := h3
  have S3e := S3e.symm; subst S3e
  have hx1 := Rx_rw hx0 h3.2.2 h3.1
  have hr0 := h3.2.1
  obtain ⟨hg, hp, hki, hro0, hnw, hbh, hsa, hpd⟩ := id hx1
  have hro : rowOK (σ 0) := hro0
  obtain ⟨N, NI, NM, NV, hN0⟩ := (hx1).now
  have hN : nowF S τ3 ρ3 P σ N NI NM NV := hN0
  have hAw := hg.2.2.2.2.2.2
  have hG : GS S τ3 ρ3 := hg.1
  obtain ⟨h1000, h1009, h1042, h1043, h1044, h1045, h1046, h1047, hms, hsi, hsm, hnm⟩ := id hro
  have eN := hN.2.2.2.2.2.2.2.2.2.2.2.2
  have kNV : (S NV).1 = 45 := by rw [hN.2.2.2.1.2]
  have nNV : (S NV).2.1 = 6 := by rw [hN.2.2.2.1.2]
  have eNI : NI = rf ρ3 (rf ρ3 P.1 4) 1 := by rw [eN.2.2.1, eN.1]
  have eNM : NM = rf ρ3 (rf ρ3 P.1 4) 0 := by rw [eN.2.1, eN.1]
  have eNV : NV = rf ρ3 (rf ρ3 P.1 4) 2 := by rw [eN.2.2.2, eN.1]
  have htd1 : ∀ j : Int, 0 ≤ j → j < 1600 → τ3 (P.2.1 0) j = σ 11 j ∧ 0 ≤ σ 11 j ∧ σ 11 j < 256 := hpd.2.1
  refine g_iload_n hΓ rfl dX0_on_17 ?_
  refine g_iconst hΓ dX0_on_18 ?_
  refine g_icmp_lt (tgt := 66) hΓ (by omega) (by omega) dX0_on_19 (by decide) (fun c4 => ?_) (fun c4 => ?_)
  · have hnc : ¬ onC σ := fun z => by
      have z1 := z.1; have z2 := z.2.1; have z3 := z.2.2.1; have z4 := z.2.2.2
      rw [show (σ 12 0 : Int) = x1 by omega] at z3 z4
      first | omega | contradiction
    refine g_aload_n hΓ rfl dX0_on_66 ?_
    refine g_iconst hΓ dX0_on_67 ?_
    refine x_callV (As := [.int (iI 5)]) (rest := []) (c := 0) hE hΓ (x_X0_refuses hE hX S τ3 ρ3 P (us σ 12 0 0) 5 hx1 (by first | assumption | omega) ) hp.1 ⟨by decide, rfl⟩ rfl rfl q378 q380 qs4 q123 q381 ndX0_refuses rfl (by decide) (by decide) (Nat.zero_le _) (Nat.zero_le _) rfl (Nat.le_of_ble_eq_true rfl) dX0_on_68 rfl (fun v5 S5 τ5 ρ5 h5 => ?_)
    obtain ⟨rfl, h5, S5e, τ5f, ρ5e⟩ := h5
    have S5e := S5e.symm; subst S5e
    have ρ5e := ρ5e.symm; subst ρ5e
    show gW Γ E (xM E S τ5 ρ3) _ _ _ _ (.int (iI 0) :: _)
    exact x_zret hΓ (by omega) dX0_on_71 (Nat.zero_le _) (Nat.zero_le _) ⟨ri (by rw [if_neg hnc]), (by rw [if_neg hnc]; exact h5), (fun q h => rfl)⟩
  · refine g_aload_n hΓ rfl dX0_on_22 ?_
    refine x_geta (r := some (P.2.1 0)) (c := 0) hE hΓ in_X0 rfl hp.1 ⟨by decide, rfl⟩ 0 (ji := 0) rfl (by decide) (by decide) rfl q244 rfl rfl (pA_r hp 0 rfl rfl) dX0_on_23 ?_
    show gW Γ E (xM E S τ3 ρ3) 0 0 _ _ (.ref (P.2.1 0) :: _)
    refine g_iconst hΓ dX0_on_26 ?_
    refine x_cald hΓ (pA_k hp 0 rfl (n := 50) rfl) (pA_n hp 0 rfl (n := 1600) rfl) ⟨by decide, rfl⟩ (by omega) (by omega) dX0_on_27 ?_
    refine g_topi ((show τ3 (P.2.1 0) (0) = σ 11 (0) from (hpd.2.1 (0) (by omega) (by omega)).1)) ?_
    refine g_bipush hΓ (by decide) dX0_on_28 ?_
    refine g_icmp_gt (tgt := 66) hΓ (by omega) (by omega) dX0_on_30 (by decide) (fun c6 => ?_) (fun c6 => ?_)
    · have hnc : ¬ onC σ := fun z => by
        have z1 := z.1; have z2 := z.2.1; have z3 := z.2.2.1; have z4 := z.2.2.2
        rw [show (σ 12 0 : Int) = x1 by omega] at z3 z4
        first | omega | contradiction
      refine g_aload_n hΓ rfl dX0_on_66 ?_
      refine g_iconst hΓ dX0_on_67 ?_
      refine x_callV (As := [.int (iI 5)]) (rest := []) (c := 0) hE hΓ (x_X0_refuses hE hX S τ3 ρ3 P (us σ 12 0 0) 5 hx1 (by first | assumption | omega) ) hp.1 ⟨by decide, rfl⟩ rfl rfl q378 q380 qs4 q123 q381 ndX0_refuses rfl (by decide) (by decide) (Nat.zero_le _) (Nat.zero_le _) rfl (Nat.le_of_ble_eq_true rfl) dX0_on_68 rfl (fun v7 S7 τ7 ρ7 h7 => ?_)
      obtain ⟨rfl, h7, S7e, τ7f, ρ7e⟩ := h7
      have S7e := S7e.symm; subst S7e
      have ρ7e := ρ7e.symm; subst ρ7e
      show gW Γ E (xM E S τ7 ρ3) _ _ _ _ (.int (iI 0) :: _)
      exact x_zret hΓ (by omega) dX0_on_71 (Nat.zero_le _) (Nat.zero_le _) ⟨ri (by rw [if_neg hnc]), (by rw [if_neg hnc]; exact h7), (fun q h => rfl)⟩
    · refine g_aload_n hΓ rfl dX0_on_33 ?_
      refine x_geta (r := some (P.2.1 0)) (c := 0) hE hΓ in_X0 rfl hp.1 ⟨by decide, rfl⟩ 0 (ji := 0) rfl (by decide) (by decide) rfl q244 rfl rfl (pA_r hp 0 rfl rfl) dX0_on_34 ?_
      show gW Γ E (xM E S τ3 ρ3) 0 0 _ _ (.ref (P.2.1 0) :: _)
      have hta := (htd 0 (by decide) (by decide)).2
      refine g_iload_n hΓ rfl dX0_on_37 ?_
      refine g_iconst hΓ dX0_on_38 ?_
      refine g_isub hΓ dX0_on_39 ?_
      refine x_cald hΓ (pA_k hp 0 rfl (n := 50) rfl) (pA_n hp 0 rfl (n := 1600) rfl) ⟨by decide, rfl⟩ (by omega) (by omega) dX0_on_40 ?_
      refine g_topi ((show τ3 (P.2.1 0) (x1 - 1) = σ 11 (x1 - 1) from (hpd.2.1 (x1 - 1) (by omega) (by omega)).1)) ?_
      refine g_aload_n hΓ rfl dX0_on_41 ?_
      refine x_geta (r := some (P.2.1 0)) (c := 0) hE hΓ in_X0 rfl hp.1 ⟨by decide, rfl⟩ 0 (ji := 0) rfl (by decide) (by decide) rfl q244 rfl rfl (pA_r hp 0 rfl rfl) dX0_on_42 ?_
      show gW Γ E (xM E S τ3 ρ3) 0 0 _ _ (.ref (P.2.1 0) :: _)
      refine g_iload_n hΓ rfl dX0_on_45 ?_
      refine g_iconst hΓ dX0_on_46 ?_
      refine g_isub hΓ dX0_on_47 ?_
      refine x_callS (As := [.ref (P.2.1 0), .int (iI (x1 - 1))]) (rest := [.int (iI (σ 11 (x1 - 1)))]) hΓ (x_X0_last hE hX S τ3 ρ3 (P.2.1 0) 50 1600 (x1 - 1) (σ 11) (pA_k hp 0 rfl (n := 50) rfl) ⟨by decide, rfl⟩ (pA_n hp 0 rfl (n := 1600) rfl) (by omega) (fun j9 x9 y9 => ⟨(hpd.2.1 j9 x9 (by omega)).1, (htd j9 x9 (by omega)).2⟩) ) rfl q1331 q1332 q123 q1333 ndX0_last rfl (by decide) (by decide) (Nat.zero_le _) (Nat.zero_le _) rfl (Nat.le_of_ble_eq_true rfl) dX0_on_48 rfl (fun v8 S8 τ8 ρ8 h8 => ?_)
      obtain ⟨rfl, S8e, τ8e, ρ8e⟩ := h8
      have S8e := S8e.symm; subst S8e
      have τ8e := τ8e.symm; subst τ8e
      have ρ8e := ρ8e.symm; subst ρ8e
      show gW Γ E (xM E S τ3 ρ3) _ _ _ _ (.int (iI (ckF (σ 11) (x1 - 1).toNat)) :: _)
      have hck := ckF_r (σ 11) (x1 - 1).toNat
      have hlt := (htd (x1 - 1) (by omega) (by omega)).2
      refine g_icmp_ne (tgt := 66) hΓ (by omega) (by omega) dX0_on_51 (by decide) (fun c9 => ?_) (fun c9 => ?_)
      · have hnc : ¬ onC σ := fun z => by
          have z1 := z.1; have z2 := z.2.1; have z3 := z.2.2.1; have z4 := z.2.2.2
          rw [show (σ 12 0 : Int) = x1 by omega] at z3 z4
          first | omega | contradiction
        refine g_aload_n hΓ rfl dX0_on_66 ?_
        refine g_iconst hΓ dX0_on_67 ?_
        refine x_callV (As := [.int (iI 5)]) (rest := []) (c := 0) hE hΓ (x_X0_refuses hE hX S τ3 ρ3 P (us σ 12 0 0) 5 hx1 (by first | assumption | omega) ) hp.1 ⟨by decide, rfl⟩ rfl rfl q378 q380 qs4 q123 q381 ndX0_refuses rfl (by decide) (by decide) (Nat.zero_le _) (Nat.zero_le _) rfl (Nat.le_of_ble_eq_true rfl) dX0_on_68 rfl (fun v10 S10 τ10 ρ10 h10 => ?_)
        obtain ⟨rfl, h10, S10e, τ10f, ρ10e⟩ := h10
        have S10e := S10e.symm; subst S10e
        have ρ10e := ρ10e.symm; subst ρ10e
        show gW Γ E (xM E S τ10 ρ3) _ _ _ _ (.int (iI 0) :: _)
        exact x_zret hΓ (by omega) dX0_on_71 (Nat.zero_le _) (Nat.zero_le _) ⟨ri (by rw [if_neg hnc]), (by rw [if_neg hnc]; exact h10), (fun q h => rfl)⟩
      · refine g_aload_n hΓ rfl dX0_on_54 ?_
        refine g_aload_n hΓ rfl dX0_on_55 ?_
        refine x_geta (r := some (P.2.1 30)) (c := 0) hE hΓ in_X0 rfl hp.1 ⟨by decide, rfl⟩ 30 (ji := 30) rfl (by decide) (by decide) rfl q276 rfl rfl (pL_r hp 30 rfl rfl) dX0_on_56 ?_
        show gW Γ E (xM E S τ3 ρ3) 0 0 _ _ (.ref (P.2.1 30) :: _)
        refine g_iload_n hΓ rfl dX0_on_59 ?_
        refine x_callV (As := [.ref (P.2.1 30), .int (iI x1)]) (rest := []) (c := 0) hE hΓ (x_X0_areStrokes hE hX S τ3 ρ3 P (us σ 12 0 0) x1 hx1 (by omega) (show σ 11 0 ≤ 8 by omega) hr0 ) hp.1 ⟨by decide, rfl⟩ rfl rfl q1342 q1344 qs55 q123 q1345 ndX0_areStrokes rfl (by decide) (by decide) (by omega) (by omega) rfl (Nat.le_of_ble_eq_true rfl) dX0_on_60 rfl (fun v11 S11 τ11 ρ11 h11 => ?_)
        obtain ⟨rfl, h11, S11f⟩ := h11
        have kd12 : (S11 (P.1)).1 = 1 := kup hp.1 (by decide) S11f
        have kd13 : (S11 (P.2.1 30)).1 = 13 := kup (pL_k hp 30 rfl (n := 13) rfl) (by decide) S11f
        have kd14 : (S11 N).1 = 2 := kup hN.1.2 (by decide) S11f
        have kd15 : (S11 NI).1 = 10 := kup hN.2.2.1.2 (by decide) S11f
        have kd16 : (S11 NM).1 = 11 := kup hN.2.1.2 (by decide) S11f
        have kd17 : (S11 NV).1 = 45 := kup kNV (by decide) S11f
        have ln17 : (S11 NV).2.1 = 6 := nup kNV (by decide) nNV S11f
        have kd18 : (S11 (P.2.1 0)).1 = 50 := kup (pA_k hp 0 rfl (n := 50) rfl) (by decide) S11f
        have ln18 : (S11 (P.2.1 0)).2.1 = 1600 := nup (pA_k hp 0 rfl (n := 50) rfl) (by decide) (pA_n hp 0 rfl (n := 1600) rfl) S11f
        have hx2 := h11.1
        have hra := h11.2
        obtain ⟨hg, hp, hki, hro0, hnw, hbh, hsa, hpd⟩ := id hx2
        have hro : rowOK (σ 0) := hro0
        obtain ⟨N, NI, NM, NV, hN0⟩ := (hx2).now
        have hN : nowF S11 τ11 ρ11 P σ N NI NM NV := hN0
        have hAw := hg.2.2.2.2.2.2
        have hG : GS S11 τ11 ρ11 := hg.1
        obtain ⟨h1000, h1009, h1042, h1043, h1044, h1045, h1046, h1047, hms, hsi, hsm, hnm⟩ := id hro
        have eN := hN.2.2.2.2.2.2.2.2.2.2.2.2
        have kNV : (S11 NV).1 = 45 := by rw [hN.2.2.2.1.2]
        have nNV : (S11 NV).2.1 = 6 := by rw [hN.2.2.2.1.2]
        have eNI : NI = rf ρ11 (rf ρ11 P.1 4) 1 := by rw [eN.2.2.1, eN.1]
        have eNM : NM = rf ρ11 (rf ρ11 P.1 4) 0 := by rw [eN.2.1, eN.1]
        have eNV : NV = rf ρ11 (rf ρ11 P.1 4) 2 := by rw [eN.2.2.2, eN.1]
        show gW Γ E (xM E S11 τ11 ρ11) _ _ _ _ (.int (iI (if tkP (σ 11) (x1 - 1) (σ 11 0).toNat = x1 - 1 then 1 else 0)) :: _)
        refine g_ifB_ne (tgt := 72) hΓ  dX0_on_63 (by decide) (fun c19 => ?_) (fun c19 => ?_)
        · refine g_aload_n hΓ rfl dX0_on_72 ?_
          refine x_geta (r := some N) (c := 0) hE hΓ in_X0 rfl hp.1 ⟨by decide, rfl⟩ 4 (ji := 4) rfl (by decide) (by decide) rfl q250 rfl rfl hN.1.1 dX0_on_73 ?_
          show gW Γ E (xM E S11 τ11 ρ11) (0 + 56) (0 + 1400) _ _ (.ref N :: _)
          refine x_geta (r := some NI) (c := 1) hE hΓ in_X1 rfl hN.1.2 ⟨by decide, rfl⟩ 1 (ji := 1) rfl (by decide) (by decide) rfl q200 rfl rfl hN.2.2.1.1 dX0_on_76 ?_
          show gW Γ E (xM E S11 τ11 ρ11) (0 + 56) (0 + 1400) _ _ (.ref NI :: _)
          refine x_callV (As := []) (rest := []) (c := 10) hE hΓ (x_J2_clear hE hX S11 τ11 ρ11 NI 10 hN.2.2.1.2 (by decide) (hx2).1 ) hN.2.2.1.2 ⟨by decide, rfl⟩ rfl rfl q829 q830 q831 q127 q832 ndJ2_clear rfl (by decide) (by decide) (by omega) (by omega) rfl (Nat.le_of_ble_eq_true rfl) dX0_on_79 rfl (fun v20 S20 τ20 ρ20 h20 => ?_)
          obtain ⟨rfl, h20, S20e⟩ := h20
          have S20e := S20e.symm; subst S20e
          have hnn : x1 = σ 12 0 := by omega
          have hra2 : rwL _ _ _ (P.2.1 30) (σ 11 0) (fun i => σ 11 (tkP (σ 11) (x1 - 1) i.toNat)) (fun i j => σ 11 (tkP (σ 11) (x1 - 1) i.toNat + 1 + j)) ∧ ∀ s', 0 ≤ s' → s' < σ 11 0 → 2 ≤ σ 11 (tkP (σ 11) (x1 - 1) s'.toNat) ∧ σ 11 (tkP (σ 11) (x1 - 1) s'.toNat) ≤ 12 := hra (by assumption)
          have hi1 := h20
          rw [eNI] at hi1
          have k30 := pL_k hp 30 rfl (n := 13) rfl
          have kI := hN.2.2.1.2
          have n30 := lT_o hg (a := NI) (b := (P.2.1 30)) (by omega) (by omega) (ne_k k30 kI (by decide))
          have l30 := ls_chg h20.2.2 (by omega) (hg.2.1 (P.2.1 30) (by omega) (by omega)) n30.1 n30.2
          have rN9 := cg_R h20.2.2 (lT_k (by omega)) hN.1.2 (by decide) (by decide)
          have rP9 := cg_R h20.2.2 (lT_k (by omega)) hp.1 (by decide) (by decide)
          refine g_aload_n hΓ rfl dX0_on_82 ?_
          refine x_geta (r := some N) (c := 0) hE hΓ in_X0 rfl hp.1 ⟨by decide, rfl⟩ 4 (ji := 4) rfl (by decide) (by decide) rfl q250 rfl rfl ((congrFun rP9 4).trans hN.1.1) dX0_on_83 ?_
          show gW Γ E (xM E S11 τ20 ρ20) (0 + 56 + 0) (0 + 1400 + 0) _ _ (.ref N :: _)
          refine x_geta (r := some NI) (c := 1) hE hΓ in_X1 rfl hN.1.2 ⟨by decide, rfl⟩ 1 (ji := 1) rfl (by decide) (by decide) rfl q200 rfl rfl ((congrFun rN9 1).trans hN.2.2.1.1) dX0_on_86 ?_
          show gW Γ E (xM E S11 τ20 ρ20) (0 + 56 + 0) (0 + 1400 + 0) _ _ (.ref NI :: _)
          refine g_aload_n hΓ rfl dX0_on_89 ?_
          refine x_geta (r := some (P.2.1 30)) (c := 0) hE hΓ in_X0 rfl hp.1 ⟨by decide, rfl⟩ 30 (ji := 30) rfl (by decide) (by decide) rfl q276 rfl rfl ((congrFun rP9 30).trans (pL_r hp 30 rfl rfl)) dX0_on_90 ?_
          show gW Γ E (xM E S11 τ20 ρ20) (0 + 56 + 0) (0 + 1400 + 0) _ _ (.ref (P.2.1 30) :: _)
          have hza22 : τ20 NI 2 = 0 := h20.2.1
          have hzc22 : τ20 (P.2.1 30) 2 = σ 11 0 := ((congrFun l30.2.2.1 2).trans hra2.1.1)
          refine x_callV (As := [.ref (P.2.1 30)]) (rest := []) (c := 10) hE hΓ (x_J2_addAll hE hX S11 τ20 ρ20 NI (P.2.1 30) 10 13 hN.2.2.1.2 (by decide) h20.1 kd13 (by decide) rfl (by omega) hki.2.2.2 ) hN.2.2.1.2 ⟨by decide, rfl⟩ rfl rfl q1347 q1183 q1184 q127 q1185 ndJ2_addAll rfl (by decide) (by decide) (by omega) (by omega) rfl (Nat.le_of_ble_eq_true rfl) dX0_on_93 rfl (fun v21 S21 τ21 ρ21 h21 => ?_)
          obtain ⟨rfl, h21, S21f⟩ := h21
          have kd23 : (S21 (P.1)).1 = 1 := kup hp.1 (by decide) S21f
          have kd24 : (S21 (P.2.1 30)).1 = 13 := kup kd13 (by decide) S21f
          have kd25 : (S21 (P.2.1 0)).1 = 50 := kup kd18 (by decide) S21f
          have ln25 : (S21 (P.2.1 0)).2.1 = 1600 := nup kd18 (by decide) ln18 S21f
          have kd26 : (S21 N).1 = 2 := kup hN.1.2 (by decide) S21f
          have kd27 : (S21 NI).1 = 10 := kup hN.2.2.1.2 (by decide) S21f
          have kd28 : (S21 NM).1 = 11 := kup hN.2.1.2 (by decide) S21f
          have kd29 : (S21 NV).1 = 45 := kup kNV (by decide) S21f
          have ln29 : (S21 NV).2.1 = 6 := nup kNV (by decide) nNV S21f
          have hi2 := h21
          rw [eNI] at hi2
          have hon : onC σ := ⟨by omega, by omega, by rw [← hnn]; omega, by rw [← hnn]; assumption⟩
          have hxr : ∀ r9, onQ σ (σ 12 0) r9 → Rx E Z S21 τ21 ρ21 P (rowS (us σ 12 0 0) r9) := fun r9 hr9 => act_on hx2 (n := x1) (show 0 ≤ σ 11 0 ∧ σ 11 0 ≤ 8 by omega) (fun s9 x9 y9 => (hra2.2 s9 x9 y9).2) hra2.1 hi1 ⟨hi2.1, hi2.2.1, hi2.2.2.1, hi2.2.2.2.1⟩ (by rw [hnn]; exact hr9)
          have k5 := pL_k hp 5 rfl (n := 14) rfl
          have rP8 := cg_R (chg_t h20.2.2 h21.2.2.1 (fun q9 _ h9 => h9)) (lT_k (by omega)) hp.1 (by decide) (by decide)
          show gW Γ E (xM E S21 τ21 ρ21) _ _ _ _ (.int (iI (if τ20 (P.2.1 30) 2 = 0 then 0 else 1)) :: _)
          refine g_pop hΓ rfl dX0_on_96 ?_
          refine g_aload_n hΓ rfl dX0_on_97 ?_
          refine x_geta (r := some (P.2.1 5)) (c := 0) hE hΓ in_X0 rfl kd23 ⟨by decide, rfl⟩ 5 (ji := 5) rfl (by decide) (by decide) rfl q251 rfl rfl ((congrFun rP8 5).trans (pL_r hp 5 rfl rfl)) dX0_on_98 ?_
          show gW Γ E (xM E S21 τ21 ρ21) (0 + 56 + 0 + 2) (0 + 1400 + 0 + 70) _ _ (.ref (P.2.1 5) :: _)
          refine x_callV (As := []) (rest := []) (c := 10) hE hΓ (x_J2_clear hE hX S21 τ21 ρ21 (P.2.1 5) 14 (kup k5 (by decide) S21f) (by decide) h21.1 ) (kup k5 (by decide) S21f) ⟨by decide, rfl⟩ rfl rfl q829 q830 q831 q127 q832 ndJ2_clear rfl (by decide) (by decide) (by omega) (by omega) rfl (Nat.le_of_ble_eq_true rfl) dX0_on_101 rfl (fun v30 S30 τ30 ρ30 h30 => ?_)
          obtain ⟨rfl, h30, S30e⟩ := h30
          have S30e := S30e.symm; subst S30e
          have hxf : ∀ r9, onQ σ (σ 12 0) r9 → Rx E Z S21 τ30 ρ30 P (onS σ r9) := fun r9 hr9 => Rx_b0 (hxr r9 hr9) h30 (by rw [rowS_0]; funext j9; rfl) rfl (fun k9 h9 => by simp at h9; rw [onS_f (by omega), rowS_f (by omega), us_f (by omega)]) (fun k9 h9 => by
            simp at h9
            by_cases c9 : k9 = 12
            · rw [c9]; rfl
            · rw [onS_f (by omega), rowS_f (by omega), us_f c9])
          refine g_iconst hΓ dX0_on_104 ?_
          exact x_zret hΓ (by omega) dX0_on_105 (by omega) (by omega) ⟨ri (by rw [if_pos hon]), (by rw [if_pos hon]; exact hxf), (sle_t S11f S21f)⟩
        · have hnc : ¬ onC σ := fun z => by
            have z1 := z.1; have z2 := z.2.1; have z3 := z.2.2.1; have z4 := z.2.2.2
            rw [show (σ 12 0 : Int) = x1 by omega] at z3 z4
            first | omega | contradiction
          refine g_aload_n hΓ rfl dX0_on_66 ?_
          refine g_iconst hΓ dX0_on_67 ?_
          refine x_callV (As := [.int (iI 5)]) (rest := []) (c := 0) hE hΓ (x_X0_refuses hE hX S11 τ11 ρ11 P (us σ 12 0 0) 5 hx2 (by first | assumption | omega) ) hp.1 ⟨by decide, rfl⟩ rfl rfl q378 q380 qs4 q123 q381 ndX0_refuses rfl (by decide) (by decide) (by omega) (by omega) rfl (Nat.le_of_ble_eq_true rfl) dX0_on_68 rfl (fun v31 S31 τ31 ρ31 h31 => ?_)
          obtain ⟨rfl, h31, S31e, τ31f, ρ31e⟩ := h31
          have S31e := S31e.symm; subst S31e
          have ρ31e := ρ31e.symm; subst ρ31e
          show gW Γ E (xM E S11 τ31 ρ11) _ _ _ _ (.int (iI 0) :: _)
          exact x_zret hΓ (by omega) dX0_on_71 (by omega) (by omega) ⟨ri (by rw [if_neg hnc]), (by rw [if_neg hnc]; exact h31), S11f⟩
