set_option maxRecDepth 100000
set_option maxHeartbeats 4000000 in
theorem x_X0_laysCosts {l : Launch} {E : gE} {X : State → Prop} {Z : Nat → Nat} {Y : Nat → Option Nat} (hE : E.2.1 = clsX) (hX : xOK l E X Z Y) (hL : xLam l E X (Z 20) (Z 21)) (S : xS) (D : xD) (R : xR) (P : xPk) (σ : mS) (a b ka kb : Nat) (w sA nA sB nB : Int) (hx : Rx E Z S D R P σ) (hka : (S a).1 = ka) (hk3a : ka = 10 ∨ ka = 12 ∨ ka = 13) (hla : lsR S D R a σ sA nA) (hleA : letS σ sA nA) (hkb : (S b).1 = kb) (hk3b : kb = 10 ∨ kb = 12 ∨ kb = 13) (hlb : lsR S D R b σ sB nB) (hleB : letS σ sB nB) (hw : 0 ≤ w ∧ w ≤ 16) : xC l E X yX0_laysCosts cX0_laysCosts 6 none 7 0 0 [.ref (P.1), .ref a, .ref b, .int (iI w)] S D R (fun rv S' D' R' => rv = none ∧ (Rx E Z S D' R' P σ ∧ cosT P D' σ sA nA sB nB w) ∧ S' = S ∧ fr S D D' [8003, 42, 43, 44, 112, 115, 116, 117, 46, 47, 48, 49] ∧ fr S R R' [1009, 1010]) := by
  refine xC.of hX.1 (by decide) [some (.ref (P.1)), some (.ref a), some (.ref b), some (.int (iI w)), none, none] (Nat.le_of_ble_eq_true rfl) rfl rfl (fun Γ hΓ => ?_)
  obtain ⟨hg, hp, hki, hro, hnw, hbh, hsa, hpd⟩ := id hx
  obtain ⟨N, NI, NM, NV, hN⟩ := (hx).now
  have hAw := hg.2.2.2.2.2.2
  have hG : GS S D R := hg.1
  obtain ⟨h1000, h1009, h1042, h1043, h1044, h1045, h1046, h1047, hms, hsi, hsm, hnm⟩ := id hro
  have eN := hN.2.2.2.2.2.2.2.2.2.2.2.2
  have kNV : (S NV).1 = 45 := by rw [hN.2.2.2.1.2]
  have nNV : (S NV).2.1 = 6 := by rw [hN.2.2.2.1.2]
  have hg0 := hg
  have hkra : 10 ≤ ka ∧ ka ≤ 17 := by omega
  have hkrb : 10 ≤ kb ∧ kb ≤ 17 := by omega
  have hmA0 := hleA.2.1
  have hmA8 := hleA.2.2.1
  have hmB0 := hleB.2.1
  have hmB8 := hleB.2.2.1
  have ph2 : ∀ (t : xD) (ρ : xR), (Rx E Z S t ρ P σ) → (fr S D t [8003, 42, 43, 44, 112, 115, 116, 117, 46, 47, 48, 49]) → (fr S R ρ [1009, 1010]) → (tb1 P t σ sA sB nB w nA 0) → gW Γ E (xM E S t ρ) 0 0 104 [some (.ref (P.1)), some (.ref a), some (.ref b), some (.int (iI w)), none, none] [] := by
    intro t ρ hx1 ht hr h1
    obtain ⟨hg, hp, hki, hro, hnw, hbh, hsa, hpd⟩ := id hx1
    obtain ⟨N, NI, NM, NV, hN⟩ := (hx1).now
    have hAw := hg.2.2.2.2.2.2
    have hG : GS S t ρ := hg.1
    obtain ⟨h1000, h1009, h1042, h1043, h1044, h1045, h1046, h1047, hms, hsi, hsm, hnm⟩ := id hro
    have eN := hN.2.2.2.2.2.2.2.2.2.2.2.2
    have kNV : (S NV).1 = 45 := by rw [hN.2.2.2.1.2]
    have nNV : (S NV).2.1 = 6 := by rw [hN.2.2.2.1.2]
    have hlA := lsR_scr hg0 (fr_w ht (by decide)) (fr_w hr (by decide)) (by rw [hka]; omega) hla
    have hlB := lsR_scr hg0 (fr_w ht (by decide)) (fr_w hr (by decide)) (by rw [hkb]; omega) hlb
    have hmA := hlA.1
    have hmB := hlB.1
    obtain ⟨b1, kb1, hbr1, hbe1, hbk1, hbq1, hbc1⟩ := lsOK_b (hg.2.1 a (by rw [hka]; omega) (by rw [hka]; omega)) (by rw [hka]; exact hkra)
    obtain ⟨b2, kb2, hbr2, hbe2, hbk2, hbq2, hbc2⟩ := lsOK_b (hg.2.1 b (by rw [hkb]; omega) (by rw [hkb]; omega)) (by rw [hkb]; exact hkrb)
    refine g_aload_n hΓ rfl dX0_laysCosts_104 ?_
    refine x_geta (r := some (P.2.1 20)) (c := 0) hE hΓ in_X0 rfl hp.1 ⟨by decide, rfl⟩ 20 (ji := 20) rfl (by decide) (by decide) rfl q266 rfl rfl (pL_r hp 20 rfl rfl) dX0_laysCosts_105 ?_
    show gW Γ E (xM E S t ρ) 0 0 _ _ (.ref (P.2.1 20) :: _)
    refine g_aload_n hΓ rfl dX0_laysCosts_108 ?_
    refine x_callV (As := [.ref a]) (rest := []) (c := 2) hE hΓ (x_X2_around_46 hE hX S t ρ (P.2.1 20) (P.2.2 20 0) (P.2.2 20 1) a ka σ sA nA (pL_k hp 20 rfl (n := 3) rfl) ⟨(pB_r hp 20 (by decide) 0 (by decide)), (pB_s hp 20 (by decide) 0 (by decide) (k := 46) rfl).1, (pB_s hp 20 (by decide) 0 (by decide) (k := 46) rfl).2⟩ ⟨(pB_r hp 20 (by decide) 1 (by decide)), (pB_s hp 20 (by decide) 1 (by decide) (k := 47) rfl).1, (pB_s hp 20 (by decide) 1 (by decide) (k := 47) rfl).2⟩ hka hk3a (hg.2.1 a (by rw [hka]; omega) (by rw [hka]; omega)) hlA hleA hG hAw ) (pL_k hp 20 rfl (n := 3) rfl) ⟨by decide, rfl⟩ rfl rfl q953 q954 q955 q130 q956 ndX2_around rfl (by decide) (by decide) (Nat.zero_le _) (Nat.zero_le _) rfl (Nat.le_of_ble_eq_true rfl) dX0_laysCosts_109 rfl (fun v3 S3 τ3 ρ3 h3 => ?_)
    obtain ⟨rfl, h3, S3e, τ3f, ρ3e⟩ := h3
    have S3e := S3e.symm; subst S3e
    have ρ3e := ρ3e.symm; subst ρ3e
    have hfD4 : fr S t τ3 [46, 47] := (fun q9 j9 hk9 => by exact (τ3f q9 j9 (fun e9 => hk9 ((show ∀ x ∈ [46, 47], x ∈ [46, 47] by decide) _ e9))))
    have hxs4 : Rx E Z S τ3 ρ P σ := Rx_scr hx1 (fr_w hfD4 (by decide)) fr_rfl (GS_fr (hx1).1.1 hfD4 fr_rfl (m' := []) (by decide) (by decide))
    show gW Γ E (xM E S τ3 ρ) _ _ _ _ (.ref (P.2.1 20) :: _)
    refine g_pop hΓ rfl dX0_laysCosts_112 ?_
    refine g_aload_n hΓ rfl dX0_laysCosts_113 ?_
    refine x_geta (r := some (P.2.1 21)) (c := 0) hE hΓ in_X0 rfl hp.1 ⟨by decide, rfl⟩ 21 (ji := 21) rfl (by decide) (by decide) rfl q267 rfl rfl (pL_r hp 21 rfl rfl) dX0_laysCosts_114 ?_
    show gW Γ E (xM E S τ3 ρ) 0 0 _ _ (.ref (P.2.1 21) :: _)
    refine g_aload_n hΓ rfl dX0_laysCosts_117 ?_
    refine x_callV (As := [.ref b]) (rest := []) (c := 2) hE hΓ (x_X2_around_48 hE hX S τ3 ρ (P.2.1 21) (P.2.2 21 0) (P.2.2 21 1) b kb σ sB nB (pL_k hp 21 rfl (n := 19) rfl) ⟨(pB_r hp 21 (by decide) 0 (by decide)), (pB_s hp 21 (by decide) 0 (by decide) (k := 48) rfl).1, (pB_s hp 21 (by decide) 0 (by decide) (k := 48) rfl).2⟩ ⟨(pB_r hp 21 (by decide) 1 (by decide)), (pB_s hp 21 (by decide) 1 (by decide) (k := 49) rfl).1, (pB_s hp 21 (by decide) 1 (by decide) (k := 49) rfl).2⟩ hkb hk3b ((hxs4).1.2.1 b (by rw [hkb]; omega) (by rw [hkb]; omega)) (lsR_scr hg (fr_w hfD4 (by decide)) fr_rfl (by rw [hkb]; omega) hlB) hleB (hxs4).1.1 hAw ) (pL_k hp 21 rfl (n := 19) rfl) ⟨by decide, rfl⟩ rfl rfl q953 q954 q955 q130 q956 ndX2_around rfl (by decide) (by decide) (Nat.zero_le _) (Nat.zero_le _) rfl (Nat.le_of_ble_eq_true rfl) dX0_laysCosts_118 rfl (fun v5 S5 τ5 ρ5 h5 => ?_)
    obtain ⟨rfl, h5, S5e, τ5f, ρ5e⟩ := h5
    have S5e := S5e.symm; subst S5e
    have ρ5e := ρ5e.symm; subst ρ5e
    have hfD6 : fr S τ3 τ5 [48, 49] := (fun q9 j9 hk9 => by exact (τ5f q9 j9 (fun e9 => hk9 ((show ∀ x ∈ [48, 49], x ∈ [48, 49] by decide) _ e9))))
    have hxs6 : Rx E Z S τ5 ρ P σ := Rx_scr hxs4 (fr_w hfD6 (by decide)) fr_rfl (GS_fr (hxs4).1.1 hfD6 fr_rfl (m' := []) (by decide) (by decide))
    show gW Γ E (xM E S τ5 ρ) _ _ _ _ (.ref (P.2.1 21) :: _)
    refine g_pop hΓ rfl dX0_laysCosts_121 ?_
    have hbA : ∀ i, (i = 0 ∨ i = 1) → τ5 (P.2.2 20 0) i = bxF 0 σ i sA nA.toNat ∧ τ5 (P.2.2 20 1) i = bxF 1 σ i sA nA.toNat := fun i hi => ⟨((fr_at τ5f (pB_s hp 20 (by decide) 0 (by decide) (k := 46) rfl).1 (by rw [mdN _ (by decide)]; decide)).trans (h3 i hi).1), ((fr_at τ5f (pB_s hp 20 (by decide) 1 (by decide) (k := 47) rfl).1 (by rw [mdN _ (by decide)]; decide)).trans (h3 i hi).2)⟩
    have h1b : tb1 P τ5 σ sA sB nB w nA 0 := tb1_fr hp hmA8 (Int.le_refl _) h1 (fun q9 k9 h9 => (τ5f q9 k9 (by rcases h9 with h9 | h9 <;> rw [h9, mdN _ (by decide)] <;> decide)).trans (τ3f q9 k9 (by rcases h9 with h9 | h9 <;> rw [h9, mdN _ (by decide)] <;> decide)))
    have htb : fr S D τ5 [8003, 42, 43, 44, 112, 115, 116, 117, 46, 47, 48, 49] := fr_t ht (fun q9 j9 hk9 => by exact ((τ5f q9 j9 (fun e9 => hk9 ((show ∀ x ∈ [48, 49], x ∈ [8003, 42, 43, 44, 112, 115, 116, 117, 46, 47, 48, 49] by decide) _ e9))).trans (τ3f q9 j9 (fun e9 => hk9 ((show ∀ x ∈ [46, 47], x ∈ [8003, 42, 43, 44, 112, 115, 116, 117, 46, 47, 48, 49] by decide) _ e9)))))
    have out2 : ∀ (fu : Nat) (t : xD) (i : Int), (nA - i).toNat < fu → (Rx E Z S t ρ P σ) → (fr S D t [8003, 42, 43, 44, 112, 115, 116, 117, 46, 47, 48, 49]) → (fr S R ρ [1009, 1010]) → (∀ i, (i = 0 ∨ i = 1) → t (P.2.2 20 0) i = bxF 0 σ i sA nA.toNat ∧ t (P.2.2 20 1) i = bxF 1 σ i sA nA.toNat) → (∀ i, (i = 0 ∨ i = 1) → t (P.2.2 21 0) i = bxF 0 σ i sB nB.toNat ∧ t (P.2.2 21 1) i = bxF 1 σ i sB nB.toNat) → (tb1 P t σ sA sB nB w nA 0) → (0 ≤ i ∧ i ≤ nA) → (tb2 P t σ sA nA sB nB i 0) → gW Γ E (xM E S t ρ) 0 0 125 [some (.ref (P.1)), some (.ref a), some (.ref b), some (.int (iI w)), some (.int (iI i)), none] [] := by
      intro fu
      induction fu with
      | zero => intro t i hn; exact absurd hn (Nat.not_lt_zero _)
      | succ fu ih_out2 =>
        intro t i hn hx1 ht hr hbA hbB h1 hi h2
        obtain ⟨hg, hp, hki, hro, hnw, hbh, hsa, hpd⟩ := id hx1
        obtain ⟨N, NI, NM, NV, hN⟩ := (hx1).now
        have hAw := hg.2.2.2.2.2.2
        have hG : GS S t ρ := hg.1
        obtain ⟨h1000, h1009, h1042, h1043, h1044, h1045, h1046, h1047, hms, hsi, hsm, hnm⟩ := id hro
        have eN := hN.2.2.2.2.2.2.2.2.2.2.2.2
        have kNV : (S NV).1 = 45 := by rw [hN.2.2.2.1.2]
        have nNV : (S NV).2.1 = 6 := by rw [hN.2.2.2.1.2]
        have hlA := lsR_scr hg0 (fr_w ht (by decide)) (fr_w hr (by decide)) (by rw [hka]; omega) hla
        have hlB := lsR_scr hg0 (fr_w ht (by decide)) (fr_w hr (by decide)) (by rw [hkb]; omega) hlb
        have hmA := hlA.1
        have hmB := hlB.1
        obtain ⟨b7, kb7, hbr7, hbe7, hbk7, hbq7, hbc7⟩ := lsOK_b (hg.2.1 a (by rw [hka]; omega) (by rw [hka]; omega)) (by rw [hka]; exact hkra)
        obtain ⟨b8, kb8, hbr8, hbe8, hbk8, hbq8, hbc8⟩ := lsOK_b (hg.2.1 b (by rw [hkb]; omega) (by rw [hkb]; omega)) (by rw [hkb]; exact hkrb)
        refine g_iload hΓ rfl dX0_laysCosts_125 ?_
        refine g_aload_n hΓ rfl dX0_laysCosts_127 ?_
        refine x_callV (As := []) (rest := [.int (iI i)]) (c := 10) hE hΓ (x_J2_size hE hX S t ρ a ka hka hkra ) hka (ks_10_17 hkra) rfl rfl q845 q662 q663 q127 q664 ndJ2_size rfl (by decide) (by decide) (Nat.zero_le _) (Nat.zero_le _) rfl (Nat.le_of_ble_eq_true rfl) dX0_laysCosts_128 rfl (fun v9 S9 τ9 ρ9 h9 => ?_)
        obtain ⟨rfl, S9e, τ9e, ρ9e⟩ := h9
        have S9e := S9e.symm; subst S9e
        have τ9e := τ9e.symm; subst τ9e
        have ρ9e := ρ9e.symm; subst ρ9e
        refine g_topi (hlA.1) ?_
        show gW Γ E (xM E S t ρ) _ _ _ _ (.int (iI nA) :: _)
        refine g_icmp_ge (tgt := 245) hΓ (by omega) (by omega) dX0_laysCosts_131 (by decide) (fun c10 => ?_) (fun c10 => ?_)
        · exact x_vret hΓ dX0_laysCosts_245 (Nat.zero_le _) (Nat.zero_le _) ⟨rfl, ⟨hx1, cosT_of h1 (by have h9 := h2; rw [show i = nA by omega] at h9; exact h9)⟩, rfl, ht, hr⟩
        · have in2 : ∀ (fu : Nat) (t : xD) (j : Int), (nB - j).toNat < fu → (Rx E Z S t ρ P σ) → (fr S D t [8003, 42, 43, 44, 112, 115, 116, 117, 46, 47, 48, 49]) → (fr S R ρ [1009, 1010]) → (∀ i, (i = 0 ∨ i = 1) → t (P.2.2 20 0) i = bxF 0 σ i sA nA.toNat ∧ t (P.2.2 20 1) i = bxF 1 σ i sA nA.toNat) → (∀ i, (i = 0 ∨ i = 1) → t (P.2.2 21 0) i = bxF 0 σ i sB nB.toNat ∧ t (P.2.2 21 1) i = bxF 1 σ i sB nB.toNat) → (tb1 P t σ sA sB nB w nA 0) → (0 ≤ j ∧ j ≤ nB) → (tb2 P t σ sA nA sB nB i j) → gW Γ E (xM E S t ρ) 0 0 137 [some (.ref (P.1)), some (.ref a), some (.ref b), some (.int (iI w)), some (.int (iI i)), some (.int (iI j))] [] := by
            intro fu
            induction fu with
            | zero => intro t j hn; exact absurd hn (Nat.not_lt_zero _)
            | succ fu ih_in2 =>
              intro t j hn hx1 ht hr hbA hbB h1 hj h2
              obtain ⟨hg, hp, hki, hro, hnw, hbh, hsa, hpd⟩ := id hx1
              obtain ⟨N, NI, NM, NV, hN⟩ := (hx1).now
              have hAw := hg.2.2.2.2.2.2
              have hG : GS S t ρ := hg.1
              obtain ⟨h1000, h1009, h1042, h1043, h1044, h1045, h1046, h1047, hms, hsi, hsm, hnm⟩ := id hro
              have eN := hN.2.2.2.2.2.2.2.2.2.2.2.2
              have kNV : (S NV).1 = 45 := by rw [hN.2.2.2.1.2]
              have nNV : (S NV).2.1 = 6 := by rw [hN.2.2.2.1.2]
              have hlA := lsR_scr hg0 (fr_w ht (by decide)) (fr_w hr (by decide)) (by rw [hka]; omega) hla
              have hlB := lsR_scr hg0 (fr_w ht (by decide)) (fr_w hr (by decide)) (by rw [hkb]; omega) hlb
              have hmA := hlA.1
              have hmB := hlB.1
              obtain ⟨b11, kb11, hbr11, hbe11, hbk11, hbq11, hbc11⟩ := lsOK_b (hg.2.1 a (by rw [hka]; omega) (by rw [hka]; omega)) (by rw [hka]; exact hkra)
              obtain ⟨b12, kb12, hbr12, hbe12, hbk12, hbq12, hbc12⟩ := lsOK_b (hg.2.1 b (by rw [hkb]; omega) (by rw [hkb]; omega)) (by rw [hkb]; exact hkrb)
              refine g_iload hΓ rfl dX0_laysCosts_137 ?_
              refine g_aload_n hΓ rfl dX0_laysCosts_139 ?_
              refine x_callV (As := []) (rest := [.int (iI j)]) (c := 10) hE hΓ (x_J2_size hE hX S t ρ b kb hkb hkrb ) hkb (ks_10_17 hkrb) rfl rfl q845 q662 q663 q127 q664 ndJ2_size rfl (by decide) (by decide) (Nat.zero_le _) (Nat.zero_le _) rfl (Nat.le_of_ble_eq_true rfl) dX0_laysCosts_140 rfl (fun v13 S13 τ13 ρ13 h13 => ?_)
              obtain ⟨rfl, S13e, τ13e, ρ13e⟩ := h13
              have S13e := S13e.symm; subst S13e
              have τ13e := τ13e.symm; subst τ13e
              have ρ13e := ρ13e.symm; subst ρ13e
              refine g_topi (hlB.1) ?_
              show gW Γ E (xM E S t ρ) _ _ _ _ (.int (iI nB) :: _)
              refine g_icmp_ge (tgt := 239) hΓ (by omega) (by omega) dX0_laysCosts_143 (by decide) (fun c14 => ?_) (fun c14 => ?_)
              · obtain ⟨x15, ex15⟩ : ∃ z9 : Int, z9 = i + 1 := ⟨_, rfl⟩
                refine g_iinc hΓ dX0_laysCosts_239 rfl rfl (lv' := [some (.ref (P.1)), some (.ref a), some (.ref b), some (.int (iI w)), some (.int (iI x15)), some (.int (iI j))]) (by rw [ex15]; rfl) ?_
                refine g_goto (tgt := 125) hΓ dX0_laysCosts_242 (by decide) ?_
                refine g_lvw (lv' := [some (.ref (P.1)), some (.ref a), some (.ref b), some (.int (iI w)), some (.int (iI x15)), none]) ⟨rfl, ⟨rfl, ⟨rfl, ⟨rfl, ⟨rfl, trivial⟩⟩⟩⟩⟩ ?_
                exact ih_out2 t x15 (by omega) hx1 ht hr hbA hbB h1 (by omega) (by rw [show x15 = i + 1 by omega]; exact tb2_row h2 (by omega))
              · have he16 := lsOK_e (hg.2.1 a (by rw [hka]; omega) (by rw [hka]; omega)) hbe11 (i := i) (by omega)
                have hk16 : (S (lE ρ a i)).1 = 8 := by rw [he16.2, hka]; rcases hk3a with h9 | h9 | h9 <;> rw [h9] <;> rfl
                have he17 := lsOK_e (hg.2.1 b (by rw [hkb]; omega) (by rw [hkb]; omega)) hbe12 (i := j) (by omega)
                have hk17 : (S (lE ρ b j)).1 = 8 := by rw [he17.2, hkb]; rcases hk3b with h9 | h9 | h9 <;> rw [h9] <;> rfl
                have htsA := hlA.2 i (by omega) (by omega)
                have htsB := hlB.2 j (by omega) (by omega)
                have hcA0 := cel_box (i := 0) (la := P.2.2 20 0) (ma := P.2.2 20 1) hG htsA hleA (by omega) (by omega) (by decide) (hbA 0 (by decide))
                have hcB0 := cel_box (i := 0) (la := P.2.2 21 0) (ma := P.2.2 21 1) hG htsB hleB (by omega) (by omega) (by decide) (hbB 0 (by decide))
                have hrA0 := celS_r (s := sA + i) (ax := 0) hleA (by decide) (by omega) (by omega)
                have hrB0 := celS_r (s := sB + j) (ax := 0) hleB (by decide) (by omega) (by omega)
                have hcA1 := cel_box (i := 1) (la := P.2.2 20 0) (ma := P.2.2 20 1) hG htsA hleA (by omega) (by omega) (by decide) (hbA 1 (by decide))
                have hcB1 := cel_box (i := 1) (la := P.2.2 21 0) (ma := P.2.2 21 1) hG htsB hleB (by omega) (by omega) (by decide) (hbB 1 (by decide))
                have hrA1 := celS_r (s := sA + i) (ax := 1) hleA (by decide) (by omega) (by omega)
                have hrB1 := celS_r (s := sB + j) (ax := 1) hleB (by decide) (by omega) (by omega)
                refine g_aload_n hΓ rfl dX0_laysCosts_146 ?_
                refine x_geta (r := some (P.2.1 17)) (c := 0) hE hΓ in_X0 rfl hp.1 ⟨by decide, rfl⟩ 17 (ji := 17) rfl (by decide) (by decide) rfl q263 rfl rfl (pA_r hp 17 rfl rfl) dX0_laysCosts_147 ?_
                show gW Γ E (xM E S t ρ) 0 0 _ _ (.ref (P.2.1 17) :: _)
                refine g_iload hΓ rfl dX0_laysCosts_150 ?_
                refine x_aaldG (r := some (P.2.2 17 i)) hΓ (pA_k hp 17 rfl (n := 67) rfl) (pA_n hp 17 rfl (n := 8) rfl) ⟨by decide, rfl⟩ (by omega) (by omega) (pG_r hp 17 rfl (n := 8) rfl (i := i) (by omega)) dX0_laysCosts_152 ?_
                show gW Γ E (xM E S t ρ) 0 0 _ _ (.ref (P.2.2 17 i) :: _)
                refine g_iload hΓ rfl dX0_laysCosts_153 ?_
                refine g_aload_n hΓ rfl dX0_laysCosts_155 ?_
                refine x_geta (r := some (P.2.1 20)) (c := 0) hE hΓ in_X0 rfl hp.1 ⟨by decide, rfl⟩ 20 (ji := 20) rfl (by decide) (by decide) rfl q266 rfl rfl (pL_r hp 20 rfl rfl) dX0_laysCosts_156 ?_
                show gW Γ E (xM E S t ρ) 0 0 _ _ (.ref (P.2.1 20) :: _)
                refine g_aload_n hΓ rfl dX0_laysCosts_159 ?_
                refine g_iload hΓ rfl dX0_laysCosts_160 ?_
                have hz19 : t a 2 = nA := hlA.1
                refine x_callV (As := [.int (iI i)]) (rest := [.ref (P.2.1 20), .int (iI j), .ref (P.2.2 17 i)]) (c := 10) hE hΓ (x_J2_get hE hX S t ρ a b11 (lE ρ a i) ka kb11 ((S b11).2.1) i hka hkra hbr11 hbk11 hbq11 rfl (by omega) (by omega) he16.1 ) hka (ks_10_17 hkra) rfl rfl q857 q858 q859 q127 q860 ndJ2_get rfl (by decide) (by decide) (Nat.zero_le _) (Nat.zero_le _) rfl (Nat.le_of_ble_eq_true rfl) dX0_laysCosts_162 rfl (fun v18 S18 τ18 ρ18 h18 => ?_)
                obtain ⟨rfl, S18e, τ18e, ρ18e⟩ := h18
                have S18e := S18e.symm; subst S18e
                have τ18e := τ18e.symm; subst τ18e
                have ρ18e := ρ18e.symm; subst ρ18e
                show gW Γ E (xM E S t ρ) _ _ _ _ (.ref (lE ρ a i) :: _)
                refine x_castS (c := 8) hE hΓ rfl q915 hk16 ⟨by decide, rfl⟩ rfl dX0_laysCosts_165 ?_
                refine g_iconst hΓ dX0_laysCosts_168 ?_
                refine x_callV (As := [.ref (lE ρ a i), .int (iI 0)]) (rest := [.int (iI j), .ref (P.2.2 17 i)]) (c := 2) hE hΓ (x_X2_cell_46 hE hX S t ρ (P.2.1 20) (P.2.2 20 0) (P.2.2 20 1) (lE ρ a i) 0 (pL_k hp 20 rfl (n := 3) rfl) ⟨(pB_r hp 20 (by decide) 0 (by decide)), (pB_s hp 20 (by decide) 0 (by decide) (k := 46) rfl).1, (pB_s hp 20 (by decide) 0 (by decide) (k := 46) rfl).2⟩ ⟨(pB_r hp 20 (by decide) 1 (by decide)), (pB_s hp 20 (by decide) 1 (by decide) (k := 47) rfl).1, (pB_s hp 20 (by decide) 1 (by decide) (k := 47) rfl).2⟩ hk16 (hG _ hk16).1 (by first | decide | omega) hcA0.1 ) (pL_k hp 20 rfl (n := 3) rfl) ⟨by decide, rfl⟩ rfl rfl q972 q973 q974 q130 q975 ndX2_cell rfl (by decide) (by decide) (Nat.zero_le _) (Nat.zero_le _) rfl (Nat.le_of_ble_eq_true rfl) dX0_laysCosts_169 rfl (fun v20 S20 τ20 ρ20 h20 => ?_)
                obtain ⟨rfl, S20e, τ20e, ρ20e⟩ := h20
                have S20e := S20e.symm; subst S20e
                have τ20e := τ20e.symm; subst τ20e
                have ρ20e := ρ20e.symm; subst ρ20e
                show gW Γ E (xM E S t ρ) _ _ _ _ (.int (iI (3 * (enF 0 (strN S ρ (lE ρ a i)) (t (rf ρ (lE ρ a i) 0)) 0 + enF 1 (strN S ρ (lE ρ a i)) (t (rf ρ (lE ρ a i) 0)) 0 - 2 * t (P.2.2 20 0) 0) / (2 * (t (P.2.2 20 1) 0 - t (P.2.2 20 0) 0) + 1))) :: _)
                refine g_topi (show (3 * (enF 0 (strN S ρ (lE ρ a i)) (t (rf ρ (lE ρ a i) 0)) 0 + enF 1 (strN S ρ (lE ρ a i)) (t (rf ρ (lE ρ a i) 0)) 0 - 2 * t (P.2.2 20 0) 0) / (2 * (t (P.2.2 20 1) 0 - t (P.2.2 20 0) 0) + 1) : Int) = celS σ (sA + i) sA nA 0 from hcA0.2) ?_
                refine g_aload_n hΓ rfl dX0_laysCosts_172 ?_
                refine x_geta (r := some (P.2.1 21)) (c := 0) hE hΓ in_X0 rfl hp.1 ⟨by decide, rfl⟩ 21 (ji := 21) rfl (by decide) (by decide) rfl q267 rfl rfl (pL_r hp 21 rfl rfl) dX0_laysCosts_173 ?_
                show gW Γ E (xM E S t ρ) 0 0 _ _ (.ref (P.2.1 21) :: _)
                refine g_aload_n hΓ rfl dX0_laysCosts_176 ?_
                refine g_iload hΓ rfl dX0_laysCosts_177 ?_
                have hz22 : t b 2 = nB := hlB.1
                refine x_callV (As := [.int (iI j)]) (rest := [.ref (P.2.1 21), .int (iI (celS σ (sA + i) sA nA 0)), .int (iI j), .ref (P.2.2 17 i)]) (c := 10) hE hΓ (x_J2_get hE hX S t ρ b b12 (lE ρ b j) kb kb12 ((S b12).2.1) j hkb hkrb hbr12 hbk12 hbq12 rfl (by omega) (by omega) he17.1 ) hkb (ks_10_17 hkrb) rfl rfl q857 q858 q859 q127 q860 ndJ2_get rfl (by decide) (by decide) (Nat.zero_le _) (Nat.zero_le _) rfl (Nat.le_of_ble_eq_true rfl) dX0_laysCosts_179 rfl (fun v21 S21 τ21 ρ21 h21 => ?_)
                obtain ⟨rfl, S21e, τ21e, ρ21e⟩ := h21
                have S21e := S21e.symm; subst S21e
                have τ21e := τ21e.symm; subst τ21e
                have ρ21e := ρ21e.symm; subst ρ21e
                show gW Γ E (xM E S t ρ) _ _ _ _ (.ref (lE ρ b j) :: _)
                refine x_castS (c := 8) hE hΓ rfl q915 hk17 ⟨by decide, rfl⟩ rfl dX0_laysCosts_182 ?_
                refine g_iconst hΓ dX0_laysCosts_185 ?_
                refine x_callV (As := [.ref (lE ρ b j), .int (iI 0)]) (rest := [.int (iI (celS σ (sA + i) sA nA 0)), .int (iI j), .ref (P.2.2 17 i)]) (c := 2) hE hΓ (x_X2_cell_48 hE hX S t ρ (P.2.1 21) (P.2.2 21 0) (P.2.2 21 1) (lE ρ b j) 0 (pL_k hp 21 rfl (n := 19) rfl) ⟨(pB_r hp 21 (by decide) 0 (by decide)), (pB_s hp 21 (by decide) 0 (by decide) (k := 48) rfl).1, (pB_s hp 21 (by decide) 0 (by decide) (k := 48) rfl).2⟩ ⟨(pB_r hp 21 (by decide) 1 (by decide)), (pB_s hp 21 (by decide) 1 (by decide) (k := 49) rfl).1, (pB_s hp 21 (by decide) 1 (by decide) (k := 49) rfl).2⟩ hk17 (hG _ hk17).1 (by first | decide | omega) hcB0.1 ) (pL_k hp 21 rfl (n := 19) rfl) ⟨by decide, rfl⟩ rfl rfl q972 q973 q974 q130 q975 ndX2_cell rfl (by decide) (by decide) (Nat.zero_le _) (Nat.zero_le _) rfl (Nat.le_of_ble_eq_true rfl) dX0_laysCosts_186 rfl (fun v23 S23 τ23 ρ23 h23 => ?_)
                obtain ⟨rfl, S23e, τ23e, ρ23e⟩ := h23
                have S23e := S23e.symm; subst S23e
                have τ23e := τ23e.symm; subst τ23e
                have ρ23e := ρ23e.symm; subst ρ23e
                show gW Γ E (xM E S t ρ) _ _ _ _ (.int (iI (3 * (enF 0 (strN S ρ (lE ρ b j)) (t (rf ρ (lE ρ b j) 0)) 0 + enF 1 (strN S ρ (lE ρ b j)) (t (rf ρ (lE ρ b j) 0)) 0 - 2 * t (P.2.2 21 0) 0) / (2 * (t (P.2.2 21 1) 0 - t (P.2.2 21 0) 0) + 1))) :: _)
                refine g_topi (show (3 * (enF 0 (strN S ρ (lE ρ b j)) (t (rf ρ (lE ρ b j) 0)) 0 + enF 1 (strN S ρ (lE ρ b j)) (t (rf ρ (lE ρ b j) 0)) 0 - 2 * t (P.2.2 21 0) 0) / (2 * (t (P.2.2 21 1) 0 - t (P.2.2 21 0) 0) + 1) : Int) = celS σ (sB + j) sB nB 0 from hcB0.2) ?_
                refine g_isub hΓ dX0_laysCosts_189 ?_
                refine x_callS (As := [.int (iI ((celS σ (sA + i) sA nA 0) - (celS σ (sB + j) sB nB 0)))]) (rest := [.int (iI j), .ref (P.2.2 17 i)]) hΓ (x_J3_abs hE hX S t ρ ((celS σ (sA + i) sA nA 0) - (celS σ (sB + j) sB nB 0)) (by first | assumption | omega)) rfl q219 q220 q129 q221 ndJ3_abs rfl (by decide) (by decide) (Nat.zero_le _) (Nat.zero_le _) rfl (Nat.le_of_ble_eq_true rfl) dX0_laysCosts_190 rfl (fun v24 S24 τ24 ρ24 h24 => ?_)
                obtain ⟨rfl, S24e, τ24e, ρ24e⟩ := h24
                have S24e := S24e.symm; subst S24e
                have τ24e := τ24e.symm; subst τ24e
                have ρ24e := ρ24e.symm; subst ρ24e
                show gW Γ E (xM E S t ρ) _ _ _ _ (.int (iI (if ((celS σ (sA + i) sA nA 0) - (celS σ (sB + j) sB nB 0)) < 0 then -((celS σ (sA + i) sA nA 0) - (celS σ (sB + j) sB nB 0)) else ((celS σ (sA + i) sA nA 0) - (celS σ (sB + j) sB nB 0)))) :: _)
                refine g_aload_n hΓ rfl dX0_laysCosts_193 ?_
                refine x_geta (r := some (P.2.1 20)) (c := 0) hE hΓ in_X0 rfl hp.1 ⟨by decide, rfl⟩ 20 (ji := 20) rfl (by decide) (by decide) rfl q266 rfl rfl (pL_r hp 20 rfl rfl) dX0_laysCosts_194 ?_
                show gW Γ E (xM E S t ρ) 0 0 _ _ (.ref (P.2.1 20) :: _)
                refine g_aload_n hΓ rfl dX0_laysCosts_197 ?_
                refine g_iload hΓ rfl dX0_laysCosts_198 ?_
                have hz26 : t a 2 = nA := hlA.1
                refine x_callV (As := [.int (iI i)]) (rest := [.ref (P.2.1 20), .int (iI (if ((celS σ (sA + i) sA nA 0) - (celS σ (sB + j) sB nB 0)) < 0 then -((celS σ (sA + i) sA nA 0) - (celS σ (sB + j) sB nB 0)) else ((celS σ (sA + i) sA nA 0) - (celS σ (sB + j) sB nB 0)))), .int (iI j), .ref (P.2.2 17 i)]) (c := 10) hE hΓ (x_J2_get hE hX S t ρ a b11 (lE ρ a i) ka kb11 ((S b11).2.1) i hka hkra hbr11 hbk11 hbq11 rfl (by omega) (by omega) he16.1 ) hka (ks_10_17 hkra) rfl rfl q857 q858 q859 q127 q860 ndJ2_get rfl (by decide) (by decide) (Nat.zero_le _) (Nat.zero_le _) rfl (Nat.le_of_ble_eq_true rfl) dX0_laysCosts_200 rfl (fun v25 S25 τ25 ρ25 h25 => ?_)
                obtain ⟨rfl, S25e, τ25e, ρ25e⟩ := h25
                have S25e := S25e.symm; subst S25e
                have τ25e := τ25e.symm; subst τ25e
                have ρ25e := ρ25e.symm; subst ρ25e
                show gW Γ E (xM E S t ρ) _ _ _ _ (.ref (lE ρ a i) :: _)
                refine x_castS (c := 8) hE hΓ rfl q915 hk16 ⟨by decide, rfl⟩ rfl dX0_laysCosts_203 ?_
                refine g_iconst hΓ dX0_laysCosts_206 ?_
                refine x_callV (As := [.ref (lE ρ a i), .int (iI 1)]) (rest := [.int (iI (if ((celS σ (sA + i) sA nA 0) - (celS σ (sB + j) sB nB 0)) < 0 then -((celS σ (sA + i) sA nA 0) - (celS σ (sB + j) sB nB 0)) else ((celS σ (sA + i) sA nA 0) - (celS σ (sB + j) sB nB 0)))), .int (iI j), .ref (P.2.2 17 i)]) (c := 2) hE hΓ (x_X2_cell_46 hE hX S t ρ (P.2.1 20) (P.2.2 20 0) (P.2.2 20 1) (lE ρ a i) 1 (pL_k hp 20 rfl (n := 3) rfl) ⟨(pB_r hp 20 (by decide) 0 (by decide)), (pB_s hp 20 (by decide) 0 (by decide) (k := 46) rfl).1, (pB_s hp 20 (by decide) 0 (by decide) (k := 46) rfl).2⟩ ⟨(pB_r hp 20 (by decide) 1 (by decide)), (pB_s hp 20 (by decide) 1 (by decide) (k := 47) rfl).1, (pB_s hp 20 (by decide) 1 (by decide) (k := 47) rfl).2⟩ hk16 (hG _ hk16).1 (by first | decide | omega) hcA1.1 ) (pL_k hp 20 rfl (n := 3) rfl) ⟨by decide, rfl⟩ rfl rfl q972 q973 q974 q130 q975 ndX2_cell rfl (by decide) (by decide) (Nat.zero_le _) (Nat.zero_le _) rfl (Nat.le_of_ble_eq_true rfl) dX0_laysCosts_207 rfl (fun v27 S27 τ27 ρ27 h27 => ?_)
                obtain ⟨rfl, S27e, τ27e, ρ27e⟩ := h27
                have S27e := S27e.symm; subst S27e
                have τ27e := τ27e.symm; subst τ27e
                have ρ27e := ρ27e.symm; subst ρ27e
                show gW Γ E (xM E S t ρ) _ _ _ _ (.int (iI (3 * (enF 0 (strN S ρ (lE ρ a i)) (t (rf ρ (lE ρ a i) 0)) 1 + enF 1 (strN S ρ (lE ρ a i)) (t (rf ρ (lE ρ a i) 0)) 1 - 2 * t (P.2.2 20 0) 1) / (2 * (t (P.2.2 20 1) 1 - t (P.2.2 20 0) 1) + 1))) :: _)
                refine g_topi (show (3 * (enF 0 (strN S ρ (lE ρ a i)) (t (rf ρ (lE ρ a i) 0)) 1 + enF 1 (strN S ρ (lE ρ a i)) (t (rf ρ (lE ρ a i) 0)) 1 - 2 * t (P.2.2 20 0) 1) / (2 * (t (P.2.2 20 1) 1 - t (P.2.2 20 0) 1) + 1) : Int) = celS σ (sA + i) sA nA 1 from hcA1.2) ?_
                refine g_aload_n hΓ rfl dX0_laysCosts_210 ?_
                refine x_geta (r := some (P.2.1 21)) (c := 0) hE hΓ in_X0 rfl hp.1 ⟨by decide, rfl⟩ 21 (ji := 21) rfl (by decide) (by decide) rfl q267 rfl rfl (pL_r hp 21 rfl rfl) dX0_laysCosts_211 ?_
                show gW Γ E (xM E S t ρ) 0 0 _ _ (.ref (P.2.1 21) :: _)
                refine g_aload_n hΓ rfl dX0_laysCosts_214 ?_
                refine g_iload hΓ rfl dX0_laysCosts_215 ?_
                have hz29 : t b 2 = nB := hlB.1
                refine x_callV (As := [.int (iI j)]) (rest := [.ref (P.2.1 21), .int (iI (celS σ (sA + i) sA nA 1)), .int (iI (if ((celS σ (sA + i) sA nA 0) - (celS σ (sB + j) sB nB 0)) < 0 then -((celS σ (sA + i) sA nA 0) - (celS σ (sB + j) sB nB 0)) else ((celS σ (sA + i) sA nA 0) - (celS σ (sB + j) sB nB 0)))), .int (iI j), .ref (P.2.2 17 i)]) (c := 10) hE hΓ (x_J2_get hE hX S t ρ b b12 (lE ρ b j) kb kb12 ((S b12).2.1) j hkb hkrb hbr12 hbk12 hbq12 rfl (by omega) (by omega) he17.1 ) hkb (ks_10_17 hkrb) rfl rfl q857 q858 q859 q127 q860 ndJ2_get rfl (by decide) (by decide) (Nat.zero_le _) (Nat.zero_le _) rfl (Nat.le_of_ble_eq_true rfl) dX0_laysCosts_217 rfl (fun v28 S28 τ28 ρ28 h28 => ?_)
                obtain ⟨rfl, S28e, τ28e, ρ28e⟩ := h28
                have S28e := S28e.symm; subst S28e
                have τ28e := τ28e.symm; subst τ28e
                have ρ28e := ρ28e.symm; subst ρ28e
                show gW Γ E (xM E S t ρ) _ _ _ _ (.ref (lE ρ b j) :: _)
                refine x_castS (c := 8) hE hΓ rfl q915 hk17 ⟨by decide, rfl⟩ rfl dX0_laysCosts_220 ?_
                refine g_iconst hΓ dX0_laysCosts_223 ?_
                refine x_callV (As := [.ref (lE ρ b j), .int (iI 1)]) (rest := [.int (iI (celS σ (sA + i) sA nA 1)), .int (iI (if ((celS σ (sA + i) sA nA 0) - (celS σ (sB + j) sB nB 0)) < 0 then -((celS σ (sA + i) sA nA 0) - (celS σ (sB + j) sB nB 0)) else ((celS σ (sA + i) sA nA 0) - (celS σ (sB + j) sB nB 0)))), .int (iI j), .ref (P.2.2 17 i)]) (c := 2) hE hΓ (x_X2_cell_48 hE hX S t ρ (P.2.1 21) (P.2.2 21 0) (P.2.2 21 1) (lE ρ b j) 1 (pL_k hp 21 rfl (n := 19) rfl) ⟨(pB_r hp 21 (by decide) 0 (by decide)), (pB_s hp 21 (by decide) 0 (by decide) (k := 48) rfl).1, (pB_s hp 21 (by decide) 0 (by decide) (k := 48) rfl).2⟩ ⟨(pB_r hp 21 (by decide) 1 (by decide)), (pB_s hp 21 (by decide) 1 (by decide) (k := 49) rfl).1, (pB_s hp 21 (by decide) 1 (by decide) (k := 49) rfl).2⟩ hk17 (hG _ hk17).1 (by first | decide | omega) hcB1.1 ) (pL_k hp 21 rfl (n := 19) rfl) ⟨by decide, rfl⟩ rfl rfl q972 q973 q974 q130 q975 ndX2_cell rfl (by decide) (by decide) (Nat.zero_le _) (Nat.zero_le _) rfl (Nat.le_of_ble_eq_true rfl) dX0_laysCosts_224 rfl (fun v30 S30 τ30 ρ30 h30 => ?_)
                obtain ⟨rfl, S30e, τ30e, ρ30e⟩ := h30
                have S30e := S30e.symm; subst S30e
                have τ30e := τ30e.symm; subst τ30e
                have ρ30e := ρ30e.symm; subst ρ30e
                show gW Γ E (xM E S t ρ) _ _ _ _ (.int (iI (3 * (enF 0 (strN S ρ (lE ρ b j)) (t (rf ρ (lE ρ b j) 0)) 1 + enF 1 (strN S ρ (lE ρ b j)) (t (rf ρ (lE ρ b j) 0)) 1 - 2 * t (P.2.2 21 0) 1) / (2 * (t (P.2.2 21 1) 1 - t (P.2.2 21 0) 1) + 1))) :: _)
                refine g_topi (show (3 * (enF 0 (strN S ρ (lE ρ b j)) (t (rf ρ (lE ρ b j) 0)) 1 + enF 1 (strN S ρ (lE ρ b j)) (t (rf ρ (lE ρ b j) 0)) 1 - 2 * t (P.2.2 21 0) 1) / (2 * (t (P.2.2 21 1) 1 - t (P.2.2 21 0) 1) + 1) : Int) = celS σ (sB + j) sB nB 1 from hcB1.2) ?_
                refine g_isub hΓ dX0_laysCosts_227 ?_
                refine x_callS (As := [.int (iI ((celS σ (sA + i) sA nA 1) - (celS σ (sB + j) sB nB 1)))]) (rest := [.int (iI (if ((celS σ (sA + i) sA nA 0) - (celS σ (sB + j) sB nB 0)) < 0 then -((celS σ (sA + i) sA nA 0) - (celS σ (sB + j) sB nB 0)) else ((celS σ (sA + i) sA nA 0) - (celS σ (sB + j) sB nB 0)))), .int (iI j), .ref (P.2.2 17 i)]) hΓ (x_J3_abs hE hX S t ρ ((celS σ (sA + i) sA nA 1) - (celS σ (sB + j) sB nB 1)) (by first | assumption | omega)) rfl q219 q220 q129 q221 ndJ3_abs rfl (by decide) (by decide) (Nat.zero_le _) (Nat.zero_le _) rfl (Nat.le_of_ble_eq_true rfl) dX0_laysCosts_228 rfl (fun v31 S31 τ31 ρ31 h31 => ?_)
                obtain ⟨rfl, S31e, τ31e, ρ31e⟩ := h31
                have S31e := S31e.symm; subst S31e
                have τ31e := τ31e.symm; subst τ31e
                have ρ31e := ρ31e.symm; subst ρ31e
                show gW Γ E (xM E S t ρ) _ _ _ _ (.int (iI (if ((celS σ (sA + i) sA nA 1) - (celS σ (sB + j) sB nB 1)) < 0 then -((celS σ (sA + i) sA nA 1) - (celS σ (sB + j) sB nB 1)) else ((celS σ (sA + i) sA nA 1) - (celS σ (sB + j) sB nB 1)))) :: _)
                refine g_iadd hΓ dX0_laysCosts_231 ?_
                refine x_iast hΓ (pG_k hp 17 rfl (n := 8) rfl (i := i) (by omega) (m := 117) rfl) (pG_n hp 17 rfl (n := 8) rfl (i := i) (by omega) (m := 8) rfl) ⟨by decide, rfl⟩ (hAw _ (by rw [(pG_k hp 17 rfl (n := 8) rfl (i := i) (by omega) (m := 117) rfl)]; rfl)) (by omega) (by omega) dX0_laysCosts_232 (fun τ32 τ32e => ?_)
                have τ32r : τ32 (P.2.2 17 i) j = (if ((celS σ (sA + i) sA nA 0) - (celS σ (sB + j) sB nB 0)) < 0 then -((celS σ (sA + i) sA nA 0) - (celS σ (sB + j) sB nB 0)) else ((celS σ (sA + i) sA nA 0) - (celS σ (sB + j) sB nB 0))) + (if ((celS σ (sA + i) sA nA 1) - (celS σ (sB + j) sB nB 1)) < 0 then -((celS σ (sA + i) sA nA 1) - (celS σ (sB + j) sB nB 1)) else ((celS σ (sA + i) sA nA 1) - (celS σ (sB + j) sB nB 1))) := by rw [τ32e]; exact us_s _ _ _ _
                have τ32f : ∀ (q9 : Nat) (j9 : Int), (q9 ≠ (P.2.2 17 i) ∨ j9 ≠ j) → τ32 q9 j9 = t q9 j9 := fun q9 j9 hh => by rw [τ32e]; exact us_n hh
                obtain ⟨x33, ex33⟩ : ∃ z9 : Int, z9 = j + 1 := ⟨_, rfl⟩
                refine g_iinc hΓ dX0_laysCosts_233 rfl rfl (lv' := [some (.ref (P.1)), some (.ref a), some (.ref b), some (.int (iI w)), some (.int (iI i)), some (.int (iI x33))]) (by rw [ex33]; rfl) ?_
                refine g_goto (tgt := 137) hΓ dX0_laysCosts_236 (by decide) ?_
                have hfD34 : fr S t τ32 [117] := (fun q9 j9 hk9 => by exact (τ32f q9 j9 (Or.inl (fun e9 => hk9 (by rw [e9, (pG_k hp 17 rfl (n := 8) rfl (i := i) (by omega) (m := 117) rfl), mdN _ (by decide)]; decide)))))
                have hxs34 : Rx E Z S τ32 ρ P σ := Rx_scr hx1 (fr_w hfD34 (by decide)) fr_rfl (GS_fr (hx1).1.1 hfD34 fr_rfl (m' := []) (by decide) (by decide))
                exact ih_in2 τ32 x33 (by omega) hxs34 (fr_t ht (fr_w hfD34 (by decide))) hr (fun i9 h9 => ⟨((τ32f _ _ (Or.inl (ne_k (pB_s hp 20 (by decide) 0 (by decide) (k := 46) rfl).1 (pG_k hp 17 rfl (n := 8) rfl (i := i) (by omega) (m := 117) rfl) (by decide)))).trans (hbA i9 h9).1), ((τ32f _ _ (Or.inl (ne_k (pB_s hp 20 (by decide) 1 (by decide) (k := 47) rfl).1 (pG_k hp 17 rfl (n := 8) rfl (i := i) (by omega) (m := 117) rfl) (by decide)))).trans (hbA i9 h9).2)⟩) (fun i9 h9 => ⟨((τ32f _ _ (Or.inl (ne_k (pB_s hp 21 (by decide) 0 (by decide) (k := 48) rfl).1 (pG_k hp 17 rfl (n := 8) rfl (i := i) (by omega) (m := 117) rfl) (by decide)))).trans (hbB i9 h9).1), ((τ32f _ _ (Or.inl (ne_k (pB_s hp 21 (by decide) 1 (by decide) (k := 49) rfl).1 (pG_k hp 17 rfl (n := 8) rfl (i := i) (by omega) (m := 117) rfl) (by decide)))).trans (hbB i9 h9).2)⟩) (tb1_fr hp hmA8 (Int.le_refl _) h1 (fun q9 k9 h9 => τ32f q9 k9 (Or.inl (fun e9 => by rw [e9, pG_k hp 17 rfl (n := 8) rfl (i := i) (by omega) (m := 117) rfl] at h9; omega)))) (by omega) (by rw [show x33 = j + 1 by omega]; exact tb2_step hp (by omega) h2 τ32f (τ32r))
          refine g_iconst hΓ dX0_laysCosts_134 ?_
          refine g_istore hΓ dX0_laysCosts_135 rfl (Nat.le_of_ble_eq_true rfl) (lv' := [some (.ref (P.1)), some (.ref a), some (.ref b), some (.int (iI w)), some (.int (iI i)), some (.int (iI 0))]) rfl ?_
          exact in2 9 t 0 (by omega) hx1 ht hr hbA hbB h1 (by omega) h2
    refine g_iconst hΓ dX0_laysCosts_122 ?_
    refine g_istore hΓ dX0_laysCosts_123 rfl (Nat.le_of_ble_eq_true rfl) (lv' := [some (.ref (P.1)), some (.ref a), some (.ref b), some (.int (iI w)), some (.int (iI 0)), none]) rfl ?_
    exact out2 9 τ5 0 (by omega) hxs6 htb hr hbA h5 h1b (by omega) tb2_0
  have out1 : ∀ (fu : Nat) (t : xD) (ρ : xR) (i : Int), (nA - i).toNat < fu → (Rx E Z S t ρ P σ) → (fr S D t [8003, 42, 43, 44, 112, 115, 116, 117, 46, 47, 48, 49]) → (fr S R ρ [1009, 1010]) → (0 ≤ i ∧ i ≤ nA) → (tb1 P t σ sA sB nB w i 0) → gW Γ E (xM E S t ρ) 0 0 3 [some (.ref (P.1)), some (.ref a), some (.ref b), some (.int (iI w)), some (.int (iI i)), none] [] := by
    intro fu
    induction fu with
    | zero => intro t ρ i hn; exact absurd hn (Nat.not_lt_zero _)
    | succ fu ih_out1 =>
      intro t ρ i hn hx1 ht hr hi h1
      obtain ⟨hg, hp, hki, hro, hnw, hbh, hsa, hpd⟩ := id hx1
      obtain ⟨N, NI, NM, NV, hN⟩ := (hx1).now
      have hAw := hg.2.2.2.2.2.2
      have hG : GS S t ρ := hg.1
      obtain ⟨h1000, h1009, h1042, h1043, h1044, h1045, h1046, h1047, hms, hsi, hsm, hnm⟩ := id hro
      have eN := hN.2.2.2.2.2.2.2.2.2.2.2.2
      have kNV : (S NV).1 = 45 := by rw [hN.2.2.2.1.2]
      have nNV : (S NV).2.1 = 6 := by rw [hN.2.2.2.1.2]
      have hlA := lsR_scr hg0 (fr_w ht (by decide)) (fr_w hr (by decide)) (by rw [hka]; omega) hla
      have hlB := lsR_scr hg0 (fr_w ht (by decide)) (fr_w hr (by decide)) (by rw [hkb]; omega) hlb
      have hmA := hlA.1
      have hmB := hlB.1
      obtain ⟨b35, kb35, hbr35, hbe35, hbk35, hbq35, hbc35⟩ := lsOK_b (hg.2.1 a (by rw [hka]; omega) (by rw [hka]; omega)) (by rw [hka]; exact hkra)
      obtain ⟨b36, kb36, hbr36, hbe36, hbk36, hbq36, hbc36⟩ := lsOK_b (hg.2.1 b (by rw [hkb]; omega) (by rw [hkb]; omega)) (by rw [hkb]; exact hkrb)
      refine g_iload hΓ rfl dX0_laysCosts_3 ?_
      refine g_aload_n hΓ rfl dX0_laysCosts_5 ?_
      refine x_callV (As := []) (rest := [.int (iI i)]) (c := 10) hE hΓ (x_J2_size hE hX S t ρ a ka hka hkra ) hka (ks_10_17 hkra) rfl rfl q845 q662 q663 q127 q664 ndJ2_size rfl (by decide) (by decide) (Nat.zero_le _) (Nat.zero_le _) rfl (Nat.le_of_ble_eq_true rfl) dX0_laysCosts_6 rfl (fun v37 S37 τ37 ρ37 h37 => ?_)
      obtain ⟨rfl, S37e, τ37e, ρ37e⟩ := h37
      have S37e := S37e.symm; subst S37e
      have τ37e := τ37e.symm; subst τ37e
      have ρ37e := ρ37e.symm; subst ρ37e
      refine g_topi (hlA.1) ?_
      show gW Γ E (xM E S t ρ) _ _ _ _ (.int (iI nA) :: _)
      refine g_icmp_ge (tgt := 104) hΓ (by omega) (by omega) dX0_laysCosts_9 (by decide) (fun c38 => ?_) (fun c38 => ?_)
      · refine g_lvw (lv' := [some (.ref (P.1)), some (.ref a), some (.ref b), some (.int (iI w)), none, none]) ⟨rfl, ⟨rfl, ⟨rfl, ⟨rfl, trivial⟩⟩⟩⟩ ?_
        exact ph2 t ρ hx1 ht hr (by have h9 := h1; rw [show i = nA by omega] at h9; exact h9)
      · have in1 : ∀ (fu : Nat) (t : xD) (ρ : xR) (j : Int), (nB - j).toNat < fu → (Rx E Z S t ρ P σ) → (fr S D t [8003, 42, 43, 44, 112, 115, 116, 117, 46, 47, 48, 49]) → (fr S R ρ [1009, 1010]) → (0 ≤ j ∧ j ≤ nB) → (tb1 P t σ sA sB nB w i j) → gW Γ E (xM E S t ρ) 0 0 15 [some (.ref (P.1)), some (.ref a), some (.ref b), some (.int (iI w)), some (.int (iI i)), some (.int (iI j))] [] := by
          intro fu
          induction fu with
          | zero => intro t ρ j hn; exact absurd hn (Nat.not_lt_zero _)
          | succ fu ih_in1 =>
            intro t ρ j hn hx1 ht hr hj h1
            obtain ⟨hg, hp, hki, hro, hnw, hbh, hsa, hpd⟩ := id hx1
            obtain ⟨N, NI, NM, NV, hN⟩ := (hx1).now
            have hAw := hg.2.2.2.2.2.2
            have hG : GS S t ρ := hg.1
            obtain ⟨h1000, h1009, h1042, h1043, h1044, h1045, h1046, h1047, hms, hsi, hsm, hnm⟩ := id hro
            have eN := hN.2.2.2.2.2.2.2.2.2.2.2.2
            have kNV : (S NV).1 = 45 := by rw [hN.2.2.2.1.2]
            have nNV : (S NV).2.1 = 6 := by rw [hN.2.2.2.1.2]
            have hlA := lsR_scr hg0 (fr_w ht (by decide)) (fr_w hr (by decide)) (by rw [hka]; omega) hla
            have hlB := lsR_scr hg0 (fr_w ht (by decide)) (fr_w hr (by decide)) (by rw [hkb]; omega) hlb
            have hmA := hlA.1
            have hmB := hlB.1
            obtain ⟨b39, kb39, hbr39, hbe39, hbk39, hbq39, hbc39⟩ := lsOK_b (hg.2.1 a (by rw [hka]; omega) (by rw [hka]; omega)) (by rw [hka]; exact hkra)
            obtain ⟨b40, kb40, hbr40, hbe40, hbk40, hbq40, hbc40⟩ := lsOK_b (hg.2.1 b (by rw [hkb]; omega) (by rw [hkb]; omega)) (by rw [hkb]; exact hkrb)
            refine g_iload hΓ rfl dX0_laysCosts_15 ?_
            refine g_aload_n hΓ rfl dX0_laysCosts_17 ?_
            refine x_callV (As := []) (rest := [.int (iI j)]) (c := 10) hE hΓ (x_J2_size hE hX S t ρ b kb hkb hkrb ) hkb (ks_10_17 hkrb) rfl rfl q845 q662 q663 q127 q664 ndJ2_size rfl (by decide) (by decide) (Nat.zero_le _) (Nat.zero_le _) rfl (Nat.le_of_ble_eq_true rfl) dX0_laysCosts_18 rfl (fun v41 S41 τ41 ρ41 h41 => ?_)
            obtain ⟨rfl, S41e, τ41e, ρ41e⟩ := h41
            have S41e := S41e.symm; subst S41e
            have τ41e := τ41e.symm; subst τ41e
            have ρ41e := ρ41e.symm; subst ρ41e
            refine g_topi (hlB.1) ?_
            show gW Γ E (xM E S t ρ) _ _ _ _ (.int (iI nB) :: _)
            refine g_icmp_ge (tgt := 98) hΓ (by omega) (by omega) dX0_laysCosts_21 (by decide) (fun c42 => ?_) (fun c42 => ?_)
            · obtain ⟨x43, ex43⟩ : ∃ z9 : Int, z9 = i + 1 := ⟨_, rfl⟩
              refine g_iinc hΓ dX0_laysCosts_98 rfl rfl (lv' := [some (.ref (P.1)), some (.ref a), some (.ref b), some (.int (iI w)), some (.int (iI x43)), some (.int (iI j))]) (by rw [ex43]; rfl) ?_
              refine g_goto (tgt := 3) hΓ dX0_laysCosts_101 (by decide) ?_
              refine g_lvw (lv' := [some (.ref (P.1)), some (.ref a), some (.ref b), some (.int (iI w)), some (.int (iI x43)), none]) ⟨rfl, ⟨rfl, ⟨rfl, ⟨rfl, ⟨rfl, trivial⟩⟩⟩⟩⟩ ?_
              exact ih_out1 t ρ x43 (by omega) hx1 ht hr (by omega) (by rw [show x43 = i + 1 by omega]; exact tb1_row h1 (by omega))
            · have he44 := lsOK_e (hg.2.1 a (by rw [hka]; omega) (by rw [hka]; omega)) hbe39 (i := i) (by omega)
              have hk44 : (S (lE ρ a i)).1 = 8 := by rw [he44.2, hka]; rcases hk3a with h9 | h9 | h9 <;> rw [h9] <;> rfl
              have he45 := lsOK_e (hg.2.1 b (by rw [hkb]; omega) (by rw [hkb]; omega)) hbe40 (i := j) (by omega)
              have hk45 : (S (lE ρ b j)).1 = 8 := by rw [he45.2, hkb]; rcases hk3b with h9 | h9 | h9 <;> rw [h9] <;> rfl
              have htsA := hlA.2 i (by omega) (by omega)
              have htsB := hlB.2 j (by omega) (by omega)
              refine g_aload_n hΓ rfl dX0_laysCosts_24 ?_
              refine x_geta (r := some (P.2.1 15)) (c := 0) hE hΓ in_X0 rfl hp.1 ⟨by decide, rfl⟩ 15 (ji := 15) rfl (by decide) (by decide) rfl q261 rfl rfl (pA_r hp 15 rfl rfl) dX0_laysCosts_25 ?_
              show gW Γ E (xM E S t ρ) 0 0 _ _ (.ref (P.2.1 15) :: _)
              refine g_iload hΓ rfl dX0_laysCosts_28 ?_
              refine x_aaldG (r := some (P.2.2 15 i)) hΓ (pA_k hp 15 rfl (n := 65) rfl) (pA_n hp 15 rfl (n := 8) rfl) ⟨by decide, rfl⟩ (by omega) (by omega) (pG_r hp 15 rfl (n := 8) rfl (i := i) (by omega)) dX0_laysCosts_30 ?_
              show gW Γ E (xM E S t ρ) 0 0 _ _ (.ref (P.2.2 15 i) :: _)
              refine g_iload hΓ rfl dX0_laysCosts_31 ?_
              refine g_aload_n hΓ rfl dX0_laysCosts_33 ?_
              refine g_aload_n hΓ rfl dX0_laysCosts_34 ?_
              refine g_iload hΓ rfl dX0_laysCosts_35 ?_
              have hz47 : t a 2 = nA := hlA.1
              refine x_callV (As := [.int (iI i)]) (rest := [.ref (P.1), .int (iI j), .ref (P.2.2 15 i)]) (c := 10) hE hΓ (x_J2_get hE hX S t ρ a b39 (lE ρ a i) ka kb39 ((S b39).2.1) i hka hkra hbr39 hbk39 hbq39 rfl (by omega) (by omega) he44.1 ) hka (ks_10_17 hkra) rfl rfl q857 q858 q859 q127 q860 ndJ2_get rfl (by decide) (by decide) (Nat.zero_le _) (Nat.zero_le _) rfl (Nat.le_of_ble_eq_true rfl) dX0_laysCosts_37 rfl (fun v46 S46 τ46 ρ46 h46 => ?_)
              obtain ⟨rfl, S46e, τ46e, ρ46e⟩ := h46
              have S46e := S46e.symm; subst S46e
              have τ46e := τ46e.symm; subst τ46e
              have ρ46e := ρ46e.symm; subst ρ46e
              show gW Γ E (xM E S t ρ) _ _ _ _ (.ref (lE ρ a i) :: _)
              refine x_castS (c := 8) hE hΓ rfl q915 hk44 ⟨by decide, rfl⟩ rfl dX0_laysCosts_40 ?_
              refine g_aload_n hΓ rfl dX0_laysCosts_43 ?_
              refine g_iload hΓ rfl dX0_laysCosts_44 ?_
              have hz49 : t b 2 = nB := hlB.1
              refine x_callV (As := [.int (iI j)]) (rest := [.ref (lE ρ a i), .ref (P.1), .int (iI j), .ref (P.2.2 15 i)]) (c := 10) hE hΓ (x_J2_get hE hX S t ρ b b40 (lE ρ b j) kb kb40 ((S b40).2.1) j hkb hkrb hbr40 hbk40 hbq40 rfl (by omega) (by omega) he45.1 ) hkb (ks_10_17 hkrb) rfl rfl q857 q858 q859 q127 q860 ndJ2_get rfl (by decide) (by decide) (Nat.zero_le _) (Nat.zero_le _) rfl (Nat.le_of_ble_eq_true rfl) dX0_laysCosts_46 rfl (fun v48 S48 τ48 ρ48 h48 => ?_)
              obtain ⟨rfl, S48e, τ48e, ρ48e⟩ := h48
              have S48e := S48e.symm; subst S48e
              have τ48e := τ48e.symm; subst τ48e
              have ρ48e := ρ48e.symm; subst ρ48e
              show gW Γ E (xM E S t ρ) _ _ _ _ (.ref (lE ρ b j) :: _)
              refine x_castS (c := 8) hE hΓ rfl q915 hk45 ⟨by decide, rfl⟩ rfl dX0_laysCosts_49 ?_
              refine g_iconst hΓ dX0_laysCosts_52 ?_
              refine g_iload_n hΓ rfl dX0_laysCosts_53 ?_
              refine x_callV (As := [.ref (lE ρ a i), .ref (lE ρ b j), .int (iI 0), .int (iI w)]) (rest := [.int (iI j), .ref (P.2.2 15 i)]) (c := 0) hE hΓ (x_X0_elasticOf hE hX hL S t ρ P σ (lE ρ a i) (lE ρ b j) 0 w (sA + i) (sB + j) hx1 htsA htsB (by omega) (by omega) ) hp.1 ⟨by decide, rfl⟩ rfl rfl q994 q996 qs29 q123 q997 ndX0_elasticOf rfl (by decide) (by decide) (Nat.zero_le _) (Nat.zero_le _) rfl (Nat.le_of_ble_eq_true rfl) dX0_laysCosts_54 rfl (fun v50 S50 τ50 ρ50 h50 => ?_)
              obtain ⟨rfl, h50, S50e, τ50f, ρ50f⟩ := h50
              have S50e := S50e.symm; subst S50e
              show gW Γ E (xM E S τ50 ρ50) _ _ _ _ (.int (iI (els σ (sA + i) (sB + j) 0 w)) :: _)
              refine x_iast hΓ (pG_k hp 15 rfl (n := 8) rfl (i := i) (by omega) (m := 115) rfl) (pG_n hp 15 rfl (n := 8) rfl (i := i) (by omega) (m := 8) rfl) ⟨by decide, rfl⟩ (hAw _ (by rw [(pG_k hp 15 rfl (n := 8) rfl (i := i) (by omega) (m := 115) rfl)]; rfl)) (by omega) (by omega) dX0_laysCosts_57 (fun τ51 τ51e => ?_)
              have τ51r : τ51 (P.2.2 15 i) j = els σ (sA + i) (sB + j) 0 w := by rw [τ51e]; exact us_s _ _ _ _
              have τ51f : ∀ (q9 : Nat) (j9 : Int), (q9 ≠ (P.2.2 15 i) ∨ j9 ≠ j) → τ51 q9 j9 = τ50 q9 j9 := fun q9 j9 hh => by rw [τ51e]; exact us_n hh
              have hfD52 : fr S τ50 τ51 [115] := (fun q9 j9 hk9 => by exact (τ51f q9 j9 (Or.inl (fun e9 => hk9 (by rw [e9, (pG_k hp 15 rfl (n := 8) rfl (i := i) (by omega) (m := 115) rfl), mdN _ (by decide)]; decide)))))
              have hxs52 : Rx E Z S τ51 ρ50 P σ := Rx_scr h50.1 (fr_w hfD52 (by decide)) fr_rfl (GS_fr (h50.1).1.1 hfD52 fr_rfl (m' := []) (by decide) (by decide))
              refine g_aload_n hΓ rfl dX0_laysCosts_58 ?_
              refine x_geta (r := some (P.2.1 16)) (c := 0) hE hΓ in_X0 rfl hp.1 ⟨by decide, rfl⟩ 16 (ji := 16) rfl (by decide) (by decide) rfl q262 rfl rfl ((ρ50f (P.1) 16 (by rw [hp.1]; decide)).trans (pA_r hp 16 rfl rfl)) dX0_laysCosts_59 ?_
              show gW Γ E (xM E S τ51 ρ50) 0 0 _ _ (.ref (P.2.1 16) :: _)
              refine g_iload hΓ rfl dX0_laysCosts_62 ?_
              refine x_aaldG (r := some (P.2.2 16 i)) hΓ (pA_k hp 16 rfl (n := 66) rfl) (pA_n hp 16 rfl (n := 8) rfl) ⟨by decide, rfl⟩ (by omega) (by omega) ((ρ50f (P.2.1 16) i (by rw [(pA_k hp 16 rfl (n := 66) rfl), mdN _ (by decide)]; decide)).trans (pG_r hp 16 rfl (n := 8) rfl (i := i) (by omega))) dX0_laysCosts_64 ?_
              show gW Γ E (xM E S τ51 ρ50) 0 0 _ _ (.ref (P.2.2 16 i) :: _)
              refine g_iload hΓ rfl dX0_laysCosts_65 ?_
              refine g_aload_n hΓ rfl dX0_laysCosts_67 ?_
              refine g_aload_n hΓ rfl dX0_laysCosts_68 ?_
              refine g_iload hΓ rfl dX0_laysCosts_69 ?_
              have hz54 : τ51 a 2 = nA := (((τ51f a 2 (Or.inl (ne_k hka (pG_k hp 15 rfl (n := 8) rfl (i := i) (by omega) (m := 115) rfl) (by omega)))).trans (τ50f a 2 (by rw [hka, mdN _ (by omega)]; intro h9; simp at h9; omega))).trans hlA.1)
              refine x_callV (As := [.int (iI i)]) (rest := [.ref (P.1), .int (iI j), .ref (P.2.2 16 i)]) (c := 10) hE hΓ (x_J2_get hE hX S τ51 ρ50 a b39 (lE ρ a i) ka kb39 ((S b39).2.1) i hka hkra ((ρ50f a 1 (by rw [hka, mdN _ (by omega)]; intro h9; simp at h9; omega)).trans hbr39) hbk39 hbq39 rfl (by omega) (by omega) ((ρ50f b39 i (by rw [hbk39, mdN _ (by omega)]; intro h9; simp at h9; omega)).trans he44.1) ) hka (ks_10_17 hkra) rfl rfl q857 q858 q859 q127 q860 ndJ2_get rfl (by decide) (by decide) (Nat.zero_le _) (Nat.zero_le _) rfl (Nat.le_of_ble_eq_true rfl) dX0_laysCosts_71 rfl (fun v53 S53 τ53 ρ53 h53 => ?_)
              obtain ⟨rfl, S53e, τ53e, ρ53e⟩ := h53
              have S53e := S53e.symm; subst S53e
              have τ53e := τ53e.symm; subst τ53e
              have ρ53e := ρ53e.symm; subst ρ53e
              show gW Γ E (xM E S τ51 ρ50) _ _ _ _ (.ref (lE ρ a i) :: _)
              refine x_castS (c := 8) hE hΓ rfl q915 hk44 ⟨by decide, rfl⟩ rfl dX0_laysCosts_74 ?_
              refine g_aload_n hΓ rfl dX0_laysCosts_77 ?_
              refine g_iload hΓ rfl dX0_laysCosts_78 ?_
              have hz56 : τ51 b 2 = nB := (((τ51f b 2 (Or.inl (ne_k hkb (pG_k hp 15 rfl (n := 8) rfl (i := i) (by omega) (m := 115) rfl) (by omega)))).trans (τ50f b 2 (by rw [hkb, mdN _ (by omega)]; intro h9; simp at h9; omega))).trans hlB.1)
              refine x_callV (As := [.int (iI j)]) (rest := [.ref (lE ρ a i), .ref (P.1), .int (iI j), .ref (P.2.2 16 i)]) (c := 10) hE hΓ (x_J2_get hE hX S τ51 ρ50 b b40 (lE ρ b j) kb kb40 ((S b40).2.1) j hkb hkrb ((ρ50f b 1 (by rw [hkb, mdN _ (by omega)]; intro h9; simp at h9; omega)).trans hbr40) hbk40 hbq40 rfl (by omega) (by omega) ((ρ50f b40 j (by rw [hbk40, mdN _ (by omega)]; intro h9; simp at h9; omega)).trans he45.1) ) hkb (ks_10_17 hkrb) rfl rfl q857 q858 q859 q127 q860 ndJ2_get rfl (by decide) (by decide) (Nat.zero_le _) (Nat.zero_le _) rfl (Nat.le_of_ble_eq_true rfl) dX0_laysCosts_80 rfl (fun v55 S55 τ55 ρ55 h55 => ?_)
              obtain ⟨rfl, S55e, τ55e, ρ55e⟩ := h55
              have S55e := S55e.symm; subst S55e
              have τ55e := τ55e.symm; subst τ55e
              have ρ55e := ρ55e.symm; subst ρ55e
              show gW Γ E (xM E S τ51 ρ50) _ _ _ _ (.ref (lE ρ b j) :: _)
              refine x_castS (c := 8) hE hΓ rfl q915 hk45 ⟨by decide, rfl⟩ rfl dX0_laysCosts_83 ?_
              refine g_iconst hΓ dX0_laysCosts_86 ?_
              refine g_iload_n hΓ rfl dX0_laysCosts_87 ?_
              refine x_callV (As := [.ref (lE ρ a i), .ref (lE ρ b j), .int (iI 1), .int (iI w)]) (rest := [.int (iI j), .ref (P.2.2 16 i)]) (c := 0) hE hΓ (x_X0_elasticOf hE hX hL S τ51 ρ50 P σ (lE ρ a i) (lE ρ b j) 1 w (sA + i) (sB + j) hxs52 (skR_scr (hx1).1.1 (fun q9 j9 hk9 => by exact ((τ51f q9 j9 (Or.inl (fun e9 => hk9 (by rw [e9, (pG_k hp 15 rfl (n := 8) rfl (i := i) (by omega) (m := 115) rfl), mdN _ (by decide)]; decide)))).trans (τ50f q9 j9 (fun e9 => hk9 ((show ∀ x ∈ [8003, 42, 43, 44, 112], x ∈ SCR by decide) _ e9))))) (fun q9 j9 hk9 => by exact (ρ50f q9 j9 (fun e9 => hk9 ((show ∀ x ∈ [1009, 1010], x ∈ SCQ by decide) _ e9)))) htsA) (skR_scr (hx1).1.1 (fun q9 j9 hk9 => by exact ((τ51f q9 j9 (Or.inl (fun e9 => hk9 (by rw [e9, (pG_k hp 15 rfl (n := 8) rfl (i := i) (by omega) (m := 115) rfl), mdN _ (by decide)]; decide)))).trans (τ50f q9 j9 (fun e9 => hk9 ((show ∀ x ∈ [8003, 42, 43, 44, 112], x ∈ SCR by decide) _ e9))))) (fun q9 j9 hk9 => by exact (ρ50f q9 j9 (fun e9 => hk9 ((show ∀ x ∈ [1009, 1010], x ∈ SCQ by decide) _ e9)))) htsB) (by omega) (by omega) ) hp.1 ⟨by decide, rfl⟩ rfl rfl q994 q996 qs29 q123 q997 ndX0_elasticOf rfl (by decide) (by decide) (Nat.zero_le _) (Nat.zero_le _) rfl (Nat.le_of_ble_eq_true rfl) dX0_laysCosts_88 rfl (fun v57 S57 τ57 ρ57 h57 => ?_)
              obtain ⟨rfl, h57, S57e, τ57f, ρ57f⟩ := h57
              have S57e := S57e.symm; subst S57e
              show gW Γ E (xM E S τ57 ρ57) _ _ _ _ (.int (iI (els σ (sA + i) (sB + j) 1 w)) :: _)
              refine x_iast hΓ (pG_k hp 16 rfl (n := 8) rfl (i := i) (by omega) (m := 116) rfl) (pG_n hp 16 rfl (n := 8) rfl (i := i) (by omega) (m := 8) rfl) ⟨by decide, rfl⟩ (hAw _ (by rw [(pG_k hp 16 rfl (n := 8) rfl (i := i) (by omega) (m := 116) rfl)]; rfl)) (by omega) (by omega) dX0_laysCosts_91 (fun τ58 τ58e => ?_)
              have τ58r : τ58 (P.2.2 16 i) j = els σ (sA + i) (sB + j) 1 w := by rw [τ58e]; exact us_s _ _ _ _
              have τ58f : ∀ (q9 : Nat) (j9 : Int), (q9 ≠ (P.2.2 16 i) ∨ j9 ≠ j) → τ58 q9 j9 = τ57 q9 j9 := fun q9 j9 hh => by rw [τ58e]; exact us_n hh
              have hfD59 : fr S τ57 τ58 [116] := (fun q9 j9 hk9 => by exact (τ58f q9 j9 (Or.inl (fun e9 => hk9 (by rw [e9, (pG_k hp 16 rfl (n := 8) rfl (i := i) (by omega) (m := 116) rfl), mdN _ (by decide)]; decide)))))
              have hxs59 : Rx E Z S τ58 ρ57 P σ := Rx_scr h57.1 (fr_w hfD59 (by decide)) fr_rfl (GS_fr (h57.1).1.1 hfD59 fr_rfl (m' := []) (by decide) (by decide))
              obtain ⟨x60, ex60⟩ : ∃ z9 : Int, z9 = j + 1 := ⟨_, rfl⟩
              refine g_iinc hΓ dX0_laysCosts_92 rfl rfl (lv' := [some (.ref (P.1)), some (.ref a), some (.ref b), some (.int (iI w)), some (.int (iI i)), some (.int (iI x60))]) (by rw [ex60]; rfl) ?_
              refine g_goto (tgt := 15) hΓ dX0_laysCosts_95 (by decide) ?_
              exact ih_in1 τ58 ρ57 x60 (by omega) hxs59 (fr_t ht (fun q9 j9 hk9 => by exact ((((τ58f q9 j9 (Or.inl (fun e9 => hk9 (by rw [e9, (pG_k hp 16 rfl (n := 8) rfl (i := i) (by omega) (m := 116) rfl), mdN _ (by decide)]; decide)))).trans (τ57f q9 j9 (fun e9 => hk9 ((show ∀ x ∈ [8003, 42, 43, 44, 112], x ∈ [8003, 42, 43, 44, 112, 115, 116, 117, 46, 47, 48, 49] by decide) _ e9)))).trans (τ51f q9 j9 (Or.inl (fun e9 => hk9 (by rw [e9, (pG_k hp 15 rfl (n := 8) rfl (i := i) (by omega) (m := 115) rfl), mdN _ (by decide)]; decide))))).trans (τ50f q9 j9 (fun e9 => hk9 ((show ∀ x ∈ [8003, 42, 43, 44, 112], x ∈ [8003, 42, 43, 44, 112, 115, 116, 117, 46, 47, 48, 49] by decide) _ e9)))))) (fr_t hr (fun q9 j9 hk9 => by exact ((ρ57f q9 j9 (fun e9 => hk9 ((show ∀ x ∈ [1009, 1010], x ∈ [1009, 1010] by decide) _ e9))).trans (ρ50f q9 j9 (fun e9 => hk9 ((show ∀ x ∈ [1009, 1010], x ∈ [1009, 1010] by decide) _ e9)))))) (by omega) (by rw [show x60 = j + 1 by omega]; exact tb1_step hp (by omega) h1 (fun q9 k9 h9 n5 n6 => (τ58f q9 k9 n6).trans ((τ57f q9 k9 (by rcases h9 with h9 | h9 <;> rw [h9, mdN _ (by decide)] <;> decide)).trans ((τ51f q9 k9 n5).trans (τ50f q9 k9 (by rcases h9 with h9 | h9 <;> rw [h9, mdN _ (by decide)] <;> decide))))) ((((τ58f (P.2.2 15 i) j (Or.inl (ne_k (pG_k hp 15 rfl (n := 8) rfl (i := i) (by omega) (m := 115) rfl) (pG_k hp 16 rfl (n := 8) rfl (i := i) (by omega) (m := 116) rfl) (by decide)))).trans (τ57f (P.2.2 15 i) j (by rw [(pG_k hp 15 rfl (n := 8) rfl (i := i) (by omega) (m := 115) rfl), mdN _ (by decide)]; decide))).trans τ51r)) (τ58r))
        refine g_iconst hΓ dX0_laysCosts_12 ?_
        refine g_istore hΓ dX0_laysCosts_13 rfl (Nat.le_of_ble_eq_true rfl) (lv' := [some (.ref (P.1)), some (.ref a), some (.ref b), some (.int (iI w)), some (.int (iI i)), some (.int (iI 0))]) rfl ?_
        exact in1 9 t ρ 0 (by omega) hx1 ht hr (by omega) h1
  refine g_iconst hΓ dX0_laysCosts_0 ?_
  refine g_istore hΓ dX0_laysCosts_1 rfl (Nat.le_of_ble_eq_true rfl) (lv' := [some (.ref (P.1)), some (.ref a), some (.ref b), some (.int (iI w)), some (.int (iI 0)), none]) rfl ?_
  exact out1 9 D R 0 (by omega) hx fr_rfl fr_rfl (by omega) tb1_0
