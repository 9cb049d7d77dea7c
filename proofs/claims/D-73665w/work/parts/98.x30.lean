set_option maxRecDepth 100000
set_option maxHeartbeats 4000000 in
theorem x_X0_laysValued {l : Launch} {E : gE} {X : State → Prop} {Z : Nat → Nat} {Y : Nat → Option Nat} (hE : E.2.1 = clsX) (hX : xOK l E X Z Y) (hL : xLam l E X (Z 20) (Z 21)) (S : xS) (D : xD) (R : xR) (P : xPk) (σ : mS) (k q mo : Int) (hx : Rx E Z S D R P σ) (hk : 0 ≤ k ∧ k < σ 6 0) (hq : 0 ≤ q ∧ q ≤ 2) (hmo : mo = if q = 2 then 16 else 40) (hP0 : P.2.1 99 = 0) : xC l E X yX0_laysValued cX0_laysValued 8 none 12 0 0 [.ref (P.1), .ref (lE R (P.2.1 31) k), .int (iI q), .int (iI mo)] S D R (fun rv S' D' R' => rv = none ∧ (Rx E Z S D' R' P σ ∧ vtI P D' σ k q mo (σ 0 1000) 0) ∧ S' = S ∧ fr S D D' [8003, 42, 43, 44, 112, 115, 116, 117, 46, 47, 48, 49, 1022, 68, 69, 132] ∧ fr S R R' [1009, 1010]) := by
  refine xC.of hX.1 (by decide) [some (.ref (P.1)), some (.ref (lE R (P.2.1 31) k)), some (.int (iI q)), some (.int (iI mo)), none, none, none, none] (Nat.le_of_ble_eq_true rfl) rfl rfl (fun Γ hΓ => ?_)
  obtain ⟨hg, hp, hki, hro, hnw, hbh, hsa, hpd⟩ := id hx
  obtain ⟨N, NI, NM, NV, hN⟩ := (hx).now
  have hAw := hg.2.2.2.2.2.2
  have hG : GS S D R := hg.1
  obtain ⟨h1000, h1009, h1042, h1043, h1044, h1045, h1046, h1047, hms, hsi, hsm, hnm⟩ := id hro
  have eN := hN.2.2.2.2.2.2.2.2.2.2.2.2
  have kNV : (S NV).1 = 45 := by rw [hN.2.2.2.1.2]
  have nNV : (S NV).2.1 = 6 := by rw [hN.2.2.2.1.2]
  replace hsa := hsa hP0
  have hs9 : (S (lE R (P.2.1 31) k)).1 = 9 := by
    have h9 := ((hg.2.1 (P.2.1 31) (by rw [pL_k hp 31 rfl (n := 16) rfl]; decide) (by rw [pL_k hp 31 rfl (n := 16) rfl]; decide)).2.2.2 k (by omega) (by rw [hsa.1]; omega)).2
    rw [pL_k hp 31 rfl (n := 16) rfl] at h9
    exact h9
  have hsf := hg.2.2.2.2.1 (lE R (P.2.1 31) k) hs9
  have hlf := hg.2.2.2.1 _ hsf.2
  have hsk := hsa.2.2 k (by omega) (by omega)
  have htk := hsa.2.1.2 k (by omega) (by omega)
  have hg0 := hg
  have hm40 : 16 ≤ mo ∧ mo ≤ 40 := by rw [hmo]; split <;> omega
  have hm2 : q = 2 → mo = 16 := fun h9 => by rw [hmo, if_pos h9]
  have hleA := htk.2.2
  have hmA0 := hleA.2.1
  have hmA8 := hleA.2.2.1
  have out : ∀ (fu : Nat) (t : xD) (ρ : xR) (m : Int), (σ 0 1000 - m).toNat < fu → (Rx E Z S t ρ P σ) → (fr S D t [8003, 42, 43, 44, 112, 115, 116, 117, 46, 47, 48, 49, 1022, 68, 69, 132]) → (fr S R ρ [1009, 1010]) → (0 ≤ m ∧ m ≤ σ 0 1000) → (vtI P t σ k q mo m 0) → gW Γ E (xM E S t ρ) 0 0 3 [some (.ref (P.1)), some (.ref (lE R (P.2.1 31) k)), some (.int (iI q)), some (.int (iI mo)), some (.int (iI m)), none, none, none] [] := by
    intro fu
    induction fu with
    | zero => intro t ρ m hn; exact absurd hn (Nat.not_lt_zero _)
    | succ fu ih_out =>
      intro t ρ m hn hx1 ht hr hm hT
      obtain ⟨hg, hp, hki, hro, hnw, hbh, hsa, hpd⟩ := id hx1
      obtain ⟨N, NI, NM, NV, hN⟩ := (hx1).now
      have hAw := hg.2.2.2.2.2.2
      have hG : GS S t ρ := hg.1
      obtain ⟨h1000, h1009, h1042, h1043, h1044, h1045, h1046, h1047, hms, hsi, hsm, hnm⟩ := id hro
      have eN := hN.2.2.2.2.2.2.2.2.2.2.2.2
      have kNV : (S NV).1 = 45 := by rw [hN.2.2.2.1.2]
      have nNV : (S NV).2.1 = 6 := by rw [hN.2.2.2.1.2]
      replace hsa := hsa hP0
      have hlA := lsR_scr hg0 (fr_w ht (by decide)) (fr_w hr (by decide)) (by rw [hlf.2.2.2.1]; decide) hsk.2
      refine g_iload hΓ rfl dX0_laysValued_3 ?_
      refine g_aload_n hΓ rfl dX0_laysValued_5 ?_
      refine x_callV (As := []) (rest := [.int (iI m)]) (c := 0) hE hΓ (x_X0_models hE hX S t ρ P σ  hx1  ) hp.1 ⟨by decide, rfl⟩ rfl rfl q841 q843 qs21 q123 q844 ndX0_models rfl (by decide) (by decide) (Nat.zero_le _) (Nat.zero_le _) rfl (Nat.le_of_ble_eq_true rfl) dX0_laysValued_6 rfl (fun v1 S1 τ1 ρ1 h1 => ?_)
      obtain ⟨rfl, S1e, τ1e, ρ1e⟩ := h1
      have S1e := S1e.symm; subst S1e
      have τ1e := τ1e.symm; subst τ1e
      have ρ1e := ρ1e.symm; subst ρ1e
      show gW Γ E (xM E S t ρ) _ _ _ _ (.int (iI (σ 0 1000)) :: _)
      refine g_icmp_ge (tgt := 148) hΓ (by omega) (by omega) dX0_laysValued_9 (by decide) (fun c2 => ?_) (fun c2 => ?_)
      · exact x_vret hΓ dX0_laysValued_148 (Nat.zero_le _) (Nat.zero_le _) ⟨rfl, ⟨hx1, by have h9 := hT; rw [show m = σ 0 1000 by omega] at h9; exact h9⟩, rfl, ht, hr⟩
      · refine g_aload_n hΓ rfl dX0_laysValued_12 ?_
        refine x_geta (r := some (rf R (lE R (P.2.1 31) k) 1)) (c := 9) hE hΓ in_X9 rfl hs9 ⟨by decide, rfl⟩ 1 (ji := 1) rfl (by decide) (by decide) rfl q1200 rfl rfl ((fr_at hr hs9 (by decide)).trans hsf.1) dX0_laysValued_13 ?_
        show gW Γ E (xM E S t ρ) 0 0 _ _ (.ref (rf R (lE R (P.2.1 31) k) 1) :: _)
        refine x_geta (r := some (rf R (rf R (lE R (P.2.1 31) k) 1) 1)) (c := 7) hE hΓ in_X7 rfl hsf.2 ⟨by decide, rfl⟩ 1 (ji := 1) rfl (by decide) (by decide) rfl q769 rfl rfl ((fr_at hr hsf.2 (by decide)).trans hlf.2.2.1) dX0_laysValued_16 ?_
        show gW Γ E (xM E S t ρ) 0 0 _ _ (.ref (rf R (rf R (lE R (P.2.1 31) k) 1) 1) :: _)
        refine g_astore hΓ dX0_laysValued_19 rfl (Nat.le_of_ble_eq_true rfl) (lv' := [some (.ref (P.1)), some (.ref (lE R (P.2.1 31) k)), some (.int (iI q)), some (.int (iI mo)), some (.int (iI m)), some (.ref (rf R (rf R (lE R (P.2.1 31) k) 1) 1)), none, none]) rfl ?_
        refine g_aload_n hΓ rfl dX0_laysValued_21 ?_
        refine g_iload hΓ rfl dX0_laysValued_22 ?_
        refine x_callV (As := [.int (iI m)]) (rest := []) (c := 0) hE hΓ (x_X0_strokesOf hE hX S t ρ P σ m hx1 (by first | assumption | omega) (by first | assumption | omega) ) hp.1 ⟨by decide, rfl⟩ rfl rfl q903 q905 qs24 q123 q906 ndX0_strokesOf rfl (by decide) (by decide) (Nat.zero_le _) (Nat.zero_le _) rfl (Nat.le_of_ble_eq_true rfl) dX0_laysValued_24 rfl (fun v3 S3 τ3 ρ3 h3 => ?_)
        obtain ⟨rfl, S3e, τ3e, ρ3e⟩ := h3
        have S3e := S3e.symm; subst S3e
        have τ3e := τ3e.symm; subst τ3e
        have ρ3e := ρ3e.symm; subst ρ3e
        show gW Γ E (xM E S t ρ) _ _ _ _ (.ref (lsA ρ (rf ρ P.1 4) m) :: _)
        refine g_astore hΓ dX0_laysValued_27 rfl (Nat.le_of_ble_eq_true rfl) (lv' := [some (.ref (P.1)), some (.ref (lE R (P.2.1 31) k)), some (.int (iI q)), some (.int (iI mo)), some (.int (iI m)), some (.ref (rf R (rf R (lE R (P.2.1 31) k) 1) 1)), some (.ref (lsA ρ (rf ρ P.1 4) m)), none]) rfl ?_
        have hlt4 := (hx1).letter (m := m) (by omega)
        obtain ⟨kl4, hkl4, hk34⟩ : ∃ k : Nat, (S (lsA ρ (rf ρ P.1 4) m)).1 = k ∧ (k = 10 ∨ k = 12 ∨ k = 13) := ⟨_, rfl, by have := hlt4.2.1; omega⟩
        have hkr4 : 10 ≤ kl4 ∧ kl4 ≤ 17 := by omega
        have hleB := hlt4.2.2.2
        have hmB0 := hleB.2.1
        have hmB8 := hleB.2.2.1
        obtain ⟨b9, eB⟩ : ∃ z9 : Nat, z9 = (lsA ρ (rf ρ P.1 4) m) := ⟨_, rfl⟩
        obtain ⟨kB, hkB, hk3B⟩ : ∃ z9 : Nat, (S b9).1 = z9 ∧ (z9 = 10 ∨ z9 = 12 ∨ z9 = 13) := ⟨kl4, by rw [eB]; exact hkl4, hk34⟩
        have hkBr : 10 ≤ kB ∧ kB ≤ 17 := by omega
        have hlB : lsR S t ρ b9 σ (fsS m) (mnS σ m) := by rw [eB]; exact hlt4.1
        rw [← eB]
        have inn : ∀ (fu : Nat) (t : xD) (ρ : xR) (v : Int), (mo + 1 - v).toNat < fu → (Rx E Z S t ρ P σ) → (fr S D t [8003, 42, 43, 44, 112, 115, 116, 117, 46, 47, 48, 49, 1022, 68, 69, 132]) → (fr S R ρ [1009, 1010]) → (0 ≤ v ∧ v ≤ mo + 1) → (lsR S t ρ b9 σ (fsS m) (mnS σ m)) → (q < 2 → cosT P t σ (40 + 8 * k) (σ 9 k) (fsS m) (mnS σ m) (σ 0 1043)) → (vtI P t σ k q mo m v) → gW Γ E (xM E S t ρ) 0 0 54 [some (.ref (P.1)), some (.ref (lE R (P.2.1 31) k)), some (.int (iI q)), some (.int (iI mo)), some (.int (iI m)), some (.ref (rf R (rf R (lE R (P.2.1 31) k) 1) 1)), some (.ref b9), some (.int (iI v))] [] := by
          intro fu
          induction fu with
          | zero => intro t ρ v hn; exact absurd hn (Nat.not_lt_zero _)
          | succ fu ih_inn =>
            intro t ρ v hn hx1 ht hr hv hlB hcs hT
            obtain ⟨hg, hp, hki, hro, hnw, hbh, hsa, hpd⟩ := id hx1
            obtain ⟨N, NI, NM, NV, hN⟩ := (hx1).now
            have hAw := hg.2.2.2.2.2.2
            have hG : GS S t ρ := hg.1
            obtain ⟨h1000, h1009, h1042, h1043, h1044, h1045, h1046, h1047, hms, hsi, hsm, hnm⟩ := id hro
            have eN := hN.2.2.2.2.2.2.2.2.2.2.2.2
            have kNV : (S NV).1 = 45 := by rw [hN.2.2.2.1.2]
            have nNV : (S NV).2.1 = 6 := by rw [hN.2.2.2.1.2]
            replace hsa := hsa hP0
            have hlA := lsR_scr hg0 (fr_w ht (by decide)) (fr_w hr (by decide)) (by rw [hlf.2.2.2.1]; decide) hsk.2
            refine g_iload hΓ rfl dX0_laysValued_54 ?_
            refine g_iload_n hΓ rfl dX0_laysValued_56 ?_
            refine g_icmp_gt (tgt := 142) hΓ (by omega) (by omega) dX0_laysValued_57 (by decide) (fun c5 => ?_) (fun c5 => ?_)
            · obtain ⟨x6, ex6⟩ : ∃ z9 : Int, z9 = m + 1 := ⟨_, rfl⟩
              refine g_iinc hΓ dX0_laysValued_142 rfl rfl (lv' := [some (.ref (P.1)), some (.ref (lE R (P.2.1 31) k)), some (.int (iI q)), some (.int (iI mo)), some (.int (iI x6)), some (.ref (rf R (rf R (lE R (P.2.1 31) k) 1) 1)), some (.ref b9), some (.int (iI v))]) (by rw [ex6]; rfl) ?_
              refine g_goto (tgt := 3) hΓ dX0_laysValued_145 (by decide) ?_
              refine g_lvw (lv' := [some (.ref (P.1)), some (.ref (lE R (P.2.1 31) k)), some (.int (iI q)), some (.int (iI mo)), some (.int (iI x6)), none, none, none]) ⟨rfl, ⟨rfl, ⟨rfl, ⟨rfl, ⟨rfl, trivial⟩⟩⟩⟩⟩ ?_
              exact ih_out t ρ x6 (by omega) hx1 ht hr (by omega) (by rw [show x6 = m + 1 by omega]; exact vtI_row hT (by omega))
            · refine g_iload_n hΓ rfl dX0_laysValued_60 ?_
              refine g_iconst hΓ dX0_laysValued_61 ?_
              refine g_icmp_ne (tgt := 75) hΓ (by omega) (by omega) dX0_laysValued_62 (by decide) (fun c7 => ?_) (fun c7 => ?_)
              · refine g_aload_n hΓ rfl dX0_laysValued_75 ?_
                refine x_geta (r := some (P.2.1 32)) (c := 0) hE hΓ in_X0 rfl hp.1 ⟨by decide, rfl⟩ 32 (ji := 32) rfl (by decide) (by decide) rfl q278 rfl rfl (pA_r hp 32 rfl rfl) dX0_laysValued_76 ?_
                show gW Γ E (xM E S t ρ) 0 0 _ _ (.ref (P.2.1 32) :: _)
                refine g_iload hΓ rfl dX0_laysValued_79 ?_
                refine x_aaldG (r := some (P.2.2 32 v)) hΓ (pA_k hp 32 rfl (n := 82) rfl) (pA_n hp 32 rfl (n := 41) rfl) ⟨by decide, rfl⟩ (by omega) (by omega) (pG_r hp 32 rfl (n := 41) rfl (i := v) (by omega)) dX0_laysValued_81 ?_
                show gW Γ E (xM E S t ρ) 0 0 _ _ (.ref (P.2.2 32 v) :: _)
                refine g_iload hΓ rfl dX0_laysValued_82 ?_
                refine g_aload_n hΓ rfl dX0_laysValued_84 ?_
                refine g_aload hΓ rfl dX0_laysValued_85 ?_
                refine x_callV (As := []) (rest := [.ref (P.1), .int (iI m), .ref (P.2.2 32 v)]) (c := 10) hE hΓ (x_J2_size hE hX S t ρ (rf R (rf R (lE R (P.2.1 31) k) 1) 1) 12 hlf.2.2.2.1 (by decide) ) hlf.2.2.2.1 ⟨by decide, rfl⟩ rfl rfl q845 q662 q663 q127 q664 ndJ2_size rfl (by decide) (by decide) (Nat.zero_le _) (Nat.zero_le _) rfl (Nat.le_of_ble_eq_true rfl) dX0_laysValued_87 rfl (fun v8 S8 τ8 ρ8 h8 => ?_)
                obtain ⟨rfl, S8e, τ8e, ρ8e⟩ := h8
                have S8e := S8e.symm; subst S8e
                have τ8e := τ8e.symm; subst τ8e
                have ρ8e := ρ8e.symm; subst ρ8e
                refine g_topi (hlA.1) ?_
                show gW Γ E (xM E S t ρ) _ _ _ _ (.int (iI (σ 9 k)) :: _)
                refine g_aload hΓ rfl dX0_laysValued_90 ?_
                refine x_callV (As := []) (rest := [.int (iI (σ 9 k)), .ref (P.1), .int (iI m), .ref (P.2.2 32 v)]) (c := 10) hE hΓ (x_J2_size hE hX S t ρ b9 kB hkB hkBr ) hkB (ks_10_17 hkBr) rfl rfl q845 q662 q663 q127 q664 ndJ2_size rfl (by decide) (by decide) (Nat.zero_le _) (Nat.zero_le _) rfl (Nat.le_of_ble_eq_true rfl) dX0_laysValued_92 rfl (fun v9 S9 τ9 ρ9 h9 => ?_)
                obtain ⟨rfl, S9e, τ9e, ρ9e⟩ := h9
                have S9e := S9e.symm; subst S9e
                have τ9e := τ9e.symm; subst τ9e
                have ρ9e := ρ9e.symm; subst ρ9e
                refine g_topi (hlB.1) ?_
                show gW Γ E (xM E S t ρ) _ _ _ _ (.int (iI (mnS σ m)) :: _)
                refine g_iload_n hΓ rfl dX0_laysValued_95 ?_
                refine g_if_ne (tgt := 104) hΓ (by omega) dX0_laysValued_96 (by decide) (fun c10 => ?_) (fun c10 => ?_)
                · refine g_aload_n hΓ rfl dX0_laysValued_104 ?_
                  refine x_geta (r := some N) (c := 0) hE hΓ in_X0 rfl hp.1 ⟨by decide, rfl⟩ 4 (ji := 4) rfl (by decide) (by decide) rfl q250 rfl rfl hN.1.1 dX0_laysValued_105 ?_
                  show gW Γ E (xM E S t ρ) 0 0 _ _ (.ref N :: _)
                  refine x_geta (r := some NV) (c := 1) hE hΓ in_X1 rfl hN.1.2 ⟨by decide, rfl⟩ 2 (ji := 2) rfl (by decide) (by decide) rfl q203 rfl rfl hN.2.2.2.1.1 dX0_laysValued_108 ?_
                  show gW Γ E (xM E S t ρ) 0 0 _ _ (.ref NV :: _)
                  refine g_iconst hΓ dX0_laysValued_111 ?_
                  refine x_iald hΓ kNV nNV ⟨by decide, rfl⟩ (by omega) (by omega) dX0_laysValued_112 ?_
                  refine g_topi (hN.2.2.2.2.2.2.2.2.1) ?_
                  refine g_iload_n hΓ rfl dX0_laysValued_113 ?_
                  refine g_iconst hΓ dX0_laysValued_114 ?_
                  refine g_icmp_ne (tgt := 123) hΓ (by omega) (by omega) dX0_laysValued_115 (by decide) (fun c11 => ?_) (fun c11 => ?_)
                  · refine g_aload_n hΓ rfl dX0_laysValued_123 ?_
                    refine x_geta (r := some N) (c := 0) hE hΓ in_X0 rfl hp.1 ⟨by decide, rfl⟩ 4 (ji := 4) rfl (by decide) (by decide) rfl q250 rfl rfl hN.1.1 dX0_laysValued_124 ?_
                    show gW Γ E (xM E S t ρ) 0 0 _ _ (.ref N :: _)
                    refine x_geta (r := some NV) (c := 1) hE hΓ in_X1 rfl hN.1.2 ⟨by decide, rfl⟩ 2 (ji := 2) rfl (by decide) (by decide) rfl q203 rfl rfl hN.2.2.2.1.1 dX0_laysValued_127 ?_
                    show gW Γ E (xM E S t ρ) 0 0 _ _ (.ref NV :: _)
                    refine g_iconst hΓ dX0_laysValued_130 ?_
                    refine x_iald hΓ kNV nNV ⟨by decide, rfl⟩ (by omega) (by omega) dX0_laysValued_131 ?_
                    refine g_topi (hN.2.2.2.2.2.2.2.2.2.1) ?_
                    refine x_callV (As := [.int (iI (σ 9 k)), .int (iI (mnS σ m)), .int (iI (σ 0 1044)), .int (iI (σ 0 1045))]) (rest := [.int (iI m), .ref (P.2.2 32 v)]) (c := 0) hE hΓ (x_X0_scoreBy hE hX S t ρ P σ (σ 9 k) (mnS σ m) (σ 0 1044) (σ 0 1045) (σ 0 1043) (40 + 8 * k) (fsS m) hx1 hleA hleB (by omega) (by omega) (by omega) (hcs (by omega)) ) hp.1 ⟨by decide, rfl⟩ rfl rfl q1047 q1049 qs35 q123 q1050 ndX0_scoreBy rfl (by decide) (by decide) (Nat.zero_le _) (Nat.zero_le _) rfl (Nat.le_of_ble_eq_true rfl) dX0_laysValued_132 rfl (fun v12 S12 τ12 ρ12 h12 => ?_)
                    obtain ⟨rfl, h12, S12e, τ12f, ρ12e⟩ := h12
                    have S12e := S12e.symm; subst S12e
                    have ρ12e := ρ12e.symm; subst ρ12e
                    show gW Γ E (xM E S τ12 ρ) _ _ _ _ (.int (iI (scr σ (40 + 8 * k) (σ 9 k) (fsS m) (mnS σ m) (σ 0 1043) (σ 0 1044) (σ 0 1045))) :: _)
                    refine g_topi (show (scr σ (40 + 8 * k) (σ 9 k) (fsS m) (mnS σ m) (σ 0 1043) (σ 0 1044) (σ 0 1045) : Int) = vlS σ k q m v by rw [vlS, show (if q = 2 then v else σ 0 1043) = (σ 0 1043) by first | (rw [if_pos (by omega)]; done) | (rw [if_neg (by omega)]; done), show (if q = 0 then v else σ 0 1044) = (σ 0 1044) by first | (rw [if_pos (by omega)]; done) | (rw [if_neg (by omega)]; done), show (if q = 1 then v else σ 0 1045) = (σ 0 1045) by first | (rw [if_pos (by omega)]; done) | (rw [if_neg (by omega)]; done)]) ?_
                    refine x_iast hΓ (pG_k hp 32 rfl (n := 41) rfl (i := v) (by omega) (m := 132) rfl) (pG_n hp 32 rfl (n := 41) rfl (i := v) (by omega) (m := 8) rfl) ⟨by decide, rfl⟩ (hAw _ (by rw [(pG_k hp 32 rfl (n := 41) rfl (i := v) (by omega) (m := 132) rfl)]; rfl)) (by omega) (by omega) dX0_laysValued_135 (fun τ13 τ13e => ?_)
                    have τ13r : τ13 (P.2.2 32 v) m = vlS σ k q m v := by rw [τ13e]; exact us_s _ _ _ _
                    have τ13f : ∀ (q9 : Nat) (j9 : Int), (q9 ≠ (P.2.2 32 v) ∨ j9 ≠ m) → τ13 q9 j9 = τ12 q9 j9 := fun q9 j9 hh => by rw [τ13e]; exact us_n hh
                    obtain ⟨x14, ex14⟩ : ∃ z9 : Int, z9 = v + 1 := ⟨_, rfl⟩
                    refine g_iinc hΓ dX0_laysValued_136 rfl rfl (lv' := [some (.ref (P.1)), some (.ref (lE R (P.2.1 31) k)), some (.int (iI q)), some (.int (iI mo)), some (.int (iI m)), some (.ref (rf R (rf R (lE R (P.2.1 31) k) 1) 1)), some (.ref b9), some (.int (iI x14))]) (by rw [ex14]; rfl) ?_
                    refine g_goto (tgt := 54) hΓ dX0_laysValued_139 (by decide) ?_
                    have hfD15 : fr S τ12 τ13 [132] := (fun q9 j9 hk9 => by exact (τ13f q9 j9 (Or.inl (fun e9 => hk9 (by rw [e9, (pG_k hp 32 rfl (n := 41) rfl (i := v) (by omega) (m := 132) rfl), mdN _ (by decide)]; decide)))))
                    have hxs15 : Rx E Z S τ13 ρ P σ := Rx_scr h12.1 (fr_w hfD15 (by decide)) fr_rfl (GS_fr (h12.1).1.1 hfD15 fr_rfl (m' := []) (by decide) (by decide))
                    have hFD : fr S t τ13 [8003, 42, 43, 44, 112, 115, 116, 117, 46, 47, 48, 49, 1022, 68, 69, 132] := (fun q9 j9 hk9 => by exact ((τ13f q9 j9 (Or.inl (fun e9 => hk9 (by rw [e9, (pG_k hp 32 rfl (n := 41) rfl (i := v) (by omega) (m := 132) rfl), mdN _ (by decide)]; decide)))).trans (τ12f q9 j9 (fun e9 => hk9 ((show ∀ x ∈ [1022, 68, 69], x ∈ [8003, 42, 43, 44, 112, 115, 116, 117, 46, 47, 48, 49, 1022, 68, 69, 132] by decide) _ e9)))))
                    have hFR : fr S ρ ρ [1009, 1010] := fr_rfl
                    exact ih_inn τ13 ρ x14 (by omega) hxs15 (fr_t ht hFD) (fr_t hr hFR) (by omega) (lsR_scr hg (fr_w hFD (by decide)) (fr_w hFR (by decide)) (by rw [hkB]; omega) hlB) (fun _ => cosT_fr hp (by omega) h12.2.1 (fun q9 k9 h9 => hfD15 q9 k9 (by rcases h9 with h9 | h9 | h9 <;> rw [h9, mdN _ (by decide)] <;> decide))) (by rw [show x14 = v + 1 by omega]; exact vtI_step hp (by omega) (by omega) hT (fun q9 j9 h9 n9 => ((τ13f q9 j9 n9).trans (τ12f q9 j9 (by rw [h9, mdN _ (by decide)]; decide)))) (τ13r))
                  · refine g_iload hΓ rfl dX0_laysValued_118 ?_
                    refine g_goto (tgt := 132) hΓ dX0_laysValued_120 (by decide) ?_
                    refine x_callV (As := [.int (iI (σ 9 k)), .int (iI (mnS σ m)), .int (iI (σ 0 1044)), .int (iI v)]) (rest := [.int (iI m), .ref (P.2.2 32 v)]) (c := 0) hE hΓ (x_X0_scoreBy hE hX S t ρ P σ (σ 9 k) (mnS σ m) (σ 0 1044) v (σ 0 1043) (40 + 8 * k) (fsS m) hx1 hleA hleB (by omega) (by omega) (by omega) (hcs (by omega)) ) hp.1 ⟨by decide, rfl⟩ rfl rfl q1047 q1049 qs35 q123 q1050 ndX0_scoreBy rfl (by decide) (by decide) (Nat.zero_le _) (Nat.zero_le _) rfl (Nat.le_of_ble_eq_true rfl) dX0_laysValued_132 rfl (fun v16 S16 τ16 ρ16 h16 => ?_)
                    obtain ⟨rfl, h16, S16e, τ16f, ρ16e⟩ := h16
                    have S16e := S16e.symm; subst S16e
                    have ρ16e := ρ16e.symm; subst ρ16e
                    show gW Γ E (xM E S τ16 ρ) _ _ _ _ (.int (iI (scr σ (40 + 8 * k) (σ 9 k) (fsS m) (mnS σ m) (σ 0 1043) (σ 0 1044) v)) :: _)
                    refine g_topi (show (scr σ (40 + 8 * k) (σ 9 k) (fsS m) (mnS σ m) (σ 0 1043) (σ 0 1044) v : Int) = vlS σ k q m v by rw [vlS, show (if q = 2 then v else σ 0 1043) = (σ 0 1043) by first | (rw [if_pos (by omega)]; done) | (rw [if_neg (by omega)]; done), show (if q = 0 then v else σ 0 1044) = (σ 0 1044) by first | (rw [if_pos (by omega)]; done) | (rw [if_neg (by omega)]; done), show (if q = 1 then v else σ 0 1045) = v by first | (rw [if_pos (by omega)]; done) | (rw [if_neg (by omega)]; done)]) ?_
                    refine x_iast hΓ (pG_k hp 32 rfl (n := 41) rfl (i := v) (by omega) (m := 132) rfl) (pG_n hp 32 rfl (n := 41) rfl (i := v) (by omega) (m := 8) rfl) ⟨by decide, rfl⟩ (hAw _ (by rw [(pG_k hp 32 rfl (n := 41) rfl (i := v) (by omega) (m := 132) rfl)]; rfl)) (by omega) (by omega) dX0_laysValued_135 (fun τ17 τ17e => ?_)
                    have τ17r : τ17 (P.2.2 32 v) m = vlS σ k q m v := by rw [τ17e]; exact us_s _ _ _ _
                    have τ17f : ∀ (q9 : Nat) (j9 : Int), (q9 ≠ (P.2.2 32 v) ∨ j9 ≠ m) → τ17 q9 j9 = τ16 q9 j9 := fun q9 j9 hh => by rw [τ17e]; exact us_n hh
                    obtain ⟨x18, ex18⟩ : ∃ z9 : Int, z9 = v + 1 := ⟨_, rfl⟩
                    refine g_iinc hΓ dX0_laysValued_136 rfl rfl (lv' := [some (.ref (P.1)), some (.ref (lE R (P.2.1 31) k)), some (.int (iI q)), some (.int (iI mo)), some (.int (iI m)), some (.ref (rf R (rf R (lE R (P.2.1 31) k) 1) 1)), some (.ref b9), some (.int (iI x18))]) (by rw [ex18]; rfl) ?_
                    refine g_goto (tgt := 54) hΓ dX0_laysValued_139 (by decide) ?_
                    have hfD19 : fr S τ16 τ17 [132] := (fun q9 j9 hk9 => by exact (τ17f q9 j9 (Or.inl (fun e9 => hk9 (by rw [e9, (pG_k hp 32 rfl (n := 41) rfl (i := v) (by omega) (m := 132) rfl), mdN _ (by decide)]; decide)))))
                    have hxs19 : Rx E Z S τ17 ρ P σ := Rx_scr h16.1 (fr_w hfD19 (by decide)) fr_rfl (GS_fr (h16.1).1.1 hfD19 fr_rfl (m' := []) (by decide) (by decide))
                    have hFD : fr S t τ17 [8003, 42, 43, 44, 112, 115, 116, 117, 46, 47, 48, 49, 1022, 68, 69, 132] := (fun q9 j9 hk9 => by exact ((τ17f q9 j9 (Or.inl (fun e9 => hk9 (by rw [e9, (pG_k hp 32 rfl (n := 41) rfl (i := v) (by omega) (m := 132) rfl), mdN _ (by decide)]; decide)))).trans (τ16f q9 j9 (fun e9 => hk9 ((show ∀ x ∈ [1022, 68, 69], x ∈ [8003, 42, 43, 44, 112, 115, 116, 117, 46, 47, 48, 49, 1022, 68, 69, 132] by decide) _ e9)))))
                    have hFR : fr S ρ ρ [1009, 1010] := fr_rfl
                    exact ih_inn τ17 ρ x18 (by omega) hxs19 (fr_t ht hFD) (fr_t hr hFR) (by omega) (lsR_scr hg (fr_w hFD (by decide)) (fr_w hFR (by decide)) (by rw [hkB]; omega) hlB) (fun _ => cosT_fr hp (by omega) h16.2.1 (fun q9 k9 h9 => hfD19 q9 k9 (by rcases h9 with h9 | h9 | h9 <;> rw [h9, mdN _ (by decide)] <;> decide))) (by rw [show x18 = v + 1 by omega]; exact vtI_step hp (by omega) (by omega) hT (fun q9 j9 h9 n9 => ((τ17f q9 j9 n9).trans (τ16f q9 j9 (by rw [h9, mdN _ (by decide)]; decide)))) (τ17r))
                · refine g_iload hΓ rfl dX0_laysValued_99 ?_
                  refine g_goto (tgt := 113) hΓ dX0_laysValued_101 (by decide) ?_
                  refine g_iload_n hΓ rfl dX0_laysValued_113 ?_
                  refine g_iconst hΓ dX0_laysValued_114 ?_
                  refine g_icmp_ne (tgt := 123) hΓ (by omega) (by omega) dX0_laysValued_115 (by decide) (fun c20 => ?_) (fun c20 => ?_)
                  · refine g_aload_n hΓ rfl dX0_laysValued_123 ?_
                    refine x_geta (r := some N) (c := 0) hE hΓ in_X0 rfl hp.1 ⟨by decide, rfl⟩ 4 (ji := 4) rfl (by decide) (by decide) rfl q250 rfl rfl hN.1.1 dX0_laysValued_124 ?_
                    show gW Γ E (xM E S t ρ) 0 0 _ _ (.ref N :: _)
                    refine x_geta (r := some NV) (c := 1) hE hΓ in_X1 rfl hN.1.2 ⟨by decide, rfl⟩ 2 (ji := 2) rfl (by decide) (by decide) rfl q203 rfl rfl hN.2.2.2.1.1 dX0_laysValued_127 ?_
                    show gW Γ E (xM E S t ρ) 0 0 _ _ (.ref NV :: _)
                    refine g_iconst hΓ dX0_laysValued_130 ?_
                    refine x_iald hΓ kNV nNV ⟨by decide, rfl⟩ (by omega) (by omega) dX0_laysValued_131 ?_
                    refine g_topi (hN.2.2.2.2.2.2.2.2.2.1) ?_
                    refine x_callV (As := [.int (iI (σ 9 k)), .int (iI (mnS σ m)), .int (iI v), .int (iI (σ 0 1045))]) (rest := [.int (iI m), .ref (P.2.2 32 v)]) (c := 0) hE hΓ (x_X0_scoreBy hE hX S t ρ P σ (σ 9 k) (mnS σ m) v (σ 0 1045) (σ 0 1043) (40 + 8 * k) (fsS m) hx1 hleA hleB (by omega) (by omega) (by omega) (hcs (by omega)) ) hp.1 ⟨by decide, rfl⟩ rfl rfl q1047 q1049 qs35 q123 q1050 ndX0_scoreBy rfl (by decide) (by decide) (Nat.zero_le _) (Nat.zero_le _) rfl (Nat.le_of_ble_eq_true rfl) dX0_laysValued_132 rfl (fun v21 S21 τ21 ρ21 h21 => ?_)
                    obtain ⟨rfl, h21, S21e, τ21f, ρ21e⟩ := h21
                    have S21e := S21e.symm; subst S21e
                    have ρ21e := ρ21e.symm; subst ρ21e
                    show gW Γ E (xM E S τ21 ρ) _ _ _ _ (.int (iI (scr σ (40 + 8 * k) (σ 9 k) (fsS m) (mnS σ m) (σ 0 1043) v (σ 0 1045))) :: _)
                    refine g_topi (show (scr σ (40 + 8 * k) (σ 9 k) (fsS m) (mnS σ m) (σ 0 1043) v (σ 0 1045) : Int) = vlS σ k q m v by rw [vlS, show (if q = 2 then v else σ 0 1043) = (σ 0 1043) by first | (rw [if_pos (by omega)]; done) | (rw [if_neg (by omega)]; done), show (if q = 0 then v else σ 0 1044) = v by first | (rw [if_pos (by omega)]; done) | (rw [if_neg (by omega)]; done), show (if q = 1 then v else σ 0 1045) = (σ 0 1045) by first | (rw [if_pos (by omega)]; done) | (rw [if_neg (by omega)]; done)]) ?_
                    refine x_iast hΓ (pG_k hp 32 rfl (n := 41) rfl (i := v) (by omega) (m := 132) rfl) (pG_n hp 32 rfl (n := 41) rfl (i := v) (by omega) (m := 8) rfl) ⟨by decide, rfl⟩ (hAw _ (by rw [(pG_k hp 32 rfl (n := 41) rfl (i := v) (by omega) (m := 132) rfl)]; rfl)) (by omega) (by omega) dX0_laysValued_135 (fun τ22 τ22e => ?_)
                    have τ22r : τ22 (P.2.2 32 v) m = vlS σ k q m v := by rw [τ22e]; exact us_s _ _ _ _
                    have τ22f : ∀ (q9 : Nat) (j9 : Int), (q9 ≠ (P.2.2 32 v) ∨ j9 ≠ m) → τ22 q9 j9 = τ21 q9 j9 := fun q9 j9 hh => by rw [τ22e]; exact us_n hh
                    obtain ⟨x23, ex23⟩ : ∃ z9 : Int, z9 = v + 1 := ⟨_, rfl⟩
                    refine g_iinc hΓ dX0_laysValued_136 rfl rfl (lv' := [some (.ref (P.1)), some (.ref (lE R (P.2.1 31) k)), some (.int (iI q)), some (.int (iI mo)), some (.int (iI m)), some (.ref (rf R (rf R (lE R (P.2.1 31) k) 1) 1)), some (.ref b9), some (.int (iI x23))]) (by rw [ex23]; rfl) ?_
                    refine g_goto (tgt := 54) hΓ dX0_laysValued_139 (by decide) ?_
                    have hfD24 : fr S τ21 τ22 [132] := (fun q9 j9 hk9 => by exact (τ22f q9 j9 (Or.inl (fun e9 => hk9 (by rw [e9, (pG_k hp 32 rfl (n := 41) rfl (i := v) (by omega) (m := 132) rfl), mdN _ (by decide)]; decide)))))
                    have hxs24 : Rx E Z S τ22 ρ P σ := Rx_scr h21.1 (fr_w hfD24 (by decide)) fr_rfl (GS_fr (h21.1).1.1 hfD24 fr_rfl (m' := []) (by decide) (by decide))
                    have hFD : fr S t τ22 [8003, 42, 43, 44, 112, 115, 116, 117, 46, 47, 48, 49, 1022, 68, 69, 132] := (fun q9 j9 hk9 => by exact ((τ22f q9 j9 (Or.inl (fun e9 => hk9 (by rw [e9, (pG_k hp 32 rfl (n := 41) rfl (i := v) (by omega) (m := 132) rfl), mdN _ (by decide)]; decide)))).trans (τ21f q9 j9 (fun e9 => hk9 ((show ∀ x ∈ [1022, 68, 69], x ∈ [8003, 42, 43, 44, 112, 115, 116, 117, 46, 47, 48, 49, 1022, 68, 69, 132] by decide) _ e9)))))
                    have hFR : fr S ρ ρ [1009, 1010] := fr_rfl
                    exact ih_inn τ22 ρ x23 (by omega) hxs24 (fr_t ht hFD) (fr_t hr hFR) (by omega) (lsR_scr hg (fr_w hFD (by decide)) (fr_w hFR (by decide)) (by rw [hkB]; omega) hlB) (fun _ => cosT_fr hp (by omega) h21.2.1 (fun q9 k9 h9 => hfD24 q9 k9 (by rcases h9 with h9 | h9 | h9 <;> rw [h9, mdN _ (by decide)] <;> decide))) (by rw [show x23 = v + 1 by omega]; exact vtI_step hp (by omega) (by omega) hT (fun q9 j9 h9 n9 => ((τ22f q9 j9 n9).trans (τ21f q9 j9 (by rw [h9, mdN _ (by decide)]; decide)))) (τ22r))
                  · refine g_iload hΓ rfl dX0_laysValued_118 ?_
                    refine g_goto (tgt := 132) hΓ dX0_laysValued_120 (by decide) ?_
                    refine x_callV (As := [.int (iI (σ 9 k)), .int (iI (mnS σ m)), .int (iI v), .int (iI v)]) (rest := [.int (iI m), .ref (P.2.2 32 v)]) (c := 0) hE hΓ (x_X0_scoreBy hE hX S t ρ P σ (σ 9 k) (mnS σ m) v v (σ 0 1043) (40 + 8 * k) (fsS m) hx1 hleA hleB (by omega) (by omega) (by omega) (hcs (by omega)) ) hp.1 ⟨by decide, rfl⟩ rfl rfl q1047 q1049 qs35 q123 q1050 ndX0_scoreBy rfl (by decide) (by decide) (Nat.zero_le _) (Nat.zero_le _) rfl (Nat.le_of_ble_eq_true rfl) dX0_laysValued_132 rfl (fun v25 S25 τ25 ρ25 h25 => ?_)
                    obtain ⟨rfl, h25, S25e, τ25f, ρ25e⟩ := h25
                    have S25e := S25e.symm; subst S25e
                    have ρ25e := ρ25e.symm; subst ρ25e
                    show gW Γ E (xM E S τ25 ρ) _ _ _ _ (.int (iI (scr σ (40 + 8 * k) (σ 9 k) (fsS m) (mnS σ m) (σ 0 1043) v v)) :: _)
                    refine g_topi (show (scr σ (40 + 8 * k) (σ 9 k) (fsS m) (mnS σ m) (σ 0 1043) v v : Int) = vlS σ k q m v by rw [vlS, show (if q = 2 then v else σ 0 1043) = (σ 0 1043) by first | (rw [if_pos (by omega)]; done) | (rw [if_neg (by omega)]; done), show (if q = 0 then v else σ 0 1044) = v by first | (rw [if_pos (by omega)]; done) | (rw [if_neg (by omega)]; done), show (if q = 1 then v else σ 0 1045) = v by first | (rw [if_pos (by omega)]; done) | (rw [if_neg (by omega)]; done)]) ?_
                    refine x_iast hΓ (pG_k hp 32 rfl (n := 41) rfl (i := v) (by omega) (m := 132) rfl) (pG_n hp 32 rfl (n := 41) rfl (i := v) (by omega) (m := 8) rfl) ⟨by decide, rfl⟩ (hAw _ (by rw [(pG_k hp 32 rfl (n := 41) rfl (i := v) (by omega) (m := 132) rfl)]; rfl)) (by omega) (by omega) dX0_laysValued_135 (fun τ26 τ26e => ?_)
                    have τ26r : τ26 (P.2.2 32 v) m = vlS σ k q m v := by rw [τ26e]; exact us_s _ _ _ _
                    have τ26f : ∀ (q9 : Nat) (j9 : Int), (q9 ≠ (P.2.2 32 v) ∨ j9 ≠ m) → τ26 q9 j9 = τ25 q9 j9 := fun q9 j9 hh => by rw [τ26e]; exact us_n hh
                    obtain ⟨x27, ex27⟩ : ∃ z9 : Int, z9 = v + 1 := ⟨_, rfl⟩
                    refine g_iinc hΓ dX0_laysValued_136 rfl rfl (lv' := [some (.ref (P.1)), some (.ref (lE R (P.2.1 31) k)), some (.int (iI q)), some (.int (iI mo)), some (.int (iI m)), some (.ref (rf R (rf R (lE R (P.2.1 31) k) 1) 1)), some (.ref b9), some (.int (iI x27))]) (by rw [ex27]; rfl) ?_
                    refine g_goto (tgt := 54) hΓ dX0_laysValued_139 (by decide) ?_
                    have hfD28 : fr S τ25 τ26 [132] := (fun q9 j9 hk9 => by exact (τ26f q9 j9 (Or.inl (fun e9 => hk9 (by rw [e9, (pG_k hp 32 rfl (n := 41) rfl (i := v) (by omega) (m := 132) rfl), mdN _ (by decide)]; decide)))))
                    have hxs28 : Rx E Z S τ26 ρ P σ := Rx_scr h25.1 (fr_w hfD28 (by decide)) fr_rfl (GS_fr (h25.1).1.1 hfD28 fr_rfl (m' := []) (by decide) (by decide))
                    have hFD : fr S t τ26 [8003, 42, 43, 44, 112, 115, 116, 117, 46, 47, 48, 49, 1022, 68, 69, 132] := (fun q9 j9 hk9 => by exact ((τ26f q9 j9 (Or.inl (fun e9 => hk9 (by rw [e9, (pG_k hp 32 rfl (n := 41) rfl (i := v) (by omega) (m := 132) rfl), mdN _ (by decide)]; decide)))).trans (τ25f q9 j9 (fun e9 => hk9 ((show ∀ x ∈ [1022, 68, 69], x ∈ [8003, 42, 43, 44, 112, 115, 116, 117, 46, 47, 48, 49, 1022, 68, 69, 132] by decide) _ e9)))))
                    have hFR : fr S ρ ρ [1009, 1010] := fr_rfl
                    exact ih_inn τ26 ρ x27 (by omega) hxs28 (fr_t ht hFD) (fr_t hr hFR) (by omega) (lsR_scr hg (fr_w hFD (by decide)) (fr_w hFR (by decide)) (by rw [hkB]; omega) hlB) (fun _ => cosT_fr hp (by omega) h25.2.1 (fun q9 k9 h9 => hfD28 q9 k9 (by rcases h9 with h9 | h9 | h9 <;> rw [h9, mdN _ (by decide)] <;> decide))) (by rw [show x27 = v + 1 by omega]; exact vtI_step hp (by omega) (by omega) hT (fun q9 j9 h9 n9 => ((τ26f q9 j9 n9).trans (τ25f q9 j9 (by rw [h9, mdN _ (by decide)]; decide)))) (τ26r))
              · refine g_aload_n hΓ rfl dX0_laysValued_65 ?_
                refine g_aload hΓ rfl dX0_laysValued_66 ?_
                refine g_aload hΓ rfl dX0_laysValued_68 ?_
                refine g_iload hΓ rfl dX0_laysValued_70 ?_
                refine x_callV (As := [.ref (rf R (rf R (lE R (P.2.1 31) k) 1) 1), .ref b9, .int (iI v)]) (rest := []) (c := 0) hE hΓ (x_X0_laysCosts hE hX hL S t ρ P σ (rf R (rf R (lE R (P.2.1 31) k) 1) 1) b9 12 kB v (40 + 8 * k) (σ 9 k) (fsS m) (mnS σ m) hx1 hlf.2.2.2.1 (by decide) hlA hleA hkB hk3B hlB hleB (by omega) ) hp.1 ⟨by decide, rfl⟩ rfl rfl q1043 q1045 qs34 q123 q1046 ndX0_laysCosts rfl (by decide) (by decide) (Nat.zero_le _) (Nat.zero_le _) rfl (Nat.le_of_ble_eq_true rfl) dX0_laysValued_72 rfl (fun v29 S29 τ29 ρ29 h29 => ?_)
                obtain ⟨rfl, h29, S29e, τ29f, ρ29f⟩ := h29
                have S29e := S29e.symm; subst S29e
                refine g_aload_n hΓ rfl dX0_laysValued_75 ?_
                refine x_geta (r := some (P.2.1 32)) (c := 0) hE hΓ in_X0 rfl hp.1 ⟨by decide, rfl⟩ 32 (ji := 32) rfl (by decide) (by decide) rfl q278 rfl rfl ((ρ29f (P.1) 32 (by rw [hp.1]; decide)).trans (pA_r hp 32 rfl rfl)) dX0_laysValued_76 ?_
                show gW Γ E (xM E S τ29 ρ29) 0 0 _ _ (.ref (P.2.1 32) :: _)
                refine g_iload hΓ rfl dX0_laysValued_79 ?_
                refine x_aaldG (r := some (P.2.2 32 v)) hΓ (pA_k hp 32 rfl (n := 82) rfl) (pA_n hp 32 rfl (n := 41) rfl) ⟨by decide, rfl⟩ (by omega) (by omega) ((ρ29f (P.2.1 32) v (by rw [(pA_k hp 32 rfl (n := 82) rfl), mdN _ (by decide)]; decide)).trans (pG_r hp 32 rfl (n := 41) rfl (i := v) (by omega))) dX0_laysValued_81 ?_
                show gW Γ E (xM E S τ29 ρ29) 0 0 _ _ (.ref (P.2.2 32 v) :: _)
                refine g_iload hΓ rfl dX0_laysValued_82 ?_
                refine g_aload_n hΓ rfl dX0_laysValued_84 ?_
                refine g_aload hΓ rfl dX0_laysValued_85 ?_
                refine x_callV (As := []) (rest := [.ref (P.1), .int (iI m), .ref (P.2.2 32 v)]) (c := 10) hE hΓ (x_J2_size hE hX S τ29 ρ29 (rf R (rf R (lE R (P.2.1 31) k) 1) 1) 12 hlf.2.2.2.1 (by decide) ) hlf.2.2.2.1 ⟨by decide, rfl⟩ rfl rfl q845 q662 q663 q127 q664 ndJ2_size rfl (by decide) (by decide) (Nat.zero_le _) (Nat.zero_le _) rfl (Nat.le_of_ble_eq_true rfl) dX0_laysValued_87 rfl (fun v30 S30 τ30 ρ30 h30 => ?_)
                obtain ⟨rfl, S30e, τ30e, ρ30e⟩ := h30
                have S30e := S30e.symm; subst S30e
                have τ30e := τ30e.symm; subst τ30e
                have ρ30e := ρ30e.symm; subst ρ30e
                refine g_topi (((τ29f (rf R (rf R (lE R (P.2.1 31) k) 1) 1) 2 (by rw [hlf.2.2.2.1, mdN _ (by decide)]; decide)).trans hlA.1)) ?_
                show gW Γ E (xM E S τ29 ρ29) _ _ _ _ (.int (iI (σ 9 k)) :: _)
                refine g_aload hΓ rfl dX0_laysValued_90 ?_
                refine x_callV (As := []) (rest := [.int (iI (σ 9 k)), .ref (P.1), .int (iI m), .ref (P.2.2 32 v)]) (c := 10) hE hΓ (x_J2_size hE hX S τ29 ρ29 b9 kB hkB hkBr ) hkB (ks_10_17 hkBr) rfl rfl q845 q662 q663 q127 q664 ndJ2_size rfl (by decide) (by decide) (Nat.zero_le _) (Nat.zero_le _) rfl (Nat.le_of_ble_eq_true rfl) dX0_laysValued_92 rfl (fun v31 S31 τ31 ρ31 h31 => ?_)
                obtain ⟨rfl, S31e, τ31e, ρ31e⟩ := h31
                have S31e := S31e.symm; subst S31e
                have τ31e := τ31e.symm; subst τ31e
                have ρ31e := ρ31e.symm; subst ρ31e
                refine g_topi (((τ29f b9 2 (by rw [hkB, mdN _ (by omega)]; intro h9; simp at h9; omega)).trans hlB.1)) ?_
                show gW Γ E (xM E S τ29 ρ29) _ _ _ _ (.int (iI (mnS σ m)) :: _)
                refine g_iload_n hΓ rfl dX0_laysValued_95 ?_
                refine g_if_ne (tgt := 104) hΓ (by omega) dX0_laysValued_96 (by decide) (fun c32 => ?_) (fun c32 => ?_)
                · refine g_aload_n hΓ rfl dX0_laysValued_104 ?_
                  refine x_geta (r := some N) (c := 0) hE hΓ in_X0 rfl hp.1 ⟨by decide, rfl⟩ 4 (ji := 4) rfl (by decide) (by decide) rfl q250 rfl rfl ((ρ29f (P.1) 4 (by rw [hp.1]; decide)).trans hN.1.1) dX0_laysValued_105 ?_
                  show gW Γ E (xM E S τ29 ρ29) 0 0 _ _ (.ref N :: _)
                  refine x_geta (r := some NV) (c := 1) hE hΓ in_X1 rfl hN.1.2 ⟨by decide, rfl⟩ 2 (ji := 2) rfl (by decide) (by decide) rfl q203 rfl rfl ((ρ29f N 2 (by rw [hN.1.2]; decide)).trans hN.2.2.2.1.1) dX0_laysValued_108 ?_
                  show gW Γ E (xM E S τ29 ρ29) 0 0 _ _ (.ref NV :: _)
                  refine g_iconst hΓ dX0_laysValued_111 ?_
                  refine x_iald hΓ kNV nNV ⟨by decide, rfl⟩ (by omega) (by omega) dX0_laysValued_112 ?_
                  refine g_topi (((τ29f NV 2 (by rw [kNV, mdN _ (by decide)]; decide)).trans hN.2.2.2.2.2.2.2.2.1)) ?_
                  refine g_iload_n hΓ rfl dX0_laysValued_113 ?_
                  refine g_iconst hΓ dX0_laysValued_114 ?_
                  refine g_icmp_ne (tgt := 123) hΓ (by omega) (by omega) dX0_laysValued_115 (by decide) (fun c33 => ?_) (fun c33 => ?_)
                  · refine g_aload_n hΓ rfl dX0_laysValued_123 ?_
                    refine x_geta (r := some N) (c := 0) hE hΓ in_X0 rfl hp.1 ⟨by decide, rfl⟩ 4 (ji := 4) rfl (by decide) (by decide) rfl q250 rfl rfl ((ρ29f (P.1) 4 (by rw [hp.1]; decide)).trans hN.1.1) dX0_laysValued_124 ?_
                    show gW Γ E (xM E S τ29 ρ29) 0 0 _ _ (.ref N :: _)
                    refine x_geta (r := some NV) (c := 1) hE hΓ in_X1 rfl hN.1.2 ⟨by decide, rfl⟩ 2 (ji := 2) rfl (by decide) (by decide) rfl q203 rfl rfl ((ρ29f N 2 (by rw [hN.1.2]; decide)).trans hN.2.2.2.1.1) dX0_laysValued_127 ?_
                    show gW Γ E (xM E S τ29 ρ29) 0 0 _ _ (.ref NV :: _)
                    refine g_iconst hΓ dX0_laysValued_130 ?_
                    refine x_iald hΓ kNV nNV ⟨by decide, rfl⟩ (by omega) (by omega) dX0_laysValued_131 ?_
                    refine g_topi (((τ29f NV 3 (by rw [kNV, mdN _ (by decide)]; decide)).trans hN.2.2.2.2.2.2.2.2.2.1)) ?_
                    refine x_callV (As := [.int (iI (σ 9 k)), .int (iI (mnS σ m)), .int (iI (σ 0 1044)), .int (iI (σ 0 1045))]) (rest := [.int (iI m), .ref (P.2.2 32 v)]) (c := 0) hE hΓ (x_X0_scoreBy hE hX S τ29 ρ29 P σ (σ 9 k) (mnS σ m) (σ 0 1044) (σ 0 1045) v (40 + 8 * k) (fsS m) h29.1 hleA hleB (by omega) (by omega) (by omega) h29.2 ) hp.1 ⟨by decide, rfl⟩ rfl rfl q1047 q1049 qs35 q123 q1050 ndX0_scoreBy rfl (by decide) (by decide) (Nat.zero_le _) (Nat.zero_le _) rfl (Nat.le_of_ble_eq_true rfl) dX0_laysValued_132 rfl (fun v34 S34 τ34 ρ34 h34 => ?_)
                    obtain ⟨rfl, h34, S34e, τ34f, ρ34e⟩ := h34
                    have S34e := S34e.symm; subst S34e
                    have ρ34e := ρ34e.symm; subst ρ34e
                    show gW Γ E (xM E S τ34 ρ29) _ _ _ _ (.int (iI (scr σ (40 + 8 * k) (σ 9 k) (fsS m) (mnS σ m) v (σ 0 1044) (σ 0 1045))) :: _)
                    refine g_topi (show (scr σ (40 + 8 * k) (σ 9 k) (fsS m) (mnS σ m) v (σ 0 1044) (σ 0 1045) : Int) = vlS σ k q m v by rw [vlS, show (if q = 2 then v else σ 0 1043) = v by first | (rw [if_pos (by omega)]; done) | (rw [if_neg (by omega)]; done), show (if q = 0 then v else σ 0 1044) = (σ 0 1044) by first | (rw [if_pos (by omega)]; done) | (rw [if_neg (by omega)]; done), show (if q = 1 then v else σ 0 1045) = (σ 0 1045) by first | (rw [if_pos (by omega)]; done) | (rw [if_neg (by omega)]; done)]) ?_
                    refine x_iast hΓ (pG_k hp 32 rfl (n := 41) rfl (i := v) (by omega) (m := 132) rfl) (pG_n hp 32 rfl (n := 41) rfl (i := v) (by omega) (m := 8) rfl) ⟨by decide, rfl⟩ (hAw _ (by rw [(pG_k hp 32 rfl (n := 41) rfl (i := v) (by omega) (m := 132) rfl)]; rfl)) (by omega) (by omega) dX0_laysValued_135 (fun τ35 τ35e => ?_)
                    have τ35r : τ35 (P.2.2 32 v) m = vlS σ k q m v := by rw [τ35e]; exact us_s _ _ _ _
                    have τ35f : ∀ (q9 : Nat) (j9 : Int), (q9 ≠ (P.2.2 32 v) ∨ j9 ≠ m) → τ35 q9 j9 = τ34 q9 j9 := fun q9 j9 hh => by rw [τ35e]; exact us_n hh
                    obtain ⟨x36, ex36⟩ : ∃ z9 : Int, z9 = v + 1 := ⟨_, rfl⟩
                    refine g_iinc hΓ dX0_laysValued_136 rfl rfl (lv' := [some (.ref (P.1)), some (.ref (lE R (P.2.1 31) k)), some (.int (iI q)), some (.int (iI mo)), some (.int (iI m)), some (.ref (rf R (rf R (lE R (P.2.1 31) k) 1) 1)), some (.ref b9), some (.int (iI x36))]) (by rw [ex36]; rfl) ?_
                    refine g_goto (tgt := 54) hΓ dX0_laysValued_139 (by decide) ?_
                    have hfD37 : fr S τ34 τ35 [132] := (fun q9 j9 hk9 => by exact (τ35f q9 j9 (Or.inl (fun e9 => hk9 (by rw [e9, (pG_k hp 32 rfl (n := 41) rfl (i := v) (by omega) (m := 132) rfl), mdN _ (by decide)]; decide)))))
                    have hxs37 : Rx E Z S τ35 ρ29 P σ := Rx_scr h34.1 (fr_w hfD37 (by decide)) fr_rfl (GS_fr (h34.1).1.1 hfD37 fr_rfl (m' := []) (by decide) (by decide))
                    have hFD : fr S t τ35 [8003, 42, 43, 44, 112, 115, 116, 117, 46, 47, 48, 49, 1022, 68, 69, 132] := (fun q9 j9 hk9 => by exact (((τ35f q9 j9 (Or.inl (fun e9 => hk9 (by rw [e9, (pG_k hp 32 rfl (n := 41) rfl (i := v) (by omega) (m := 132) rfl), mdN _ (by decide)]; decide)))).trans (τ34f q9 j9 (fun e9 => hk9 ((show ∀ x ∈ [1022, 68, 69], x ∈ [8003, 42, 43, 44, 112, 115, 116, 117, 46, 47, 48, 49, 1022, 68, 69, 132] by decide) _ e9)))).trans (τ29f q9 j9 (fun e9 => hk9 ((show ∀ x ∈ [8003, 42, 43, 44, 112, 115, 116, 117, 46, 47, 48, 49], x ∈ [8003, 42, 43, 44, 112, 115, 116, 117, 46, 47, 48, 49, 1022, 68, 69, 132] by decide) _ e9)))))
                    have hFR : fr S ρ ρ29 [1009, 1010] := (fun q9 j9 hk9 => by exact (ρ29f q9 j9 (fun e9 => hk9 ((show ∀ x ∈ [1009, 1010], x ∈ [1009, 1010] by decide) _ e9))))
                    exact ih_inn τ35 ρ29 x36 (by omega) hxs37 (fr_t ht hFD) (fr_t hr hFR) (by omega) (lsR_scr hg (fr_w hFD (by decide)) (fr_w hFR (by decide)) (by rw [hkB]; omega) hlB) (fun h9 => absurd h9 (by omega)) (by rw [show x36 = v + 1 by omega]; exact vtI_step hp (by omega) (by omega) hT (fun q9 j9 h9 n9 => (((τ35f q9 j9 n9).trans (τ34f q9 j9 (by rw [h9, mdN _ (by decide)]; decide))).trans (τ29f q9 j9 (by rw [h9, mdN _ (by decide)]; decide)))) (τ35r))
                  · refine g_iload hΓ rfl dX0_laysValued_118 ?_
                    refine g_goto (tgt := 132) hΓ dX0_laysValued_120 (by decide) ?_
                    refine x_callV (As := [.int (iI (σ 9 k)), .int (iI (mnS σ m)), .int (iI (σ 0 1044)), .int (iI v)]) (rest := [.int (iI m), .ref (P.2.2 32 v)]) (c := 0) hE hΓ (x_X0_scoreBy hE hX S τ29 ρ29 P σ (σ 9 k) (mnS σ m) (σ 0 1044) v v (40 + 8 * k) (fsS m) h29.1 hleA hleB (by omega) (by omega) (by omega) h29.2 ) hp.1 ⟨by decide, rfl⟩ rfl rfl q1047 q1049 qs35 q123 q1050 ndX0_scoreBy rfl (by decide) (by decide) (Nat.zero_le _) (Nat.zero_le _) rfl (Nat.le_of_ble_eq_true rfl) dX0_laysValued_132 rfl (fun v38 S38 τ38 ρ38 h38 => ?_)
                    obtain ⟨rfl, h38, S38e, τ38f, ρ38e⟩ := h38
                    have S38e := S38e.symm; subst S38e
                    have ρ38e := ρ38e.symm; subst ρ38e
                    show gW Γ E (xM E S τ38 ρ29) _ _ _ _ (.int (iI (scr σ (40 + 8 * k) (σ 9 k) (fsS m) (mnS σ m) v (σ 0 1044) v)) :: _)
                    refine g_topi (show (scr σ (40 + 8 * k) (σ 9 k) (fsS m) (mnS σ m) v (σ 0 1044) v : Int) = vlS σ k q m v by rw [vlS, show (if q = 2 then v else σ 0 1043) = v by first | (rw [if_pos (by omega)]; done) | (rw [if_neg (by omega)]; done), show (if q = 0 then v else σ 0 1044) = (σ 0 1044) by first | (rw [if_pos (by omega)]; done) | (rw [if_neg (by omega)]; done), show (if q = 1 then v else σ 0 1045) = v by first | (rw [if_pos (by omega)]; done) | (rw [if_neg (by omega)]; done)]) ?_
                    refine x_iast hΓ (pG_k hp 32 rfl (n := 41) rfl (i := v) (by omega) (m := 132) rfl) (pG_n hp 32 rfl (n := 41) rfl (i := v) (by omega) (m := 8) rfl) ⟨by decide, rfl⟩ (hAw _ (by rw [(pG_k hp 32 rfl (n := 41) rfl (i := v) (by omega) (m := 132) rfl)]; rfl)) (by omega) (by omega) dX0_laysValued_135 (fun τ39 τ39e => ?_)
                    have τ39r : τ39 (P.2.2 32 v) m = vlS σ k q m v := by rw [τ39e]; exact us_s _ _ _ _
                    have τ39f : ∀ (q9 : Nat) (j9 : Int), (q9 ≠ (P.2.2 32 v) ∨ j9 ≠ m) → τ39 q9 j9 = τ38 q9 j9 := fun q9 j9 hh => by rw [τ39e]; exact us_n hh
                    obtain ⟨x40, ex40⟩ : ∃ z9 : Int, z9 = v + 1 := ⟨_, rfl⟩
                    refine g_iinc hΓ dX0_laysValued_136 rfl rfl (lv' := [some (.ref (P.1)), some (.ref (lE R (P.2.1 31) k)), some (.int (iI q)), some (.int (iI mo)), some (.int (iI m)), some (.ref (rf R (rf R (lE R (P.2.1 31) k) 1) 1)), some (.ref b9), some (.int (iI x40))]) (by rw [ex40]; rfl) ?_
                    refine g_goto (tgt := 54) hΓ dX0_laysValued_139 (by decide) ?_
                    have hfD41 : fr S τ38 τ39 [132] := (fun q9 j9 hk9 => by exact (τ39f q9 j9 (Or.inl (fun e9 => hk9 (by rw [e9, (pG_k hp 32 rfl (n := 41) rfl (i := v) (by omega) (m := 132) rfl), mdN _ (by decide)]; decide)))))
                    have hxs41 : Rx E Z S τ39 ρ29 P σ := Rx_scr h38.1 (fr_w hfD41 (by decide)) fr_rfl (GS_fr (h38.1).1.1 hfD41 fr_rfl (m' := []) (by decide) (by decide))
                    have hFD : fr S t τ39 [8003, 42, 43, 44, 112, 115, 116, 117, 46, 47, 48, 49, 1022, 68, 69, 132] := (fun q9 j9 hk9 => by exact (((τ39f q9 j9 (Or.inl (fun e9 => hk9 (by rw [e9, (pG_k hp 32 rfl (n := 41) rfl (i := v) (by omega) (m := 132) rfl), mdN _ (by decide)]; decide)))).trans (τ38f q9 j9 (fun e9 => hk9 ((show ∀ x ∈ [1022, 68, 69], x ∈ [8003, 42, 43, 44, 112, 115, 116, 117, 46, 47, 48, 49, 1022, 68, 69, 132] by decide) _ e9)))).trans (τ29f q9 j9 (fun e9 => hk9 ((show ∀ x ∈ [8003, 42, 43, 44, 112, 115, 116, 117, 46, 47, 48, 49], x ∈ [8003, 42, 43, 44, 112, 115, 116, 117, 46, 47, 48, 49, 1022, 68, 69, 132] by decide) _ e9)))))
                    have hFR : fr S ρ ρ29 [1009, 1010] := (fun q9 j9 hk9 => by exact (ρ29f q9 j9 (fun e9 => hk9 ((show ∀ x ∈ [1009, 1010], x ∈ [1009, 1010] by decide) _ e9))))
                    exact ih_inn τ39 ρ29 x40 (by omega) hxs41 (fr_t ht hFD) (fr_t hr hFR) (by omega) (lsR_scr hg (fr_w hFD (by decide)) (fr_w hFR (by decide)) (by rw [hkB]; omega) hlB) (fun h9 => absurd h9 (by omega)) (by rw [show x40 = v + 1 by omega]; exact vtI_step hp (by omega) (by omega) hT (fun q9 j9 h9 n9 => (((τ39f q9 j9 n9).trans (τ38f q9 j9 (by rw [h9, mdN _ (by decide)]; decide))).trans (τ29f q9 j9 (by rw [h9, mdN _ (by decide)]; decide)))) (τ39r))
                · refine g_iload hΓ rfl dX0_laysValued_99 ?_
                  refine g_goto (tgt := 113) hΓ dX0_laysValued_101 (by decide) ?_
                  refine g_iload_n hΓ rfl dX0_laysValued_113 ?_
                  refine g_iconst hΓ dX0_laysValued_114 ?_
                  refine g_icmp_ne (tgt := 123) hΓ (by omega) (by omega) dX0_laysValued_115 (by decide) (fun c42 => ?_) (fun c42 => ?_)
                  · refine g_aload_n hΓ rfl dX0_laysValued_123 ?_
                    refine x_geta (r := some N) (c := 0) hE hΓ in_X0 rfl hp.1 ⟨by decide, rfl⟩ 4 (ji := 4) rfl (by decide) (by decide) rfl q250 rfl rfl ((ρ29f (P.1) 4 (by rw [hp.1]; decide)).trans hN.1.1) dX0_laysValued_124 ?_
                    show gW Γ E (xM E S τ29 ρ29) 0 0 _ _ (.ref N :: _)
                    refine x_geta (r := some NV) (c := 1) hE hΓ in_X1 rfl hN.1.2 ⟨by decide, rfl⟩ 2 (ji := 2) rfl (by decide) (by decide) rfl q203 rfl rfl ((ρ29f N 2 (by rw [hN.1.2]; decide)).trans hN.2.2.2.1.1) dX0_laysValued_127 ?_
                    show gW Γ E (xM E S τ29 ρ29) 0 0 _ _ (.ref NV :: _)
                    refine g_iconst hΓ dX0_laysValued_130 ?_
                    refine x_iald hΓ kNV nNV ⟨by decide, rfl⟩ (by omega) (by omega) dX0_laysValued_131 ?_
                    refine g_topi (((τ29f NV 3 (by rw [kNV, mdN _ (by decide)]; decide)).trans hN.2.2.2.2.2.2.2.2.2.1)) ?_
                    refine x_callV (As := [.int (iI (σ 9 k)), .int (iI (mnS σ m)), .int (iI v), .int (iI (σ 0 1045))]) (rest := [.int (iI m), .ref (P.2.2 32 v)]) (c := 0) hE hΓ (x_X0_scoreBy hE hX S τ29 ρ29 P σ (σ 9 k) (mnS σ m) v (σ 0 1045) v (40 + 8 * k) (fsS m) h29.1 hleA hleB (by omega) (by omega) (by omega) h29.2 ) hp.1 ⟨by decide, rfl⟩ rfl rfl q1047 q1049 qs35 q123 q1050 ndX0_scoreBy rfl (by decide) (by decide) (Nat.zero_le _) (Nat.zero_le _) rfl (Nat.le_of_ble_eq_true rfl) dX0_laysValued_132 rfl (fun v43 S43 τ43 ρ43 h43 => ?_)
                    obtain ⟨rfl, h43, S43e, τ43f, ρ43e⟩ := h43
                    have S43e := S43e.symm; subst S43e
                    have ρ43e := ρ43e.symm; subst ρ43e
                    show gW Γ E (xM E S τ43 ρ29) _ _ _ _ (.int (iI (scr σ (40 + 8 * k) (σ 9 k) (fsS m) (mnS σ m) v v (σ 0 1045))) :: _)
                    refine g_topi (show (scr σ (40 + 8 * k) (σ 9 k) (fsS m) (mnS σ m) v v (σ 0 1045) : Int) = vlS σ k q m v by rw [vlS, show (if q = 2 then v else σ 0 1043) = v by first | (rw [if_pos (by omega)]; done) | (rw [if_neg (by omega)]; done), show (if q = 0 then v else σ 0 1044) = v by first | (rw [if_pos (by omega)]; done) | (rw [if_neg (by omega)]; done), show (if q = 1 then v else σ 0 1045) = (σ 0 1045) by first | (rw [if_pos (by omega)]; done) | (rw [if_neg (by omega)]; done)]) ?_
                    refine x_iast hΓ (pG_k hp 32 rfl (n := 41) rfl (i := v) (by omega) (m := 132) rfl) (pG_n hp 32 rfl (n := 41) rfl (i := v) (by omega) (m := 8) rfl) ⟨by decide, rfl⟩ (hAw _ (by rw [(pG_k hp 32 rfl (n := 41) rfl (i := v) (by omega) (m := 132) rfl)]; rfl)) (by omega) (by omega) dX0_laysValued_135 (fun τ44 τ44e => ?_)
                    have τ44r : τ44 (P.2.2 32 v) m = vlS σ k q m v := by rw [τ44e]; exact us_s _ _ _ _
                    have τ44f : ∀ (q9 : Nat) (j9 : Int), (q9 ≠ (P.2.2 32 v) ∨ j9 ≠ m) → τ44 q9 j9 = τ43 q9 j9 := fun q9 j9 hh => by rw [τ44e]; exact us_n hh
                    obtain ⟨x45, ex45⟩ : ∃ z9 : Int, z9 = v + 1 := ⟨_, rfl⟩
                    refine g_iinc hΓ dX0_laysValued_136 rfl rfl (lv' := [some (.ref (P.1)), some (.ref (lE R (P.2.1 31) k)), some (.int (iI q)), some (.int (iI mo)), some (.int (iI m)), some (.ref (rf R (rf R (lE R (P.2.1 31) k) 1) 1)), some (.ref b9), some (.int (iI x45))]) (by rw [ex45]; rfl) ?_
                    refine g_goto (tgt := 54) hΓ dX0_laysValued_139 (by decide) ?_
                    have hfD46 : fr S τ43 τ44 [132] := (fun q9 j9 hk9 => by exact (τ44f q9 j9 (Or.inl (fun e9 => hk9 (by rw [e9, (pG_k hp 32 rfl (n := 41) rfl (i := v) (by omega) (m := 132) rfl), mdN _ (by decide)]; decide)))))
                    have hxs46 : Rx E Z S τ44 ρ29 P σ := Rx_scr h43.1 (fr_w hfD46 (by decide)) fr_rfl (GS_fr (h43.1).1.1 hfD46 fr_rfl (m' := []) (by decide) (by decide))
                    have hFD : fr S t τ44 [8003, 42, 43, 44, 112, 115, 116, 117, 46, 47, 48, 49, 1022, 68, 69, 132] := (fun q9 j9 hk9 => by exact (((τ44f q9 j9 (Or.inl (fun e9 => hk9 (by rw [e9, (pG_k hp 32 rfl (n := 41) rfl (i := v) (by omega) (m := 132) rfl), mdN _ (by decide)]; decide)))).trans (τ43f q9 j9 (fun e9 => hk9 ((show ∀ x ∈ [1022, 68, 69], x ∈ [8003, 42, 43, 44, 112, 115, 116, 117, 46, 47, 48, 49, 1022, 68, 69, 132] by decide) _ e9)))).trans (τ29f q9 j9 (fun e9 => hk9 ((show ∀ x ∈ [8003, 42, 43, 44, 112, 115, 116, 117, 46, 47, 48, 49], x ∈ [8003, 42, 43, 44, 112, 115, 116, 117, 46, 47, 48, 49, 1022, 68, 69, 132] by decide) _ e9)))))
                    have hFR : fr S ρ ρ29 [1009, 1010] := (fun q9 j9 hk9 => by exact (ρ29f q9 j9 (fun e9 => hk9 ((show ∀ x ∈ [1009, 1010], x ∈ [1009, 1010] by decide) _ e9))))
                    exact ih_inn τ44 ρ29 x45 (by omega) hxs46 (fr_t ht hFD) (fr_t hr hFR) (by omega) (lsR_scr hg (fr_w hFD (by decide)) (fr_w hFR (by decide)) (by rw [hkB]; omega) hlB) (fun h9 => absurd h9 (by omega)) (by rw [show x45 = v + 1 by omega]; exact vtI_step hp (by omega) (by omega) hT (fun q9 j9 h9 n9 => (((τ44f q9 j9 n9).trans (τ43f q9 j9 (by rw [h9, mdN _ (by decide)]; decide))).trans (τ29f q9 j9 (by rw [h9, mdN _ (by decide)]; decide)))) (τ44r))
                  · refine g_iload hΓ rfl dX0_laysValued_118 ?_
                    refine g_goto (tgt := 132) hΓ dX0_laysValued_120 (by decide) ?_
                    refine x_callV (As := [.int (iI (σ 9 k)), .int (iI (mnS σ m)), .int (iI v), .int (iI v)]) (rest := [.int (iI m), .ref (P.2.2 32 v)]) (c := 0) hE hΓ (x_X0_scoreBy hE hX S τ29 ρ29 P σ (σ 9 k) (mnS σ m) v v v (40 + 8 * k) (fsS m) h29.1 hleA hleB (by omega) (by omega) (by omega) h29.2 ) hp.1 ⟨by decide, rfl⟩ rfl rfl q1047 q1049 qs35 q123 q1050 ndX0_scoreBy rfl (by decide) (by decide) (Nat.zero_le _) (Nat.zero_le _) rfl (Nat.le_of_ble_eq_true rfl) dX0_laysValued_132 rfl (fun v47 S47 τ47 ρ47 h47 => ?_)
                    obtain ⟨rfl, h47, S47e, τ47f, ρ47e⟩ := h47
                    have S47e := S47e.symm; subst S47e
                    have ρ47e := ρ47e.symm; subst ρ47e
                    show gW Γ E (xM E S τ47 ρ29) _ _ _ _ (.int (iI (scr σ (40 + 8 * k) (σ 9 k) (fsS m) (mnS σ m) v v v)) :: _)
                    refine g_topi (show (scr σ (40 + 8 * k) (σ 9 k) (fsS m) (mnS σ m) v v v : Int) = vlS σ k q m v by rw [vlS, show (if q = 2 then v else σ 0 1043) = v by first | (rw [if_pos (by omega)]; done) | (rw [if_neg (by omega)]; done), show (if q = 0 then v else σ 0 1044) = v by first | (rw [if_pos (by omega)]; done) | (rw [if_neg (by omega)]; done), show (if q = 1 then v else σ 0 1045) = v by first | (rw [if_pos (by omega)]; done) | (rw [if_neg (by omega)]; done)]) ?_
                    refine x_iast hΓ (pG_k hp 32 rfl (n := 41) rfl (i := v) (by omega) (m := 132) rfl) (pG_n hp 32 rfl (n := 41) rfl (i := v) (by omega) (m := 8) rfl) ⟨by decide, rfl⟩ (hAw _ (by rw [(pG_k hp 32 rfl (n := 41) rfl (i := v) (by omega) (m := 132) rfl)]; rfl)) (by omega) (by omega) dX0_laysValued_135 (fun τ48 τ48e => ?_)
                    have τ48r : τ48 (P.2.2 32 v) m = vlS σ k q m v := by rw [τ48e]; exact us_s _ _ _ _
                    have τ48f : ∀ (q9 : Nat) (j9 : Int), (q9 ≠ (P.2.2 32 v) ∨ j9 ≠ m) → τ48 q9 j9 = τ47 q9 j9 := fun q9 j9 hh => by rw [τ48e]; exact us_n hh
                    obtain ⟨x49, ex49⟩ : ∃ z9 : Int, z9 = v + 1 := ⟨_, rfl⟩
                    refine g_iinc hΓ dX0_laysValued_136 rfl rfl (lv' := [some (.ref (P.1)), some (.ref (lE R (P.2.1 31) k)), some (.int (iI q)), some (.int (iI mo)), some (.int (iI m)), some (.ref (rf R (rf R (lE R (P.2.1 31) k) 1) 1)), some (.ref b9), some (.int (iI x49))]) (by rw [ex49]; rfl) ?_
                    refine g_goto (tgt := 54) hΓ dX0_laysValued_139 (by decide) ?_
                    have hfD50 : fr S τ47 τ48 [132] := (fun q9 j9 hk9 => by exact (τ48f q9 j9 (Or.inl (fun e9 => hk9 (by rw [e9, (pG_k hp 32 rfl (n := 41) rfl (i := v) (by omega) (m := 132) rfl), mdN _ (by decide)]; decide)))))
                    have hxs50 : Rx E Z S τ48 ρ29 P σ := Rx_scr h47.1 (fr_w hfD50 (by decide)) fr_rfl (GS_fr (h47.1).1.1 hfD50 fr_rfl (m' := []) (by decide) (by decide))
                    have hFD : fr S t τ48 [8003, 42, 43, 44, 112, 115, 116, 117, 46, 47, 48, 49, 1022, 68, 69, 132] := (fun q9 j9 hk9 => by exact (((τ48f q9 j9 (Or.inl (fun e9 => hk9 (by rw [e9, (pG_k hp 32 rfl (n := 41) rfl (i := v) (by omega) (m := 132) rfl), mdN _ (by decide)]; decide)))).trans (τ47f q9 j9 (fun e9 => hk9 ((show ∀ x ∈ [1022, 68, 69], x ∈ [8003, 42, 43, 44, 112, 115, 116, 117, 46, 47, 48, 49, 1022, 68, 69, 132] by decide) _ e9)))).trans (τ29f q9 j9 (fun e9 => hk9 ((show ∀ x ∈ [8003, 42, 43, 44, 112, 115, 116, 117, 46, 47, 48, 49], x ∈ [8003, 42, 43, 44, 112, 115, 116, 117, 46, 47, 48, 49, 1022, 68, 69, 132] by decide) _ e9)))))
                    have hFR : fr S ρ ρ29 [1009, 1010] := (fun q9 j9 hk9 => by exact (ρ29f q9 j9 (fun e9 => hk9 ((show ∀ x ∈ [1009, 1010], x ∈ [1009, 1010] by decide) _ e9))))
                    exact ih_inn τ48 ρ29 x49 (by omega) hxs50 (fr_t ht hFD) (fr_t hr hFR) (by omega) (lsR_scr hg (fr_w hFD (by decide)) (fr_w hFR (by decide)) (by rw [hkB]; omega) hlB) (fun h9 => absurd h9 (by omega)) (by rw [show x49 = v + 1 by omega]; exact vtI_step hp (by omega) (by omega) hT (fun q9 j9 h9 n9 => (((τ48f q9 j9 n9).trans (τ47f q9 j9 (by rw [h9, mdN _ (by decide)]; decide))).trans (τ29f q9 j9 (by rw [h9, mdN _ (by decide)]; decide)))) (τ48r))
        refine g_iload_n hΓ rfl dX0_laysValued_29 ?_
        refine g_iconst hΓ dX0_laysValued_30 ?_
        refine g_icmp_ge (tgt := 51) hΓ (by omega) (by omega) dX0_laysValued_31 (by decide) (fun c51 => ?_) (fun c51 => ?_)
        · refine g_iconst hΓ dX0_laysValued_51 ?_
          refine g_istore hΓ dX0_laysValued_52 rfl (Nat.le_of_ble_eq_true rfl) (lv' := [some (.ref (P.1)), some (.ref (lE R (P.2.1 31) k)), some (.int (iI q)), some (.int (iI mo)), some (.int (iI m)), some (.ref (rf R (rf R (lE R (P.2.1 31) k) 1) 1)), some (.ref b9), some (.int (iI 0))]) rfl ?_
          exact inn 42 t ρ 0 (by omega) hx1 ht hr (by omega) hlB (fun h9 => absurd h9 (by omega)) hT
        · refine g_aload_n hΓ rfl dX0_laysValued_34 ?_
          refine g_aload hΓ rfl dX0_laysValued_35 ?_
          refine g_aload hΓ rfl dX0_laysValued_37 ?_
          refine g_aload_n hΓ rfl dX0_laysValued_39 ?_
          refine x_geta (r := some N) (c := 0) hE hΓ in_X0 rfl hp.1 ⟨by decide, rfl⟩ 4 (ji := 4) rfl (by decide) (by decide) rfl q250 rfl rfl hN.1.1 dX0_laysValued_40 ?_
          show gW Γ E (xM E S t ρ) 0 0 _ _ (.ref N :: _)
          refine x_geta (r := some NV) (c := 1) hE hΓ in_X1 rfl hN.1.2 ⟨by decide, rfl⟩ 2 (ji := 2) rfl (by decide) (by decide) rfl q203 rfl rfl hN.2.2.2.1.1 dX0_laysValued_43 ?_
          show gW Γ E (xM E S t ρ) 0 0 _ _ (.ref NV :: _)
          refine g_iconst hΓ dX0_laysValued_46 ?_
          refine x_iald hΓ kNV nNV ⟨by decide, rfl⟩ (by omega) (by omega) dX0_laysValued_47 ?_
          refine g_topi (hN.2.2.2.2.2.2.2.1) ?_
          refine x_callV (As := [.ref (rf R (rf R (lE R (P.2.1 31) k) 1) 1), .ref b9, .int (iI (σ 0 1043))]) (rest := []) (c := 0) hE hΓ (x_X0_laysCosts hE hX hL S t ρ P σ (rf R (rf R (lE R (P.2.1 31) k) 1) 1) b9 12 kB (σ 0 1043) (40 + 8 * k) (σ 9 k) (fsS m) (mnS σ m) hx1 hlf.2.2.2.1 (by decide) hlA hleA hkB hk3B hlB hleB (by omega) ) hp.1 ⟨by decide, rfl⟩ rfl rfl q1043 q1045 qs34 q123 q1046 ndX0_laysCosts rfl (by decide) (by decide) (Nat.zero_le _) (Nat.zero_le _) rfl (Nat.le_of_ble_eq_true rfl) dX0_laysValued_48 rfl (fun v52 S52 τ52 ρ52 h52 => ?_)
          obtain ⟨rfl, h52, S52e, τ52f, ρ52f⟩ := h52
          have S52e := S52e.symm; subst S52e
          refine g_iconst hΓ dX0_laysValued_51 ?_
          refine g_istore hΓ dX0_laysValued_52 rfl (Nat.le_of_ble_eq_true rfl) (lv' := [some (.ref (P.1)), some (.ref (lE R (P.2.1 31) k)), some (.int (iI q)), some (.int (iI mo)), some (.int (iI m)), some (.ref (rf R (rf R (lE R (P.2.1 31) k) 1) 1)), some (.ref b9), some (.int (iI 0))]) rfl ?_
          have hFD : fr S t τ52 [8003, 42, 43, 44, 112, 115, 116, 117, 46, 47, 48, 49, 1022, 68, 69, 132] := (fun q9 j9 hk9 => by exact (τ52f q9 j9 (fun e9 => hk9 ((show ∀ x ∈ [8003, 42, 43, 44, 112, 115, 116, 117, 46, 47, 48, 49], x ∈ [8003, 42, 43, 44, 112, 115, 116, 117, 46, 47, 48, 49, 1022, 68, 69, 132] by decide) _ e9))))
          have hFR : fr S ρ ρ52 [1009, 1010] := (fun q9 j9 hk9 => by exact (ρ52f q9 j9 (fun e9 => hk9 ((show ∀ x ∈ [1009, 1010], x ∈ [1009, 1010] by decide) _ e9))))
          exact inn 42 τ52 ρ52 0 (by omega) h52.1 (fr_t ht hFD) (fr_t hr hFR) (by omega) (lsR_scr hg (fr_w hFD (by decide)) (fr_w hFR (by decide)) (by rw [hkB]; omega) hlB) (fun _ => h52.2) (vtI_fr hp (by omega) hT (fun q9 j9 h9 => τ52f q9 j9 (by rw [h9, mdN _ (by decide)]; decide)))
  refine g_iconst hΓ dX0_laysValued_0 ?_
  refine g_istore hΓ dX0_laysValued_1 rfl (Nat.le_of_ble_eq_true rfl) (lv' := [some (.ref (P.1)), some (.ref (lE R (P.2.1 31) k)), some (.int (iI q)), some (.int (iI mo)), some (.int (iI 0)), none, none, none]) rfl ?_
  exact out 9 D R 0 (by omega) hx fr_rfl fr_rfl (by omega) vtI_0
