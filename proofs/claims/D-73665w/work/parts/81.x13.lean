set_option maxRecDepth 100000
set_option maxHeartbeats 4000000 in
theorem x_X0_strokes {l : Launch} {E : gE} {X : State → Prop} {Z : Nat → Nat} {Y : Nat → Option Nat} (hE : E.2.1 = clsX) (hX : xOK l E X Z Y) (S : xS) (D : xD) (R : xR) (P : xPk) (σ : mS) (m : Int) (hx : Rx E Z S D R P σ) (hm : r32 m) : xC l E X yX0_strokes cX0_strokes 2 (some .int) 5 0 0 [.ref (P.1), .int (iI m)] S D R (fun rv S' D' R' => rv = some (.int (iI (if m = -1 ∨ (0 ≤ m ∧ m < σ 0 1000) then mnS σ m else -1))) ∧ S' = S ∧ D' = D ∧ R' = R) := by
  refine xC.of hX.1 (by decide) [some (.ref (P.1)), some (.int (iI m))] (Nat.le_of_ble_eq_true rfl) rfl rfl (fun Γ hΓ => ?_)
  obtain ⟨hg, hp, hki, hro, hnw, hbh, hsa, hpd⟩ := id hx
  obtain ⟨N, NI, NM, NV, hN⟩ := (hx).now
  have hAw := hg.2.2.2.2.2.2
  have hG : GS S D R := hg.1
  obtain ⟨h1000, h1009, h1042, h1043, h1044, h1045, h1046, h1047, hms, hsi, hsm, hnm⟩ := id hro
  have eN := hN.2.2.2.2.2.2.2.2.2.2.2.2
  have kNV : (S NV).1 = 45 := by rw [hN.2.2.2.1.2]
  have nNV : (S NV).2.1 = 6 := by rw [hN.2.2.2.1.2]
  refine g_aload_n hΓ rfl dX0_strokes_0 ?_
  refine g_iload_n hΓ rfl dX0_strokes_1 ?_
  refine x_callV (As := [.int (iI m)]) (rest := []) (c := 0) hE hΓ (x_X0_isLetter hE hX S D R P σ m hx (by first | assumption | omega) ) hp.1 ⟨by decide, rfl⟩ rfl rfl q899 q901 qs23 q123 q902 ndX0_isLetter rfl (by decide) (by decide) (Nat.zero_le _) (Nat.zero_le _) rfl (Nat.le_of_ble_eq_true rfl) dX0_strokes_2 rfl (fun v1 S1 τ1 ρ1 h1 => ?_)
  obtain ⟨rfl, S1e, τ1e, ρ1e⟩ := h1
  have S1e := S1e.symm; subst S1e
  have τ1e := τ1e.symm; subst τ1e
  have ρ1e := ρ1e.symm; subst ρ1e
  show gW Γ E (xM E S D R) _ _ _ _ (.int (iI (if m = -1 ∨ (0 ≤ m ∧ m < σ 0 1000) then 1 else 0)) :: _)
  refine g_ifB_eq (tgt := 19) hΓ  dX0_strokes_5 (by decide) (fun c2 => ?_) (fun c2 => ?_)
  · refine g_iconst hΓ dX0_strokes_19 ?_
    exact x_iret hΓ dX0_strokes_20 (Nat.zero_le _) (Nat.zero_le _) ⟨ri (by first | (rw [if_pos (by omega)]; done) | (rw [if_neg (by omega)])), rfl, rfl, rfl⟩
  · refine g_aload_n hΓ rfl dX0_strokes_8 ?_
    refine g_iload_n hΓ rfl dX0_strokes_9 ?_
    refine x_callV (As := [.int (iI m)]) (rest := []) (c := 0) hE hΓ (x_X0_strokesOf hE hX S D R P σ m hx (by first | assumption | omega) (by first | assumption | omega) ) hp.1 ⟨by decide, rfl⟩ rfl rfl q903 q905 qs24 q123 q906 ndX0_strokesOf rfl (by decide) (by decide) (Nat.zero_le _) (Nat.zero_le _) rfl (Nat.le_of_ble_eq_true rfl) dX0_strokes_10 rfl (fun v3 S3 τ3 ρ3 h3 => ?_)
    obtain ⟨rfl, S3e, τ3e, ρ3e⟩ := h3
    have S3e := S3e.symm; subst S3e
    have τ3e := τ3e.symm; subst τ3e
    have ρ3e := ρ3e.symm; subst ρ3e
    show gW Γ E (xM E S D R) _ _ _ _ (.ref (lsA R (rf R P.1 4) m) :: _)
    have hlt4 := (hx).letter (m := m) (by omega)
    obtain ⟨kl4, hkl4, hk34⟩ : ∃ k : Nat, (S (lsA R (rf R P.1 4) m)).1 = k ∧ (k = 10 ∨ k = 12 ∨ k = 13) := ⟨_, rfl, by have := hlt4.2.1; omega⟩
    have hkr4 : 10 ≤ kl4 ∧ kl4 ≤ 17 := by omega
    refine x_callV (As := []) (rest := []) (c := 10) hE hΓ (x_J2_size hE hX S D R (lsA R (rf R P.1 4) m) kl4 hkl4 hkr4 ) hkl4 (ks_10_17 hkr4) rfl rfl q845 q662 q663 q127 q664 ndJ2_size rfl (by decide) (by decide) (Nat.zero_le _) (Nat.zero_le _) rfl (Nat.le_of_ble_eq_true rfl) dX0_strokes_13 rfl (fun v5 S5 τ5 ρ5 h5 => ?_)
    obtain ⟨rfl, S5e, τ5e, ρ5e⟩ := h5
    have S5e := S5e.symm; subst S5e
    have τ5e := τ5e.symm; subst τ5e
    have ρ5e := ρ5e.symm; subst ρ5e
    refine g_topi (hlt4.1.1) ?_
    show gW Γ E (xM E S D R) _ _ _ _ (.int (iI (mnS σ m)) :: _)
    refine g_goto (tgt := 20) hΓ dX0_strokes_16 (by decide) ?_
    exact x_iret hΓ dX0_strokes_20 (Nat.zero_le _) (Nat.zero_le _) ⟨ri (by first | (rw [if_pos (by omega)]; done) | (rw [if_neg (by omega)])), rfl, rfl, rfl⟩
set_option maxHeartbeats 4000000 in
theorem x_X0_strokeOf {l : Launch} {E : gE} {X : State → Prop} {Z : Nat → Nat} {Y : Nat → Option Nat} (hE : E.2.1 = clsX) (hX : xOK l E X Z Y) (S : xS) (D : xD) (R : xR) (P : xPk) (σ : mS) (m k : Int) (hx : Rx E Z S D R P σ) (hm : r32 m) (hk : r32 k) : xC l E X yX0_strokeOf cX0_strokeOf 3 (some (.object "LetterPen$Stroke")) 5 0 0 [.ref (P.1), .int (iI m), .int (iI k)] S D R (fun rv S' D' R' => rv = some (va_rf (if stO σ m k = -1 then none else some (lE R (lsA R (rf R P.1 4) m) k))) ∧ (Rx E Z S D' R P σ ∧ (stO σ m k ≠ -1 → caOK D' R (lE R (lsA R (rf R P.1 4) m) k) (strN S R (lE R (lsA R (rf R P.1 4) m) k)) (σ 0 1042))) ∧ S' = S ∧ fr S D D' [8003, 42, 43, 44] ∧ R' = R) := by
  refine xC.of hX.1 (by decide) [some (.ref (P.1)), some (.int (iI m)), some (.int (iI k))] (Nat.le_of_ble_eq_true rfl) rfl rfl (fun Γ hΓ => ?_)
  obtain ⟨hg, hp, hki, hro, hnw, hbh, hsa, hpd⟩ := id hx
  obtain ⟨N, NI, NM, NV, hN⟩ := (hx).now
  have hAw := hg.2.2.2.2.2.2
  have hG : GS S D R := hg.1
  obtain ⟨h1000, h1009, h1042, h1043, h1044, h1045, h1046, h1047, hms, hsi, hsm, hnm⟩ := id hro
  have eN := hN.2.2.2.2.2.2.2.2.2.2.2.2
  have kNV : (S NV).1 = 45 := by rw [hN.2.2.2.1.2]
  have nNV : (S NV).2.1 = 6 := by rw [hN.2.2.2.1.2]
  have hmr := fun h => mnS_r hro (m := m) h
  refine g_aload_n hΓ rfl dX0_strokeOf_0 ?_
  refine g_iload_n hΓ rfl dX0_strokeOf_1 ?_
  refine x_callV (As := [.int (iI m)]) (rest := []) (c := 0) hE hΓ (x_X0_isLetter hE hX S D R P σ m hx (by first | assumption | omega) ) hp.1 ⟨by decide, rfl⟩ rfl rfl q899 q901 qs23 q123 q902 ndX0_isLetter rfl (by decide) (by decide) (Nat.zero_le _) (Nat.zero_le _) rfl (Nat.le_of_ble_eq_true rfl) dX0_strokeOf_2 rfl (fun v1 S1 τ1 ρ1 h1 => ?_)
  obtain ⟨rfl, S1e, τ1e, ρ1e⟩ := h1
  have S1e := S1e.symm; subst S1e
  have τ1e := τ1e.symm; subst τ1e
  have ρ1e := ρ1e.symm; subst ρ1e
  show gW Γ E (xM E S D R) _ _ _ _ (.int (iI (if m = -1 ∨ (0 ≤ m ∧ m < σ 0 1000) then 1 else 0)) :: _)
  refine g_ifB_eq (tgt := 55) hΓ  dX0_strokeOf_5 (by decide) (fun c2 => ?_) (fun c2 => ?_)
  · refine g_null hΓ dX0_strokeOf_55 ?_
    exact x_aret hΓ (Or.inl ⟨_, rfl⟩) (Or.inl rfl) dX0_strokeOf_56 (Nat.zero_le _) (Nat.zero_le _) ⟨by rw [if_pos (by rw [stO, if_neg (by omega)])]; rfl, ⟨hx, fun h9 => absurd (by rw [stO, if_neg (by omega)]) h9⟩, rfl, fr_rfl, rfl⟩
  · refine g_iload_n hΓ rfl dX0_strokeOf_8 ?_
    refine g_i2l hΓ (by omega) dX0_strokeOf_9 ?_
    refine g_lconst (a := 0) hΓ rfl dX0_strokeOf_10 ?_
    refine g_aload_n hΓ rfl dX0_strokeOf_11 ?_
    refine g_iload_n hΓ rfl dX0_strokeOf_12 ?_
    refine x_callV (As := [.int (iI m)]) (rest := [.long (lI 0), .long (lI k)]) (c := 0) hE hΓ (x_X0_strokesOf hE hX S D R P σ m hx (by first | assumption | omega) (by first | assumption | omega) ) hp.1 ⟨by decide, rfl⟩ rfl rfl q903 q905 qs24 q123 q906 ndX0_strokesOf rfl (by decide) (by decide) (Nat.zero_le _) (Nat.zero_le _) rfl (Nat.le_of_ble_eq_true rfl) dX0_strokeOf_13 rfl (fun v3 S3 τ3 ρ3 h3 => ?_)
    obtain ⟨rfl, S3e, τ3e, ρ3e⟩ := h3
    have S3e := S3e.symm; subst S3e
    have τ3e := τ3e.symm; subst τ3e
    have ρ3e := ρ3e.symm; subst ρ3e
    show gW Γ E (xM E S D R) _ _ _ _ (.ref (lsA R (rf R P.1 4) m) :: _)
    have hlt4 := (hx).letter (m := m) (by omega)
    obtain ⟨kl4, hkl4, hk34⟩ : ∃ k : Nat, (S (lsA R (rf R P.1 4) m)).1 = k ∧ (k = 10 ∨ k = 12 ∨ k = 13) := ⟨_, rfl, by have := hlt4.2.1; omega⟩
    have hkr4 : 10 ≤ kl4 ∧ kl4 ≤ 17 := by omega
    refine x_callV (As := []) (rest := [.long (lI 0), .long (lI k)]) (c := 10) hE hΓ (x_J2_size hE hX S D R (lsA R (rf R P.1 4) m) kl4 hkl4 hkr4 ) hkl4 (ks_10_17 hkr4) rfl rfl q845 q662 q663 q127 q664 ndJ2_size rfl (by decide) (by decide) (Nat.zero_le _) (Nat.zero_le _) rfl (Nat.le_of_ble_eq_true rfl) dX0_strokeOf_16 rfl (fun v5 S5 τ5 ρ5 h5 => ?_)
    obtain ⟨rfl, S5e, τ5e, ρ5e⟩ := h5
    have S5e := S5e.symm; subst S5e
    have τ5e := τ5e.symm; subst τ5e
    have ρ5e := ρ5e.symm; subst ρ5e
    refine g_topi (hlt4.1.1) ?_
    show gW Γ E (xM E S D R) _ _ _ _ (.int (iI (mnS σ m)) :: _)
    refine g_iconst hΓ dX0_strokeOf_19 ?_
    refine g_isub hΓ dX0_strokeOf_20 ?_
    refine g_i2l hΓ (by omega) dX0_strokeOf_21 ?_
    refine x_callS (As := [.long (lI k), .long (lI 0), .long (lI ((mnS σ m) - 1))]) (rest := []) hΓ (x_X0_isIn hE hX S D R k 0 ((mnS σ m) - 1) (by first | assumption | omega) (by first | assumption | omega) (by first | assumption | omega)) rfl q387 q388 q123 q389 ndX0_isIn rfl (by decide) (by decide) (Nat.zero_le _) (Nat.zero_le _) rfl (Nat.le_of_ble_eq_true rfl) dX0_strokeOf_22 rfl (fun v6 S6 τ6 ρ6 h6 => ?_)
    obtain ⟨rfl, S6e, τ6e, ρ6e⟩ := h6
    have S6e := S6e.symm; subst S6e
    have τ6e := τ6e.symm; subst τ6e
    have ρ6e := ρ6e.symm; subst ρ6e
    show gW Γ E (xM E S D R) _ _ _ _ (.int (iI (if 0 ≤ k ∧ k ≤ ((mnS σ m) - 1) then 1 else 0)) :: _)
    refine g_ifB_eq (tgt := 55) hΓ  dX0_strokeOf_25 (by decide) (fun c7 => ?_) (fun c7 => ?_)
    · refine g_null hΓ dX0_strokeOf_55 ?_
      exact x_aret hΓ (Or.inl ⟨_, rfl⟩) (Or.inl rfl) dX0_strokeOf_56 (Nat.zero_le _) (Nat.zero_le _) ⟨by rw [if_pos (by rw [stO, if_neg (by omega)])]; rfl, ⟨hx, fun h9 => absurd (by rw [stO, if_neg (by omega)]) h9⟩, rfl, fr_rfl, rfl⟩
    · refine g_aload_n hΓ rfl dX0_strokeOf_28 ?_
      refine g_iload_n hΓ rfl dX0_strokeOf_29 ?_
      refine x_callV (As := [.int (iI m)]) (rest := []) (c := 0) hE hΓ (x_X0_strokesOf hE hX S D R P σ m hx (by first | assumption | omega) (by first | assumption | omega) ) hp.1 ⟨by decide, rfl⟩ rfl rfl q903 q905 qs24 q123 q906 ndX0_strokesOf rfl (by decide) (by decide) (Nat.zero_le _) (Nat.zero_le _) rfl (Nat.le_of_ble_eq_true rfl) dX0_strokeOf_30 rfl (fun v8 S8 τ8 ρ8 h8 => ?_)
      obtain ⟨rfl, S8e, τ8e, ρ8e⟩ := h8
      have S8e := S8e.symm; subst S8e
      have τ8e := τ8e.symm; subst τ8e
      have ρ8e := ρ8e.symm; subst ρ8e
      show gW Γ E (xM E S D R) _ _ _ _ (.ref (lsA R (rf R P.1 4) m) :: _)
      refine g_iload_n hΓ rfl dX0_strokeOf_33 ?_
      obtain ⟨b9, kb9, hbr9, hbe9, hbk9, hbq9, hbc9⟩ := lsOK_b (hlt4.2.2.1) (by rw [hkl4]; exact hkr4)
      have he10 := lsOK_e (hlt4.2.2.1) hbe9 (i := k) (by have := hlt4.1.1; omega)
      have hk10 : (S (lE R (lsA R (rf R P.1 4) m) k)).1 = 8 := by rw [he10.2, hkl4]; rcases hk34 with h9 | h9 | h9 <;> rw [h9] <;> rfl
      have hz12 : D (lsA R (rf R P.1 4) m) 2 = mnS σ m := hlt4.1.1
      refine x_callV (As := [.int (iI k)]) (rest := []) (c := 10) hE hΓ (x_J2_get hE hX S D R (lsA R (rf R P.1 4) m) b9 (lE R (lsA R (rf R P.1 4) m) k) kl4 kb9 ((S b9).2.1) k hkl4 hkr4 hbr9 hbk9 hbq9 rfl (by omega) (by omega) he10.1 ) hkl4 (ks_10_17 hkr4) rfl rfl q857 q858 q859 q127 q860 ndJ2_get rfl (by decide) (by decide) (Nat.zero_le _) (Nat.zero_le _) rfl (Nat.le_of_ble_eq_true rfl) dX0_strokeOf_34 rfl (fun v11 S11 τ11 ρ11 h11 => ?_)
      obtain ⟨rfl, S11e, τ11e, ρ11e⟩ := h11
      have S11e := S11e.symm; subst S11e
      have τ11e := τ11e.symm; subst τ11e
      have ρ11e := ρ11e.symm; subst ρ11e
      show gW Γ E (xM E S D R) _ _ _ _ (.ref (lE R (lsA R (rf R P.1 4) m) k) :: _)
      refine x_castS (c := 8) hE hΓ rfl q915 hk10 ⟨by decide, rfl⟩ rfl dX0_strokeOf_37 ?_
      refine g_aload_n hΓ rfl dX0_strokeOf_40 ?_
      refine x_geta (r := some N) (c := 0) hE hΓ in_X0 rfl hp.1 ⟨by decide, rfl⟩ 4 (ji := 4) rfl (by decide) (by decide) rfl q250 rfl rfl hN.1.1 dX0_strokeOf_41 ?_
      show gW Γ E (xM E S D R) 0 0 _ _ (.ref N :: _)
      refine x_geta (r := some NV) (c := 1) hE hΓ in_X1 rfl hN.1.2 ⟨by decide, rfl⟩ 2 (ji := 2) rfl (by decide) (by decide) rfl q203 rfl rfl hN.2.2.2.1.1 dX0_strokeOf_44 ?_
      show gW Γ E (xM E S D R) 0 0 _ _ (.ref NV :: _)
      refine g_iconst hΓ dX0_strokeOf_47 ?_
      refine x_iald hΓ kNV nNV ⟨by decide, rfl⟩ (by omega) (by omega) dX0_strokeOf_48 ?_
      refine g_topi (hN.2.2.2.2.2.2.1) ?_
      refine x_callV (As := [.int (iI (σ 0 1042))]) (rest := []) (c := 8) hE hΓ (x_X8_laid hE hX S D R (lE R (lsA R (rf R P.1 4) m) k) (σ 0 1042) hk10 hG (by omega) hAw ) hk10 ⟨by decide, rfl⟩ rfl rfl q916 q917 q918 q144 q919 ndX8_laid rfl (by decide) (by decide) (Nat.zero_le _) (Nat.zero_le _) rfl (Nat.le_of_ble_eq_true rfl) dX0_strokeOf_49 rfl (fun v13 S13 τ13 ρ13 h13 => ?_)
      obtain ⟨rfl, h13, S13e, τ13f, ρ13e⟩ := h13
      have S13e := S13e.symm; subst S13e
      have ρ13e := ρ13e.symm; subst ρ13e
      show gW Γ E (xM E S τ13 R) _ _ _ _ (.ref (lE R (lsA R (rf R P.1 4) m) k) :: _)
      refine g_goto (tgt := 56) hΓ dX0_strokeOf_52 (by decide) ?_
      exact x_aret hΓ (Or.inl ⟨_, rfl⟩) (Or.inr ⟨_, rfl⟩) dX0_strokeOf_56 (Nat.zero_le _) (Nat.zero_le _) ⟨by rw [if_neg (by rw [stO, if_pos (by omega)]; have := hmr (by omega); omega)]; rfl, ⟨Rx_scr hx (fr_w τ13f (by decide)) fr_rfl h13.1, fun _ => by have h8 := h13.2.2.1; exact h8⟩, rfl, τ13f, rfl⟩
