set_option maxRecDepth 100000
set_option maxHeartbeats 4000000 in
theorem x_J2_addAll {l : Launch} {E : gE} {X : State → Prop} {Z : Nat → Nat} {Y : Nat → Option Nat} (hE : E.2.1 = clsX) (hX : xOK l E X Z Y) (S : xS) (D : xD) (R : xR) (a c k kc : Nat) (ha : (S a).1 = k) (hk : 10 ≤ k ∧ k ≤ 17) (hg : GI E Z S D R) (hc : (S c).1 = kc) (hkc : 10 ≤ kc ∧ kc ≤ 17) (hlk : lek kc = lek k) (hn : D a 2 = 0 ∧ D c 2 ≤ 10) (hnz : ¬ E.2.2 (Z 0)) : xC l E X yJ2_addAll cJ2_addAll 6 (some .boolean) 4 2 70 [.ref a, .ref c] S D R (fun rv S' D' R' => rv = some (.int (iI (if D c 2 = 0 then 0 else 1))) ∧ (GI E Z S' D' R' ∧ D' a 2 = D c 2 ∧ chg (lT S a) S S' D D' R R' ∧ (∀ i, 0 ≤ i → i < D c 2 → lE R' a i = lE R c i) ∧ (rf R a 1 = Z 0 → ∀ q, (S q).1 ≠ 0 → q ≠ a → D' q = D q ∧ R' q = R q)) ∧ sle S S') := by
  refine xC.ofF hX.1 (by decide +kernel) [some (.ref a), some (.ref c), none, none, none, none] (Nat.le_of_ble_eq_true rfl) rfl rfl (fun Γ hΓ => ?_)
  have hAw := hg.2.2.2.2.2.2
  have hk9 : 10 ≤ (S a).1 ∧ (S a).1 ≤ 17 := by rw [ha]; exact hk
  have hls := hg.2.1 a hk9.1 hk9.2
  have hne := ls_ne hg hk9
  have hwb := fun (h9 : 0 < (S (rf R a 1)).2.1) => ls_own hg hk9 h9
  obtain ⟨b1, kb1, hbr1, hbe1, hbk1, hbq1, hbc1⟩ := lsOK_b hls hk9
  rw [← hbe1] at hwb hne
  have hkc9 : 10 ≤ (S c).1 ∧ (S c).1 ≤ 17 := by rw [hc]; exact hkc
  have hlc := (hg.2.1 c hkc9.1 hkc9.2).2.1
  refine g_aload_n hΓ rfl dJ2_addAll_0 ?_
  refine x_callF (As := []) (rest := []) (c := 10) hE hΓ (x_J2_toArray hE hX S D R c kc hc hkc hg hnz ) hc (ks_10_17 hkc) rfl rfl (xn_fw hX) q1187 q1191 q1193 q127 q1195 (by decide +kernel) rfl (by decide) (by decide) (by omega) (by omega) rfl (Nat.le_of_ble_eq_true rfl) dJ2_addAll_1 rfl (fun v2 S2 τ2 ρ2 h2 => ?_)
  obtain ⟨q2, rfl, h2, S2f⟩ := h2
  have kd3 : (S2 a).1 = k := kup ha (by omega) S2f
  have kd4 : (S2 b1).1 = kb1 := kup hbk1 (by omega) S2f
  have ln4 : (S2 b1).2.1 = (S b1).2.1 := nup hbk1 (by omega) rfl S2f
  have kd5 : (S2 c).1 = kc := kup hc (by omega) S2f
  have q2z : (S q2).1 = 0 := h2.1
  have q2w : E.2.2 q2 := h2.2.1
  have S2e : S2 = uS S q2 121 ((D c 2).toNat) 0 := h2.2.2.1
  have S2q : S2 q2 = (121, (D c 2).toNat, 0) := by rw [S2e]; exact uS_s _ _ _ _ _
  have τ2f : ∀ (q9 : Nat) (j9 : Int), q9 ≠ q2 → τ2 q9 j9 = D q9 j9 := h2.2.2.2.1
  have kdq2 : (S2 q2).1 = 121 := by rw [S2q]
  have lnq2 : (S2 q2).2.1 = (D c 2).toNat := by rw [S2q]
  have ρ2f : ∀ (q9 : Nat) (j9 : Int), q9 ≠ q2 → ρ2 q9 j9 = R q9 j9 := h2.2.2.2.2.1
  have hgE := GI_one hg q2z q2w S2e τ2f ρ2f (by decide)
  have hTA : ∀ j : Int, 0 ≤ j → j < D c 2 → ρ2 q2 j = some (lE R c j) ∧ (S (lE R c j)).1 = lek kc := fun j x y => ⟨h2.2.2.2.2.2 j x y, by rw [← hc]; exact (ls_el hg hkc9 x y).2⟩
  show gW Γ E (xM E S2 τ2 ρ2) _ _ _ _ (.ref q2 :: _)
  refine g_astore_n hΓ dJ2_addAll_6 rfl (Nat.le_of_ble_eq_true rfl) (lv' := [some (.ref a), some (.ref c), some (.ref q2), none, none, none]) rfl ?_
  refine g_aload_n hΓ rfl dJ2_addAll_7 ?_
  refine g_dup hΓ rfl dJ2_addAll_8 ?_
  refine x_getiS (c := 10) hE hΓ in_J2 rfl kd3 (ks_10_17 hk) 0 (ji := 0) rfl (by decide) (by decide) rfl q179 q180 rfl dJ2_addAll_9 ?_
  refine g_topi ((τ2f a 0 (ne_k ha q2z (by omega)))) ?_
  refine g_iconst hΓ dJ2_addAll_12 ?_
  refine g_iadd hΓ dJ2_addAll_13 ?_
  refine x_putSi (c := 10) hE hΓ in_J2 rfl kd3 (ks_10_17 hk) tyJ2 tyJ2_ok nmJ2 (hAw _ (by rw [ha]; exact wk_10_17 hk)) 0 (ji := 0) rfl (by decide) (by decide) rfl q179 q180 rfl rfl rfl rfl rfl dJ2_addAll_14 (fun τ6 τ6e => ?_)
  have τ6r : τ6 a 0 = (D a 0) + 1 := by rw [τ6e]; exact us_s _ _ _ _
  have τ6f : ∀ (q9 : Nat) (j9 : Int), (q9 ≠ a ∨ j9 ≠ 0) → τ6 q9 j9 = τ2 q9 j9 := fun q9 j9 hh => by rw [τ6e]; exact us_n hh
  have hkS : 10 ≤ (S2 a).1 ∧ (S2 a).1 ≤ 17 := by rw [kd3]; exact hk
  have hm9 := GI_mod (D' := τ6) hgE.1 hkS τ6f
  have e29 : τ6 a 2 = D a 2 := ((τ6f a 2 (Or.inr (by decide))).trans (τ2f a 2 (ne_k ha q2z (by omega))))
  have eb9 : rf ρ2 a 1 = b1 := rf_s (((ρ2f a 1 (ne_k ha q2z (by omega))).trans hbr1))
  have hlT : ∀ q9, (S q9).1 ≠ 0 → lT S2 a q9 → lT S a q9 := fun q9 h9 h8 => by
    rcases h8 with h8 | h8
    · exact Or.inl h8
    · rw [S2f q9 h9, S2f a (by omega)] at h8; exact Or.inr h8
  refine g_aload_n hΓ rfl dJ2_addAll_17 ?_
  refine x_alen hΓ kdq2 lnq2 ⟨by decide, by decide⟩ dJ2_addAll_18 ?_
  refine g_topi (show (((D c 2).toNat : Nat) : Int) = D c 2 by omega) ?_
  obtain ⟨x7, ex7⟩ : ∃ z9 : Int, z9 = D c 2 := ⟨_, rfl⟩
  refine g_topi ex7.symm ?_
  refine g_istore_n hΓ dJ2_addAll_19 rfl (Nat.le_of_ble_eq_true rfl) (lv' := [some (.ref a), some (.ref c), some (.ref q2), some (.int (iI x7)), none, none]) rfl ?_
  refine g_iload_n hΓ rfl dJ2_addAll_20 ?_
  refine g_if_ne (tgt := 26) hΓ (by omega) dJ2_addAll_21 (by decide) (fun c8 => ?_) (fun c8 => ?_)
  · refine g_iload_n hΓ rfl dJ2_addAll_26 ?_
    refine g_aload_n hΓ rfl dJ2_addAll_27 ?_
    refine x_geta (r := some b1) (c := 10) hE hΓ in_J2 rfl kd3 (ks_10_17 hk) 1 (ji := 1) rfl (by decide) (by decide) rfl q176 rfl rfl ((ρ2f a 1 (ne_k ha q2z (by omega))).trans hbr1) dJ2_addAll_28 ?_
    show gW Γ E (xM E S2 τ6 ρ2) (0 + 1) (0 + (D c 2).toNat) _ _ (.ref b1 :: _)
    refine g_dup hΓ rfl dJ2_addAll_31 ?_
    refine g_astore hΓ dJ2_addAll_32 rfl (Nat.le_of_ble_eq_true rfl) (lv' := [some (.ref a), some (.ref c), some (.ref q2), some (.int (iI x7)), some (.ref b1), none]) rfl ?_
    refine x_alen hΓ kd4 ln4 (ksl (ks_20_28 hbq1)) dJ2_addAll_34 ?_
    refine g_aload_n hΓ rfl dJ2_addAll_35 ?_
    refine x_geti (c := 10) hE hΓ in_J2 rfl kd3 (ks_10_17 hk) 2 (ji := 2) rfl (by decide) (by decide) rfl q177 rfl rfl dJ2_addAll_36 ?_
    refine g_topi (((τ6f a 2 (Or.inr (by decide))).trans (τ2f a 2 (ne_k ha q2z (by omega))))) ?_
    refine g_dup hΓ rfl dJ2_addAll_39 ?_
    obtain ⟨x9, ex9⟩ : ∃ z9 : Int, z9 = D a 2 := ⟨_, rfl⟩
    refine g_topi ex9.symm ?_
    refine g_istore hΓ dJ2_addAll_40 rfl (Nat.le_of_ble_eq_true rfl) (lv' := [some (.ref a), some (.ref c), some (.ref q2), some (.int (iI x7)), some (.ref b1), some (.int (iI x9))]) rfl ?_
    refine g_isub hΓ dJ2_addAll_42 ?_
    refine g_icmp_le (tgt := 56) hΓ (by omega) (by omega) dJ2_addAll_43 (by decide) (fun c10 => ?_) (fun c10 => ?_)
    · refine g_aload_n hΓ rfl dJ2_addAll_56 ?_
      refine g_iconst hΓ dJ2_addAll_57 ?_
      refine g_aload hΓ rfl dJ2_addAll_58 ?_
      refine g_iload hΓ rfl dJ2_addAll_60 ?_
      refine g_iload_n hΓ rfl dJ2_addAll_62 ?_
      refine x_copyr hE hΓ (xn_new hX) rfl q1196 q194 q193 q128 kdq2 lnq2 ⟨by decide, rfl⟩ q2w kd4 ln4 (ks_20_28 hbq1) (hwb (by omega)).2.2.1 (fun i9 x9 y9 q9 h9 => by have h8 := hTA i9 (by omega) (by omega); rw [h9] at h8; have h7 := Option.some.inj h8.1; exact el_c hX hkc (by rw [h7, S2f _ (by rw [h8.2]; exact lek_ne hkc)]; exact h8.2)) (by omega) (by decide) (Nat.le_of_ble_eq_true rfl) rfl dJ2_addAll_63 (fun ρ11 ρ11g ρ11r => ?_)
      refine g_aload_n hΓ rfl dJ2_addAll_66 ?_
      refine g_iload hΓ rfl dJ2_addAll_67 ?_
      refine g_iload_n hΓ rfl dJ2_addAll_69 ?_
      refine g_iadd hΓ dJ2_addAll_70 ?_
      refine x_puti (c := 10) hE hΓ in_J2 rfl kd3 (ks_10_17 hk) tyJ2 tyJ2_ok nmJ2 (hAw _ (by rw [ha]; exact wk_10_17 hk)) 2 (ji := 2) rfl (by decide) (by decide) rfl q177 rfl rfl rfl rfl rfl rfl dJ2_addAll_71 (fun τ12 τ12e => ?_)
      have τ12r : τ12 a 2 = x9 + x7 := by rw [τ12e]; exact us_s _ _ _ _
      have τ12f : ∀ (q9 : Nat) (j9 : Int), (q9 ≠ a ∨ j9 ≠ 2) → τ12 q9 j9 = τ6 q9 j9 := fun q9 j9 hh => by rw [τ12e]; exact us_n hh
      refine g_iconst hΓ dJ2_addAll_74 ?_
      have hold : ∀ q9, (S q9).1 ≠ 0 → q9 ≠ q2 := fun q9 h9 e9 => h9 (by rw [e9]; exact q2z)
      have ho9 := hwb (by omega)
      have hkb9 : (S b1).1 ≠ 0 := by omega
      have hf9 := GI_row (S' := S2) (D' := τ12) (R' := ρ11) (b := b1) (n := D c 2) hg hk9 (lE R c) S2f (fun q9 h9 => by
        by_cases e9 : q9 = q2
        · exact ⟨Or.inr (Or.inr (by rw [e9, S2q])), fun _ => by rw [e9]; exact q2w⟩
        · rw [S2e, uS_n e9]
          exact ⟨Or.inl h9, fun h8 => absurd (by rw [h9] at h8; exact h8) (by decide)⟩) (by rw [S2f b1 hkb9]; exact ⟨ho9.1, ho9.2.1, ho9.2.2.2.1, ho9.2.2.2.2⟩) (fun q9 h9 h8 => funext fun j9 => (τ12f q9 j9 (Or.inl h8)).trans ((τ6f q9 j9 (Or.inl h8)).trans (τ2f q9 j9 (hold q9 h9)))) (fun q9 h9 h8 h7 => funext fun j9 => (ρ11g q9 j9 h7).trans (ρ2f q9 j9 (hold q9 h9))) ((ρ11g a 1 hne).trans ((ρ2f a 1 (hold a (by omega))).trans hbr1)) (τ12r.trans (by omega)) (by rw [S2f b1 hkb9]; omega) (fun i9 u9 v9 => by
        have h8 := hTA i9 u9 v9
        refine ⟨?_, by rw [S2f _ (by rw [h8.2]; exact lek_ne hkc), h8.2, hlk, ha]⟩
        rw [ρ11r, cpI, if_pos (by omega), show (0 : Int) + (i9 - x9) = i9 by omega]
        exact h8.1)
      exact x_zret hΓ (by omega) dJ2_addAll_75 (by omega) (by omega) ⟨ri (by rw [if_neg (by omega)]), ⟨hf9.1, hf9.2.1, hf9.2.2.1, hf9.2.2.2, (fun h9 => absurd (by rw [← h9, ← hbe1]; exact ho9.2.2.1) hnz)⟩, S2f⟩
    · refine g_aload_n hΓ rfl dJ2_addAll_46 ?_
      refine g_iload hΓ rfl dJ2_addAll_47 ?_
      refine g_iload_n hΓ rfl dJ2_addAll_49 ?_
      refine g_iadd hΓ dJ2_addAll_50 ?_
      refine x_callV (As := [.int (iI (x9 + x7))]) (rest := []) (c := 10) hE hΓ (x_J2_grow_2 hE hX S2 τ6 ρ2 a k (x9 + x7) kd3 hk hm9.1 (by omega) (by rw [eb9, ln4, e29]; have h9 := fun h8 => ls_z hg hk9 h8; rw [← hbe1] at h9; by_cases c9 : (S b1).2.1 < 10; have := (h9 c9).2.2; omega; omega) (by omega) ) kd3 (ks_10_17 hk) rfl rfl q714 q716 qs18 q127 q717 ndJ2_grow_2 rfl (by decide) (by decide) (by omega) (by omega) rfl (Nat.le_of_ble_eq_true rfl) dJ2_addAll_51 rfl (fun v13 S13 τ13 ρ13 h13 => ?_)
      obtain ⟨q13, rfl, h13, S13f⟩ := h13
      have kd14 : (S13 a).1 = k := kup kd3 (by omega) S13f
      have kd15 : (S13 b1).1 = kb1 := kup kd4 (by omega) S13f
      have ln15 : (S13 b1).2.1 = (S b1).2.1 := nup kd4 (by omega) ln4 S13f
      have kd16 : (S13 c).1 = kc := kup kd5 (by omega) S13f
      have kd17 : (S13 q2).1 = 121 := kup kdq2 (by decide) S13f
      have ln17 : (S13 q2).2.1 = (D c 2).toNat := nup kdq2 (by decide) lnq2 S13f
      obtain ⟨n13, hu13, hn113, hn213, hn313⟩ := h13.2.2.1
      have hkr : k + 10 ≠ 0 ∧ kty (k + 10) = 5 := ks_20_27 (by omega)
      have q13z : (S2 q13).1 = 0 := h13.1
      have q13w : E.2.2 q13 := h13.2.1
      have S13e : S13 = uS S2 q13 (k + 10) n13 a := hu13
      have S13q : S13 q13 = ((k + 10), n13, a) := by rw [S13e]; exact uS_s _ _ _ _ _
      have τ13f : ∀ (q9 : Nat) (j9 : Int), q9 ≠ q13 → τ13 q9 j9 = τ6 q9 j9 := h13.2.2.2.1
      have kdq13 : (S13 q13).1 = (k + 10) := by rw [S13q]
      have lnq13 : (S13 q13).2.1 = n13 := by rw [S13q]
      have hqq : q2 ≠ q13 := fun e9 => by have h9 := q13z; rw [← e9, S2q] at h9; exact absurd h9 (by decide : ¬ (121 : Nat) = 0)
      have haq1 : q2 ≠ a := fun e9 => by have h9 := q2z; rw [e9, ha] at h9; omega
      have hTA := fun (j : Int) (x : 0 ≤ j) (y : j < D c 2) => (⟨(h13.2.2.2.2.1 q2 j hqq (Or.inl haq1)).trans (hTA j x y).1, (hTA j x y).2⟩ : ρ13 q2 j = some (lE R c j) ∧ (S (lE R c j)).1 = lek kc)
      show gW Γ E (xM E S13 τ13 ρ13) _ _ _ _ (.ref q13 :: _)
      refine g_astore hΓ dJ2_addAll_54 rfl (Nat.le_of_ble_eq_true rfl) (lv' := [some (.ref a), some (.ref c), some (.ref q2), some (.int (iI x7)), some (.ref q13), some (.int (iI x9))]) rfl ?_
      refine g_aload_n hΓ rfl dJ2_addAll_56 ?_
      refine g_iconst hΓ dJ2_addAll_57 ?_
      refine g_aload hΓ rfl dJ2_addAll_58 ?_
      refine g_iload hΓ rfl dJ2_addAll_60 ?_
      refine g_iload_n hΓ rfl dJ2_addAll_62 ?_
      refine x_copyr hE hΓ (xn_new hX) rfl q1196 q194 q193 q128 kd17 ln17 ⟨by decide, rfl⟩ q2w kdq13 lnq13 hkr q13w (fun i9 x9 y9 q9 h9 => by have h8 := hTA i9 (by omega) (by omega); rw [h9] at h8; have h7 := Option.some.inj h8.1; exact el_c hX hkc (by rw [h7, (sle_t S2f S13f) _ (by rw [h8.2]; exact lek_ne hkc)]; exact h8.2)) (by omega) (by decide) (Nat.le_of_ble_eq_true rfl) rfl dJ2_addAll_63 (fun ρ18 ρ18g ρ18r => ?_)
      refine g_aload_n hΓ rfl dJ2_addAll_66 ?_
      refine g_iload hΓ rfl dJ2_addAll_67 ?_
      refine g_iload_n hΓ rfl dJ2_addAll_69 ?_
      refine g_iadd hΓ dJ2_addAll_70 ?_
      refine x_puti (c := 10) hE hΓ in_J2 rfl kd14 (ks_10_17 hk) tyJ2 tyJ2_ok nmJ2 (hAw _ (by rw [ha]; exact wk_10_17 hk)) 2 (ji := 2) rfl (by decide) (by decide) rfl q177 rfl rfl rfl rfl rfl rfl dJ2_addAll_71 (fun τ19 τ19e => ?_)
      have τ19r : τ19 a 2 = x9 + x7 := by rw [τ19e]; exact us_s _ _ _ _
      have τ19f : ∀ (q9 : Nat) (j9 : Int), (q9 ≠ a ∨ j9 ≠ 2) → τ19 q9 j9 = τ13 q9 j9 := fun q9 j9 hh => by rw [τ19e]; exact us_n hh
      refine g_iconst hΓ dJ2_addAll_74 ?_
      have hold : ∀ q9, (S q9).1 ≠ 0 → q9 ≠ q2 := fun q9 h9 e9 => h9 (by rw [e9]; exact q2z)
      have hold2 : ∀ q9, (S q9).1 ≠ 0 → q9 ≠ q13 := fun q9 h9 e9 => h9 (by have h8 := q13z; rw [← e9, S2f q9 h9] at h8; exact h8)
      have hf9 := GI_row (S' := S13) (D' := τ19) (R' := ρ18) (b := q13) (n := D c 2) hg hk9 (lE R c) (sle_t S2f S13f) (fun q9 h9 => by
        by_cases e9 : q9 = q13
        · exact ⟨Or.inr (Or.inl e9), fun _ => by rw [e9]; exact q13w⟩
        · rw [hu13, uS_n e9]
          by_cases e8 : q9 = q2
          · exact ⟨Or.inr (Or.inr (by rw [e8, S2q])), fun _ => by rw [e8]; exact q2w⟩
          · rw [S2e, uS_n e8]
            exact ⟨Or.inl h9, fun h8 => absurd (by rw [h9] at h8; exact h8) (by decide)⟩) (by rw [S13q, ha]; exact ⟨rfl, rfl, hn113, by show n13 ≤ 1000; omega⟩) (fun q9 h9 h8 => funext fun j9 => (τ19f q9 j9 (Or.inl h8)).trans ((τ13f q9 j9 (hold2 q9 h9)).trans ((τ6f q9 j9 (Or.inl h8)).trans (τ2f q9 j9 (hold q9 h9))))) (fun q9 h9 h8 h7 => funext fun j9 => (ρ18g q9 j9 h7).trans ((h13.2.2.2.2.1 q9 j9 h7 (Or.inl h8)).trans (ρ2f q9 j9 (hold q9 h9)))) ((ρ18g a 1 (hold2 a (by omega))).trans h13.2.2.2.2.2.1) (τ19r.trans (by omega)) (by rw [S13q]; show 0 ≤ D c 2 ∧ D c 2 ≤ (n13 : Int); omega) (fun i9 u9 v9 => by
        have h8 := hTA i9 u9 v9
        refine ⟨?_, by rw [(sle_t S2f S13f) _ (by rw [h8.2]; exact lek_ne hkc), h8.2, hlk, ha]⟩
        rw [ρ18r, cpI, if_pos (by omega), show (0 : Int) + (i9 - x9) = i9 by omega]
        exact h8.1)
      exact x_zret hΓ (by omega) dJ2_addAll_75 (by omega) (by omega) ⟨ri (by rw [if_neg (by omega)]), ⟨hf9.1, hf9.2.1, hf9.2.2.1, hf9.2.2.2, (fun _ q9 h9 h8 => ⟨(fun q9 h9 h8 => funext fun j9 => (τ19f q9 j9 (Or.inl h8)).trans ((τ13f q9 j9 (hold2 q9 h9)).trans ((τ6f q9 j9 (Or.inl h8)).trans (τ2f q9 j9 (hold q9 h9))))) q9 h9 h8, (fun q9 h9 h8 h7 => funext fun j9 => (ρ18g q9 j9 h7).trans ((h13.2.2.2.2.1 q9 j9 h7 (Or.inl h8)).trans (ρ2f q9 j9 (hold q9 h9)))) q9 h9 h8 (hold2 q9 h9)⟩)⟩, (sle_t S2f S13f)⟩
  · refine g_iconst hΓ dJ2_addAll_24 ?_
    exact x_zret hΓ (by omega) dJ2_addAll_25 (by omega) (by omega) ⟨ri (by rw [if_pos (by omega)]), ⟨hm9.1, by rw [e29]; omega, chg_t (chg_ext hgE.2) hm9.2 hlT, fun i9 x9 y9 => by omega, fun _ q9 h9 h8 => ⟨funext fun j9 => (τ6f q9 j9 (Or.inl h8)).trans (τ2f q9 j9 (fun e9 => h9 (by rw [e9]; exact q2z))), hgE.2.2.2 q9 h9⟩⟩, S2f⟩
