set_option maxRecDepth 100000
set_option maxHeartbeats 4000000 in
theorem x_J10_newLength {l : Launch} {E : gE} {X : State → Prop} {Z : Nat → Nat} {Y : Nat → Option Nat} (hE : E.2.1 = clsX) (hX : xOK l E X Z Y) (S : xS) (D : xD) (R : xR) (o g p : Int) (ho : 0 ≤ o ∧ o ≤ 1000) (hg : 1 ≤ g ∧ g ≤ 1000) (hp : 0 ≤ p ∧ p ≤ 1000) : xC l E X yJ10_newLength cJ10_newLength 4 (some .int) 2 0 0 [.int (iI o), .int (iI g), .int (iI p)] S D R (fun rv S' D' R' => rv = some (.int (iI (o + max g p))) ∧ S' = S ∧ D' = D ∧ R' = R) := by
  refine xC.ofF hX.1 (by decide +kernel) [some (.int (iI o)), some (.int (iI g)), some (.int (iI p)), none] (Nat.le_of_ble_eq_true rfl) rfl rfl (fun Γ hΓ => ?_)
  refine g_iload_n hΓ rfl dJ10_newLength_0 ?_
  refine g_iload_n hΓ rfl dJ10_newLength_1 ?_
  refine g_iload_n hΓ rfl dJ10_newLength_2 ?_
  refine x_callS (As := [.int (iI g), .int (iI p)]) (rest := [.int (iI o)]) hΓ (x_J3_max hE hX S D R g p (by first | assumption | omega) (by first | assumption | omega)) rfl q721 q722 q129 q723 ndJ3_max rfl (by decide) (by decide) (Nat.zero_le _) (Nat.zero_le _) rfl (Nat.le_of_ble_eq_true rfl) dJ10_newLength_3 rfl (fun v1 S1 τ1 ρ1 h1 => ?_)
  obtain ⟨rfl, S1e, τ1e, ρ1e⟩ := h1
  have S1e := S1e.symm; subst S1e
  have τ1e := τ1e.symm; subst τ1e
  have ρ1e := ρ1e.symm; subst ρ1e
  show gW Γ E (xM E S D R) _ _ _ _ (.int (iI (max g p)) :: _)
  refine g_iadd hΓ dJ10_newLength_6 ?_
  obtain ⟨x2, ex2⟩ : ∃ z9 : Int, z9 = o + (max g p) := ⟨_, rfl⟩
  refine g_topi ex2.symm ?_
  refine g_istore_n hΓ dJ10_newLength_7 rfl (Nat.le_of_ble_eq_true rfl) (lv' := [some (.int (iI o)), some (.int (iI g)), some (.int (iI p)), some (.int (iI x2))]) rfl ?_
  refine g_iconst hΓ dJ10_newLength_8 ?_
  refine g_iload_n hΓ rfl dJ10_newLength_9 ?_
  refine g_icmp_ge (tgt := 21) hΓ (by omega) (by omega) dJ10_newLength_10 (by decide) (fun c3 => ?_) (fun c3 => ?_)
  · exact absurd c3 (by omega)
  · refine g_iload_n hΓ rfl dJ10_newLength_13 ?_
    refine g_ldc (n := 2147483639) hΓ rfl q724 (by decide) dJ10_newLength_14 ?_
    refine g_icmp_gt (tgt := 21) hΓ (by omega) (by omega) dJ10_newLength_16 (by decide) (fun c4 => ?_) (fun c4 => ?_)
    · exact absurd c4 (by omega)
    · refine g_iload_n hΓ rfl dJ10_newLength_19 ?_
      exact x_iret hΓ dJ10_newLength_20 (Nat.zero_le _) (Nat.zero_le _) ⟨ri (by first | rfl | omega | (simp_all; done) | (simp_all; omega)), rfl, rfl, rfl⟩
set_option maxHeartbeats 4000000 in
theorem x_J11_copyOf_2 {l : Launch} {E : gE} {X : State → Prop} {Z : Nat → Nat} {Y : Nat → Option Nat} (hE : E.2.1 = clsX) (hX : xOK l E X Z Y) (S : xS) (D : xD) (R : xR) (b kb nb kq o : Nat) (n : Int) (hb : (S b).1 = kb) (hkb : kb ≠ 0 ∧ kty kb = 5) (hnb : (S b).2.1 = nb) (hn2 : nb ≤ 1000) (hn : 0 ≤ n ∧ n ≤ 1000) (hkq : kq ≠ 0 ∧ kty kq = 5) (hw : (E.2.2 b ∧ ∀ i : Int, 0 ≤ i → i < 0 + min (nb : Int) n → ∀ q : Nat, R b i = some q → ∃ c : Nat, ((S q).1 ≠ 0 ∧ kty (S q).1 = 10 + c) ∧ ∃ r : vw_C, clsX[c]? = some r ∧ ∀ U, X U → va_Nw (.castable r.1 "java/lang/Object") U) ∨ (nb = 0 ∧ ¬ E.2.2 b)) : xC l E X yJ11_copyOf_2 cJ11_copyOf_2 4 (some (.array (.object "java/lang/Object"))) 1 1 (n.toNat) [.ref b, .int (iI n), .ref (Z 6)] S D R (fun rv S' D' R' => ∃ q9 : Nat, rv = some (.ref q9) ∧ ((S q9).1 = 0 ∧ E.2.2 q9 ∧ S' = uS S q9 kq n.toNat o ∧ (∀ (p : Nat) (j : Int), p ≠ q9 → D' p j = D p j) ∧ (∀ (p : Nat) (j : Int), p ≠ q9 → R' p j = R p j) ∧ ∀ j : Int, 0 ≤ j → j < min (nb : Int) n → R' q9 j = R b j) ∧ sle S S') := by
  refine xC.ofF hX.1 (by decide +kernel) [some (.ref b), some (.int (iI n)), some (.ref (Z 6)), none] (Nat.le_of_ble_eq_true rfl) rfl rfl (fun Γ hΓ => ?_)
  refine g_aload_n hΓ rfl dJ11_copyOf_2_0 ?_
  refine g_ldcM hΓ rfl q750 (xn_mi hX) dJ11_copyOf_2_1 ?_
  refine g_acmp_ne (tgt := 13) hΓ dJ11_copyOf_2_3 (by decide) (fun c1 => ?_) (fun c1 => ?_)
  · exact absurd c1 (fun h9 => h9 rfl)
  · refine g_iload_n hΓ rfl dJ11_copyOf_2_6 ?_
    refine x_anewO hΓ (xn_new hX) kq o hkq (xn_AO hX) rfl q752 (by omega) (by omega) (by omega) dJ11_copyOf_2_7 (fun q2 S2 δ2 ρ2 q2z q2w S2e δ2e ρ2e => ?_)
    have S2f : ∀ q9 : Nat, (S q9).1 ≠ 0 → S2 q9 = S q9 := fun q9 h9 => by rw [S2e]; exact uS_n (fun e9 => h9 (by rw [e9]; exact q2z))
    have S2q : S2 q2 = (kq, (n).toNat, o) := by rw [S2e]; exact uS_s _ _ _ _ _
    have δ2z : ∀ j9 : Int, δ2 q2 j9 = 0 := fun j9 => by rw [δ2e, uN_s]
    have δ2f : ∀ (q9 : Nat) (j9 : Int), q9 ≠ q2 → δ2 q9 j9 = D q9 j9 := fun q9 j9 h9 => by rw [δ2e, uN_n h9]
    have ρ2z : ∀ j9 : Int, ρ2 q2 j9 = none := fun j9 => by rw [ρ2e, uN_s]
    have ρ2f : ∀ (q9 : Nat) (j9 : Int), q9 ≠ q2 → ρ2 q9 j9 = R q9 j9 := fun q9 j9 h9 => by rw [ρ2e, uN_n h9]
    have kd3 : (S2 b).1 = kb := kup hb (by omega) S2f
    have ln3 : (S2 b).2.1 = nb := nup hb (by omega) hnb S2f
    have kdq2 : (S2 q2).1 = kq := by rw [S2q]
    have lnq2 : (S2 q2).2.1 = (n).toNat := by rw [S2q]
    refine g_goto (tgt := 24) hΓ dJ11_copyOf_2_10 (by decide) ?_
    refine g_astore_n hΓ dJ11_copyOf_2_24 rfl (Nat.le_of_ble_eq_true rfl) (lv' := [some (.ref b), some (.int (iI n)), some (.ref (Z 6)), some (.ref q2)]) rfl ?_
    refine g_aload_n hΓ rfl dJ11_copyOf_2_25 ?_
    refine g_iconst hΓ dJ11_copyOf_2_26 ?_
    refine g_aload_n hΓ rfl dJ11_copyOf_2_27 ?_
    refine g_iconst hΓ dJ11_copyOf_2_28 ?_
    refine g_aload_n hΓ rfl dJ11_copyOf_2_29 ?_
    refine x_alen hΓ kd3 ln3 (ksl hkb) dJ11_copyOf_2_30 ?_
    refine g_iload_n hΓ rfl dJ11_copyOf_2_31 ?_
    refine x_callS (As := [.int (iI ((nb : Nat) : Int)), .int (iI n)]) (rest := [.int (iI 0), .ref q2, .int (iI 0), .ref b]) hΓ (x_J3_min hE hX S2 δ2 ρ2 ((nb : Nat) : Int) n (by first | assumption | omega) (by first | assumption | omega)) rfl q753 q223 q129 q224 ndJ3_min rfl (by decide) (by decide) (by omega) (by omega) rfl (Nat.le_of_ble_eq_true rfl) dJ11_copyOf_2_32 rfl (fun v4 S4 τ4 ρ4 h4 => ?_)
    obtain ⟨rfl, S4e, τ4e, ρ4e⟩ := h4
    have S4e := S4e.symm; subst S4e
    have τ4e := τ4e.symm; subst τ4e
    have ρ4e := ρ4e.symm; subst ρ4e
    show gW Γ E (xM E S2 δ2 ρ2) _ _ _ _ (.int (iI (min ((nb : Nat) : Int) n)) :: _)
    have hbS : (S2 b).1 = kb ∧ (S2 b).2.1 = nb := ⟨kd3, ln3⟩
    have hbq : b ≠ q2 := fun e9 => hkb.1 (by rw [← hb, e9]; exact q2z)
    have hRb : ∀ j : Int, ρ2 b j = R b j := fun j => ρ2f b j hbq
    rcases hw with ⟨hw1, hw2⟩ | ⟨hw1, hw2⟩
    · refine x_copyr hE hΓ (xn_new hX) rfl q754 q194 q193 q128 kd3 ln3 hkb hw1 kdq2 lnq2 hkq q2w (fun i9 x9 y9 q9 h9 => by obtain ⟨c8, h8, h7⟩ := hw2 i9 x9 y9 q9 ((hRb i9).symm.trans h9); exact ⟨c8, by rw [S2f q9 h8.1]; exact h8, h7⟩) (by omega) (by decide) (Nat.le_of_ble_eq_true rfl) rfl dJ11_copyOf_2_35 (fun ρ5 ρ5g ρ5r => ?_)
      refine g_aload_n hΓ rfl dJ11_copyOf_2_38 ?_
      exact x_aret hΓ (Or.inr ⟨_, rfl⟩) (Or.inr ⟨_, rfl⟩) dJ11_copyOf_2_39 (by omega) (by omega) ⟨q2, rfl, ⟨q2z, q2w, S2e, (fun p9 j9 h9 => δ2f p9 j9 h9), (fun p9 j9 h9 => (ρ5g p9 j9 h9).trans (ρ2f p9 j9 h9)), (fun j9 x9 y9 => by rw [ρ5r, cpI, if_pos (by omega), show (0 : Int) + (j9 - 0) = j9 by omega]; exact hRb j9)⟩, S2f⟩
    · refine g_topi (show (min ((nb : Nat) : Int) n : Int) = 0 by omega) ?_
      refine x_copyg hΓ (xn_new hX) rfl q754 q194 q193 q128 kd3 (ln3.trans hw1) hkb hw2 kdq2 lnq2 hkq q2w (by omega) (by decide) (Nat.le_of_ble_eq_true rfl) rfl dJ11_copyOf_2_35 ?_
      refine g_aload_n hΓ rfl dJ11_copyOf_2_38 ?_
      exact x_aret hΓ (Or.inr ⟨_, rfl⟩) (Or.inr ⟨_, rfl⟩) dJ11_copyOf_2_39 (by omega) (by omega) ⟨q2, rfl, ⟨q2z, q2w, S2e, (fun p9 j9 h9 => δ2f p9 j9 h9), (fun p9 j9 h9 => ρ2f p9 j9 h9), (fun j9 x9 y9 => by omega)⟩, S2f⟩
set_option maxHeartbeats 4000000 in
theorem x_J11_copyOf {l : Launch} {E : gE} {X : State → Prop} {Z : Nat → Nat} {Y : Nat → Option Nat} (hE : E.2.1 = clsX) (hX : xOK l E X Z Y) (S : xS) (D : xD) (R : xR) (b kb nb kq o : Nat) (n : Int) (hb : (S b).1 = kb) (hkb : kb ≠ 0 ∧ kty kb = 5) (hnb : (S b).2.1 = nb) (hn2 : nb ≤ 1000) (hn : 0 ≤ n ∧ n ≤ 1000) (hkq : kq ≠ 0 ∧ kty kq = 5) (hw : (E.2.2 b ∧ ∀ i : Int, 0 ≤ i → i < 0 + min (nb : Int) n → ∀ q : Nat, R b i = some q → ∃ c : Nat, ((S q).1 ≠ 0 ∧ kty (S q).1 = 10 + c) ∧ ∃ r : vw_C, clsX[c]? = some r ∧ ∀ U, X U → va_Nw (.castable r.1 "java/lang/Object") U) ∨ (nb = 0 ∧ ¬ E.2.2 b)) : xC l E X yJ11_copyOf cJ11_copyOf 2 (some (.array (.object "java/lang/Object"))) 2 1 (n.toNat) [.ref b, .int (iI n)] S D R (fun rv S' D' R' => ∃ q9 : Nat, rv = some (.ref q9) ∧ ((S q9).1 = 0 ∧ E.2.2 q9 ∧ S' = uS S q9 kq n.toNat o ∧ (∀ (p : Nat) (j : Int), p ≠ q9 → D' p j = D p j) ∧ (∀ (p : Nat) (j : Int), p ≠ q9 → R' p j = R p j) ∧ ∀ j : Int, 0 ≤ j → j < min (nb : Int) n → R' q9 j = R b j) ∧ sle S S') := by
  refine xC.ofF hX.1 (by decide +kernel) [some (.ref b), some (.int (iI n))] (Nat.le_of_ble_eq_true rfl) rfl rfl (fun Γ hΓ => ?_)
  refine g_aload_n hΓ rfl dJ11_copyOf_0 ?_
  refine g_iload_n hΓ rfl dJ11_copyOf_1 ?_
  refine g_aload_n hΓ rfl dJ11_copyOf_2 ?_
  refine x_getC hΓ rfl q731 (xn_dc hX) q2009 q732 q746 (xn_mi hX) hb hnb hkb (by decide) (Nat.le_of_ble_eq_true rfl) rfl dJ11_copyOf_3 ?_
  refine x_callS (As := [.ref b, .int (iI n), .ref (Z 6)]) (rest := []) hΓ (x_J11_copyOf_2 hE hX S D R b kb nb kq o n hb hkb hnb hn2 hn hkq hw ) rfl q747 q748 q142 q749 ndJ11_copyOf_2 rfl (by decide) (by decide) (by omega) (by omega) rfl (Nat.le_of_ble_eq_true rfl) dJ11_copyOf_6 rfl (fun v1 S1 τ1 ρ1 h1 => ?_)
  obtain ⟨q1, rfl, h1, S1f⟩ := h1
  have kd2 : (S1 b).1 = kb := kup hb (by omega) S1f
  have ln2 : (S1 b).2.1 = nb := nup hb (by omega) hnb S1f
  show gW Γ E (xM E S1 τ1 ρ1) _ _ _ _ (.ref q1 :: _)
  exact x_aret hΓ (Or.inr ⟨_, rfl⟩) (Or.inr ⟨_, rfl⟩) dJ11_copyOf_9 (by omega) (by omega) ⟨q1, rfl, h1, S1f⟩
set_option maxHeartbeats 4000000 in
theorem x_J2_toArray {l : Launch} {E : gE} {X : State → Prop} {Z : Nat → Nat} {Y : Nat → Option Nat} (hE : E.2.1 = clsX) (hX : xOK l E X Z Y) (S : xS) (D : xD) (R : xR) (a k : Nat) (ha : (S a).1 = k) (hk : 10 ≤ k ∧ k ≤ 17) (hg : GI E Z S D R) (hnz : ¬ E.2.2 (Z 0)) : xC l E X yJ2_toArray cJ2_toArray 1 (some (.array (.object "java/lang/Object"))) 3 1 ((D a 2).toNat) [.ref a] S D R (fun rv S' D' R' => ∃ q9 : Nat, rv = some (.ref q9) ∧ ((S q9).1 = 0 ∧ E.2.2 q9 ∧ S' = uS S q9 121 (D a 2).toNat 0 ∧ (∀ (p : Nat) (j : Int), p ≠ q9 → D' p j = D p j) ∧ (∀ (p : Nat) (j : Int), p ≠ q9 → R' p j = R p j) ∧ ∀ j : Int, 0 ≤ j → j < D a 2 → R' q9 j = some (lE R a j)) ∧ sle S S') := by
  refine xC.ofF hX.1 (by decide +kernel) [some (.ref a)] (Nat.le_of_ble_eq_true rfl) rfl rfl (fun Γ hΓ => ?_)
  have hAw := hg.2.2.2.2.2.2
  have hk9 : 10 ≤ (S a).1 ∧ (S a).1 ≤ 17 := by rw [ha]; exact hk
  have hls := hg.2.1 a hk9.1 hk9.2
  have hne := ls_ne hg hk9
  have hwb := fun (h9 : 0 < (S (rf R a 1)).2.1) => ls_own hg hk9 h9
  obtain ⟨b1, kb1, hbr1, hbe1, hbk1, hbq1, hbc1⟩ := lsOK_b hls hk9
  rw [← hbe1] at hwb hne
  refine g_aload_n hΓ rfl dJ2_toArray_0 ?_
  refine x_geta (r := some b1) (c := 10) hE hΓ in_J2 rfl ha (ks_10_17 hk) 1 (ji := 1) rfl (by decide) (by decide) rfl q176 rfl rfl hbr1 dJ2_toArray_1 ?_
  show gW Γ E (xM E S D R) 0 0 _ _ (.ref b1 :: _)
  refine g_aload_n hΓ rfl dJ2_toArray_4 ?_
  refine x_geti (c := 10) hE hΓ in_J2 rfl ha (ks_10_17 hk) 2 (ji := 2) rfl (by decide) (by decide) rfl q177 rfl rfl dJ2_toArray_5 ?_
  refine x_callS (As := [.ref b1, .int (iI (D a 2))]) (rest := []) hΓ (x_J11_copyOf hE hX S D R b1 kb1 (S b1).2.1 121 0 (D a 2) hbk1 (ks_20_28 hbq1) rfl (by omega) (by omega) ⟨by decide, rfl⟩ (by
    by_cases c9 : 0 < (S b1).2.1
    · exact Or.inl ⟨(hwb c9).2.2.1, fun i9 x9 y9 => ls_hel hX hg hk9 hbe1 (sp := 0) (n := min ((S b1).2.1 : Int) (D a 2)) (by omega) i9 x9 y9⟩
    · have h8 := ls_z hg hk9 (by rw [← hbe1]; omega)
      rw [← hbe1] at h8
      exact Or.inr ⟨h8.2.2, by rw [h8.1]; exact hnz⟩) ) rfl q728 q729 q142 q730 ndJ11_copyOf rfl (by decide) (by decide) (by omega) (by omega) rfl (Nat.le_of_ble_eq_true rfl) dJ2_toArray_8 rfl (fun v2 S2 τ2 ρ2 h2 => ?_)
  obtain ⟨q2, rfl, h2, S2f⟩ := h2
  have kd3 : (S2 a).1 = k := kup ha (by omega) S2f
  have kd4 : (S2 b1).1 = kb1 := kup hbk1 (by omega) S2f
  have ln4 : (S2 b1).2.1 = (S b1).2.1 := nup hbk1 (by omega) rfl S2f
  show gW Γ E (xM E S2 τ2 ρ2) _ _ _ _ (.ref q2 :: _)
  exact x_aret hΓ (Or.inr ⟨_, rfl⟩) (Or.inr ⟨_, rfl⟩) dJ2_toArray_11 (by omega) (by omega) ⟨q2, rfl, ⟨h2.1, h2.2.1, h2.2.2.1, h2.2.2.2.1, h2.2.2.2.2.1, fun j9 x9 y9 => by rw [h2.2.2.2.2.2 j9 x9 (by omega), hbe1]; exact (ls_el hg hk9 x9 y9).1⟩, S2f⟩
set_option maxHeartbeats 4000000 in
theorem x_J2_grow_2 {l : Launch} {E : gE} {X : State → Prop} {Z : Nat → Nat} {Y : Nat → Option Nat} (hE : E.2.1 = clsX) (hX : xOK l E X Z Y) (S : xS) (D : xD) (R : xR) (a k : Nat) (m : Int) (ha : (S a).1 = k) (hk : 10 ≤ k ∧ k ≤ 17) (hg : GI E Z S D R) (hm : D a 2 < m ∧ m ≤ 30) (hcap : ((S (rf R a 1)).2.1 : Int) = D a 2) (hn : D a 2 ≤ 20) : xC l E X yJ2_grow_2 cJ2_grow_2 4 (some (.array (.object "java/lang/Object"))) 3 1 60 [.ref a, .int (iI m)] S D R (fun rv S' D' R' => ∃ q9 : Nat, rv = some (.ref q9) ∧ ((S q9).1 = 0 ∧ E.2.2 q9 ∧ (∃ n : Nat, S' = uS S q9 (k + 10) n a ∧ 10 ≤ n ∧ m ≤ (n : Int) ∧ n ≤ 60) ∧ (∀ (p : Nat) (j : Int), p ≠ q9 → D' p j = D p j) ∧ (∀ (p : Nat) (j : Int), p ≠ q9 → (p ≠ a ∨ j ≠ 1) → R' p j = R p j) ∧ R' a 1 = some q9 ∧ ∀ j : Int, 0 ≤ j → j < D a 2 → R' q9 j = R (rf R a 1) j) ∧ sle S S') := by
  refine xC.ofF hX.1 (by decide +kernel) [some (.ref a), some (.int (iI m)), none, none] (Nat.le_of_ble_eq_true rfl) rfl rfl (fun Γ hΓ => ?_)
  have hAw := hg.2.2.2.2.2.2
  have hk9 : 10 ≤ (S a).1 ∧ (S a).1 ≤ 17 := by rw [ha]; exact hk
  have hls := hg.2.1 a hk9.1 hk9.2
  have hne := ls_ne hg hk9
  have hwb := fun (h9 : 0 < (S (rf R a 1)).2.1) => ls_own hg hk9 h9
  obtain ⟨b1, kb1, hbr1, hbe1, hbk1, hbq1, hbc1⟩ := lsOK_b hls hk9
  rw [← hbe1] at hwb hne
  have hkr : k + 10 ≠ 0 ∧ kty (k + 10) = 5 := ks_20_27 (by omega)
  rw [← hbe1] at hcap
  have hz0 : (S b1).2.1 = 0 → b1 = Z 0 := fun h9 => by rw [hbe1]; exact (ls_z hg hk9 (by rw [← hbe1]; omega)).1
  refine g_aload_n hΓ rfl dJ2_grow_2_0 ?_
  refine x_geta (r := some b1) (c := 10) hE hΓ in_J2 rfl ha (ks_10_17 hk) 1 (ji := 1) rfl (by decide) (by decide) rfl q176 rfl rfl hbr1 dJ2_grow_2_1 ?_
  show gW Γ E (xM E S D R) 0 0 _ _ (.ref b1 :: _)
  refine x_alen hΓ hbk1 rfl (ksl (ks_20_28 hbq1)) dJ2_grow_2_4 ?_
  obtain ⟨x2, ex2⟩ : ∃ z9 : Int, z9 = (((S b1).2.1 : Nat) : Int) := ⟨_, rfl⟩
  refine g_topi ex2.symm ?_
  refine g_istore_n hΓ dJ2_grow_2_5 rfl (Nat.le_of_ble_eq_true rfl) (lv' := [some (.ref a), some (.int (iI m)), some (.int (iI x2)), none]) rfl ?_
  refine g_iload_n hΓ rfl dJ2_grow_2_6 ?_
  refine g_if_gt (tgt := 20) hΓ (by omega) dJ2_grow_2_7 (by decide) (fun c3 => ?_) (fun c3 => ?_)
  · refine g_iload_n hΓ rfl dJ2_grow_2_20 ?_
    refine g_iload_n hΓ rfl dJ2_grow_2_21 ?_
    refine g_iload_n hΓ rfl dJ2_grow_2_22 ?_
    refine g_isub hΓ dJ2_grow_2_23 ?_
    refine g_iload_n hΓ rfl dJ2_grow_2_24 ?_
    refine g_iconst hΓ dJ2_grow_2_25 ?_
    refine g_ishr (a := x2 / 2 ^ 1) hΓ (sh_r (by omega) 1 (by decide) rfl) dJ2_grow_2_26 ?_
    refine x_callS (As := [.int (iI x2), .int (iI (m - x2)), .int (iI (x2 / 2 ^ 1))]) (rest := []) hΓ (x_J10_newLength hE hX S D R x2 (m - x2) (x2 / 2 ^ 1) (by first | assumption | omega) (by first | assumption | omega) (by first | assumption | omega)) rfl q718 q719 q141 q720 ndJ10_newLength rfl (by decide) (by decide) (Nat.zero_le _) (Nat.zero_le _) rfl (Nat.le_of_ble_eq_true rfl) dJ2_grow_2_27 rfl (fun v4 S4 τ4 ρ4 h4 => ?_)
    obtain ⟨rfl, S4e, τ4e, ρ4e⟩ := h4
    have S4e := S4e.symm; subst S4e
    have τ4e := τ4e.symm; subst τ4e
    have ρ4e := ρ4e.symm; subst ρ4e
    show gW Γ E (xM E S D R) _ _ _ _ (.int (iI (x2 + max (m - x2) (x2 / 2 ^ 1))) :: _)
    obtain ⟨x5, ex5⟩ : ∃ z9 : Int, z9 = x2 + max (m - x2) (x2 / 2 ^ 1) := ⟨_, rfl⟩
    refine g_topi ex5.symm ?_
    refine g_istore_n hΓ dJ2_grow_2_30 rfl (Nat.le_of_ble_eq_true rfl) (lv' := [some (.ref a), some (.int (iI m)), some (.int (iI x2)), some (.int (iI x5))]) rfl ?_
    refine g_aload_n hΓ rfl dJ2_grow_2_31 ?_
    refine g_aload_n hΓ rfl dJ2_grow_2_32 ?_
    refine x_geta (r := some b1) (c := 10) hE hΓ in_J2 rfl ha (ks_10_17 hk) 1 (ji := 1) rfl (by decide) (by decide) rfl q176 rfl rfl hbr1 dJ2_grow_2_33 ?_
    show gW Γ E (xM E S D R) 0 0 _ _ (.ref b1 :: _)
    refine g_iload_n hΓ rfl dJ2_grow_2_36 ?_
    refine x_callS (As := [.ref b1, .int (iI x5)]) (rest := [.ref a]) hΓ (x_J11_copyOf hE hX S D R b1 kb1 (S b1).2.1 (k + 10) a x5 hbk1 (ks_20_28 hbq1) rfl (by omega) (by omega) hkr (Or.inl ⟨(hwb (by omega)).2.2.1, fun i9 x9 y9 => ls_hel hX hg hk9 hbe1 (sp := 0) (n := min ((S b1).2.1 : Int) x5) (by omega) i9 x9 y9⟩) ) rfl q728 q729 q142 q730 ndJ11_copyOf rfl (by decide) (by decide) (by omega) (by omega) rfl (Nat.le_of_ble_eq_true rfl) dJ2_grow_2_37 rfl (fun v6 S6 τ6 ρ6 h6 => ?_)
    obtain ⟨q6, rfl, h6, S6f⟩ := h6
    have kd7 : (S6 a).1 = k := kup ha (by omega) S6f
    have kd8 : (S6 b1).1 = kb1 := kup hbk1 (by omega) S6f
    have ln8 : (S6 b1).2.1 = (S b1).2.1 := nup hbk1 (by omega) rfl S6f
    have q6z : (S q6).1 = 0 := h6.1
    have q6w : E.2.2 q6 := h6.2.1
    have S6e : S6 = uS S q6 (k + 10) ((x5).toNat) a := h6.2.2.1
    have S6q : S6 q6 = ((k + 10), (x5).toNat, a) := by rw [S6e]; exact uS_s _ _ _ _ _
    have τ6f : ∀ (q9 : Nat) (j9 : Int), q9 ≠ q6 → τ6 q9 j9 = D q9 j9 := h6.2.2.2.1
    have kdq6 : (S6 q6).1 = (k + 10) := by rw [S6q]
    have lnq6 : (S6 q6).2.1 = (x5).toNat := by rw [S6q]
    have ρ6f : ∀ (q9 : Nat) (j9 : Int), q9 ≠ q6 → ρ6 q9 j9 = R q9 j9 := h6.2.2.2.2.1
    show gW Γ E (xM E S6 τ6 ρ6) _ _ _ _ (.ref q6 :: _)
    refine g_dup_x1 hΓ rfl rfl dJ2_grow_2_40 ?_
    refine x_puta (c := 10) hE hΓ in_J2 rfl kd7 (ks_10_17 hk) tyJ2 tyJ2_ok nmJ2 (hAw _ (by rw [ha]; exact wk_10_17 hk)) 1 (ji := 1) rfl (by decide) (by decide) rfl q176 rfl rfl rfl rfl (some q6) rfl (by first | rfl | (rcases va_rf_or none with h9 | ⟨q9, h9⟩ <;> rw [h9] <;> rfl)) (by first | rfl | (rcases va_rf_or none with h9 | ⟨q9, h9⟩ <;> rw [h9] <;> rfl)) dJ2_grow_2_41 (fun ρ9 ρ9e => ?_)
    have ρ9r : ρ9 a 1 = some q6 := by rw [ρ9e]; exact ur_s _ _ _ _
    have ρ9f : ∀ (q9 : Nat) (j9 : Int), (q9 ≠ a ∨ j9 ≠ 1) → ρ9 q9 j9 = ρ6 q9 j9 := fun q9 j9 hh => by rw [ρ9e]; exact ur_n hh
    exact x_aret hΓ (Or.inr ⟨_, rfl⟩) (Or.inr ⟨_, rfl⟩) dJ2_grow_2_44 (by omega) (by omega) ⟨q6, rfl, ⟨q6z, q6w, ⟨_, S6e, by omega, by omega, by omega⟩, τ6f, (fun p9 j9 h9 h8 => (ρ9f p9 j9 h8).trans (ρ6f p9 j9 h9)), ρ9r, (fun j9 x9 y9 => by rw [ρ9f _ _ (Or.inl (fun e9 => by rw [e9] at q6z; omega)), h6.2.2.2.2.2 j9 x9 (by omega), hbe1])⟩, S6f⟩
  · refine g_aload_n hΓ rfl dJ2_grow_2_10 ?_
    refine x_geta (r := some b1) (c := 10) hE hΓ in_J2 rfl ha (ks_10_17 hk) 1 (ji := 1) rfl (by decide) (by decide) rfl q176 rfl rfl hbr1 dJ2_grow_2_11 ?_
    show gW Γ E (xM E S D R) 0 0 _ _ (.ref b1 :: _)
    refine g_gets hΓ rfl (xn_s_dflt hX) q174 dJ2_grow_2_14 ?_
    show gW Γ E (xM E S D R) 0 0 _ _ (.ref (Z 0) :: _)
    refine g_acmp_eq (tgt := 45) hΓ dJ2_grow_2_17 (by decide) (fun c10 => ?_) (fun c10 => ?_)
    · refine g_aload_n hΓ rfl dJ2_grow_2_45 ?_
      refine g_bipush hΓ (by decide) dJ2_grow_2_46 ?_
      refine g_iload_n hΓ rfl dJ2_grow_2_48 ?_
      refine x_callS (As := [.int (iI 10), .int (iI m)]) (rest := [.ref a]) hΓ (x_J3_max hE hX S D R 10 m (by first | assumption | omega) (by first | assumption | omega)) rfl q755 q722 q129 q723 ndJ3_max rfl (by decide) (by decide) (Nat.zero_le _) (Nat.zero_le _) rfl (Nat.le_of_ble_eq_true rfl) dJ2_grow_2_49 rfl (fun v11 S11 τ11 ρ11 h11 => ?_)
      obtain ⟨rfl, S11e, τ11e, ρ11e⟩ := h11
      have S11e := S11e.symm; subst S11e
      have τ11e := τ11e.symm; subst τ11e
      have ρ11e := ρ11e.symm; subst ρ11e
      show gW Γ E (xM E S D R) _ _ _ _ (.int (iI (max 10 m)) :: _)
      refine x_anewO hΓ (xn_new hX) (k + 10) a hkr (xn_AO hX) rfl q756 (by omega) (by omega) (by omega) dJ2_grow_2_52 (fun q12 S12 δ12 ρ12 q12z q12w S12e δ12e ρ12e => ?_)
      have S12f : ∀ q9 : Nat, (S q9).1 ≠ 0 → S12 q9 = S q9 := fun q9 h9 => by rw [S12e]; exact uS_n (fun e9 => h9 (by rw [e9]; exact q12z))
      have S12q : S12 q12 = ((k + 10), (max 10 m).toNat, a) := by rw [S12e]; exact uS_s _ _ _ _ _
      have δ12z : ∀ j9 : Int, δ12 q12 j9 = 0 := fun j9 => by rw [δ12e, uN_s]
      have δ12f : ∀ (q9 : Nat) (j9 : Int), q9 ≠ q12 → δ12 q9 j9 = D q9 j9 := fun q9 j9 h9 => by rw [δ12e, uN_n h9]
      have ρ12z : ∀ j9 : Int, ρ12 q12 j9 = none := fun j9 => by rw [ρ12e, uN_s]
      have ρ12f : ∀ (q9 : Nat) (j9 : Int), q9 ≠ q12 → ρ12 q9 j9 = R q9 j9 := fun q9 j9 h9 => by rw [ρ12e, uN_n h9]
      have kd13 : (S12 a).1 = k := kup ha (by omega) S12f
      have kd14 : (S12 b1).1 = kb1 := kup hbk1 (by omega) S12f
      have ln14 : (S12 b1).2.1 = (S b1).2.1 := nup hbk1 (by omega) rfl S12f
      have kdq12 : (S12 q12).1 = (k + 10) := by rw [S12q]
      have lnq12 : (S12 q12).2.1 = (max 10 m).toNat := by rw [S12q]
      refine g_dup_x1 hΓ rfl rfl dJ2_grow_2_55 ?_
      refine x_puta (c := 10) hE hΓ in_J2 rfl kd13 (ks_10_17 hk) tyJ2 tyJ2_ok nmJ2 (hAw _ (by rw [ha]; exact wk_10_17 hk)) 1 (ji := 1) rfl (by decide) (by decide) rfl q176 rfl rfl rfl rfl (some q12) rfl (by first | rfl | (rcases va_rf_or none with h9 | ⟨q9, h9⟩ <;> rw [h9] <;> rfl)) (by first | rfl | (rcases va_rf_or none with h9 | ⟨q9, h9⟩ <;> rw [h9] <;> rfl)) dJ2_grow_2_56 (fun ρ15 ρ15e => ?_)
      have ρ15r : ρ15 a 1 = some q12 := by rw [ρ15e]; exact ur_s _ _ _ _
      have ρ15f : ∀ (q9 : Nat) (j9 : Int), (q9 ≠ a ∨ j9 ≠ 1) → ρ15 q9 j9 = ρ12 q9 j9 := fun q9 j9 hh => by rw [ρ15e]; exact ur_n hh
      exact x_aret hΓ (Or.inr ⟨_, rfl⟩) (Or.inr ⟨_, rfl⟩) dJ2_grow_2_59 (by omega) (by omega) ⟨q12, rfl, ⟨q12z, q12w, ⟨_, S12e, by omega, by omega, by omega⟩, δ12f, (fun p9 j9 h9 h8 => (ρ15f p9 j9 h8).trans (ρ12f p9 j9 h9)), ρ15r, (fun j9 x9 y9 => by omega)⟩, S12f⟩
    · exact absurd c10 (fun h9 => h9 (hz0 (by omega)))
set_option maxHeartbeats 4000000 in
theorem x_J2_grow {l : Launch} {E : gE} {X : State → Prop} {Z : Nat → Nat} {Y : Nat → Option Nat} (hE : E.2.1 = clsX) (hX : xOK l E X Z Y) (S : xS) (D : xD) (R : xR) (a k : Nat) (ha : (S a).1 = k) (hk : 10 ≤ k ∧ k ≤ 17) (hg : GI E Z S D R) (hcap : ((S (rf R a 1)).2.1 : Int) = D a 2) (hn : D a 2 ≤ 20) : xC l E X yJ2_grow cJ2_grow 1 (some (.array (.object "java/lang/Object"))) 4 1 60 [.ref a] S D R (fun rv S' D' R' => ∃ q9 : Nat, rv = some (.ref q9) ∧ ((S q9).1 = 0 ∧ E.2.2 q9 ∧ (∃ n : Nat, S' = uS S q9 (k + 10) n a ∧ 10 ≤ n ∧ D a 2 + 1 ≤ (n : Int) ∧ n ≤ 60) ∧ (∀ (p : Nat) (j : Int), p ≠ q9 → D' p j = D p j) ∧ (∀ (p : Nat) (j : Int), p ≠ q9 → (p ≠ a ∨ j ≠ 1) → R' p j = R p j) ∧ R' a 1 = some q9 ∧ ∀ j : Int, 0 ≤ j → j < D a 2 → R' q9 j = R (rf R a 1) j) ∧ sle S S') := by
  refine xC.ofF hX.1 (by decide +kernel) [some (.ref a)] (Nat.le_of_ble_eq_true rfl) rfl rfl (fun Γ hΓ => ?_)
  have hAw := hg.2.2.2.2.2.2
  have hk9 : 10 ≤ (S a).1 ∧ (S a).1 ≤ 17 := by rw [ha]; exact hk
  have hls := hg.2.1 a hk9.1 hk9.2
  have hne := ls_ne hg hk9
  have hwb := fun (h9 : 0 < (S (rf R a 1)).2.1) => ls_own hg hk9 h9
  obtain ⟨b1, kb1, hbr1, hbe1, hbk1, hbq1, hbc1⟩ := lsOK_b hls hk9
  rw [← hbe1] at hwb hne
  refine g_aload_n hΓ rfl dJ2_grow_0 ?_
  refine g_aload_n hΓ rfl dJ2_grow_1 ?_
  refine x_geti (c := 10) hE hΓ in_J2 rfl ha (ks_10_17 hk) 2 (ji := 2) rfl (by decide) (by decide) rfl q177 rfl rfl dJ2_grow_2 ?_
  refine g_iconst hΓ dJ2_grow_5 ?_
  refine g_iadd hΓ dJ2_grow_6 ?_
  refine x_callV (As := [.int (iI ((D a 2) + 1))]) (rest := []) (c := 10) hE hΓ (x_J2_grow_2 hE hX S D R a k (D a 2 + 1) ha hk hg (by omega) hcap hn ) ha (ks_10_17 hk) rfl rfl q714 q716 qs18 q127 q717 ndJ2_grow_2 rfl (by decide) (by decide) (by omega) (by omega) rfl (Nat.le_of_ble_eq_true rfl) dJ2_grow_7 rfl (fun v2 S2 τ2 ρ2 h2 => ?_)
  obtain ⟨q2, rfl, h2, S2f⟩ := h2
  have kd3 : (S2 a).1 = k := kup ha (by omega) S2f
  have kd4 : (S2 b1).1 = kb1 := kup hbk1 (by omega) S2f
  have ln4 : (S2 b1).2.1 = (S b1).2.1 := nup hbk1 (by omega) rfl S2f
  show gW Γ E (xM E S2 τ2 ρ2) _ _ _ _ (.ref q2 :: _)
  exact x_aret hΓ (Or.inr ⟨_, rfl⟩) (Or.inr ⟨_, rfl⟩) dJ2_grow_10 (by omega) (by omega) ⟨q2, rfl, h2, S2f⟩
set_option maxHeartbeats 4000000 in
theorem x_J2_add_2 {l : Launch} {E : gE} {X : State → Prop} {Z : Nat → Nat} {Y : Nat → Option Nat} (hE : E.2.1 = clsX) (hX : xOK l E X Z Y) (S : xS) (D : xD) (R : xR) (a b e k ke : Nat) (ha : (S a).1 = k) (hk : 10 ≤ k ∧ k ≤ 17) (hg : GI E Z S D R) (he : (S e).1 = ke) (hke : ke = lek k) (hn : D a 2 ≤ 20) (hb : b = rf R a 1) : xC l E X yJ2_add_2 cJ2_add_2 4 none 5 1 60 [.ref a, .ref e, .ref b, .int (iI (D a 2))] S D R (fun rv S' D' R' => rv = none ∧ (GI E Z S' D' R' ∧ D' a 2 = D a 2 + 1 ∧ chg (lT S a) S S' D D' R R' ∧ ∀ i, 0 ≤ i → i < D a 2 + 1 → lE R' a i = if i = D a 2 then e else lE R a i) ∧ sle S S') := by
  refine xC.ofF hX.1 (by decide +kernel) [some (.ref a), some (.ref e), some (.ref b), some (.int (iI (D a 2)))] (Nat.le_of_ble_eq_true rfl) rfl rfl (fun Γ hΓ => ?_)
  have hAw := hg.2.2.2.2.2.2
  have hk9 : 10 ≤ (S a).1 ∧ (S a).1 ≤ 17 := by rw [ha]; exact hk
  have hls := hg.2.1 a hk9.1 hk9.2
  have hne := ls_ne hg hk9
  have hwb := fun (h9 : 0 < (S (rf R a 1)).2.1) => ls_own hg hk9 h9
  obtain ⟨b0, kb1, hbr1, hbe1, hbk1, hbq1, hbc1⟩ := lsOK_b hls hk9
  have hbb : b = b0 := hb.trans hbe1.symm
  subst hbb
  rw [← hbe1] at hwb hne
  have hE9 := el_c (S := S) (q := e) hX hk (by rw [he, hke])
  rw [he] at hE9
  obtain ⟨c9, hc9, ⟨C9, T9, N9⟩, hcl9, hca9⟩ := hE9
  refine g_iload_n hΓ rfl dJ2_add_2_0 ?_
  refine g_aload_n hΓ rfl dJ2_add_2_1 ?_
  refine x_alen hΓ hbk1 rfl (ksl (ks_20_28 hbq1)) dJ2_add_2_2 ?_
  refine g_icmp_ne (tgt := 11) hΓ (by omega) (by omega) dJ2_add_2_3 (by decide) (fun c2 => ?_) (fun c2 => ?_)
  · refine g_aload_n hΓ rfl dJ2_add_2_11 ?_
    refine g_iload_n hΓ rfl dJ2_add_2_12 ?_
    refine g_aload_n hΓ rfl dJ2_add_2_13 ?_
    refine x_aastO (c := c9) hE hΓ hbk1 rfl (ks_20_28 hbq1) (hwb (by omega)).2.2.1 he hc9 hcl9 hca9 (by omega) (by omega) dJ2_add_2_14 (fun ρ3 ρ3e => ?_)
    have ρ3r : ρ3 b (D a 2) = some e := by rw [ρ3e]; exact ur_s _ _ _ _
    have ρ3f : ∀ (q9 : Nat) (j9 : Int), (q9 ≠ b ∨ j9 ≠ (D a 2)) → ρ3 q9 j9 = R q9 j9 := fun q9 j9 hh => by rw [ρ3e]; exact ur_n hh
    refine g_aload_n hΓ rfl dJ2_add_2_15 ?_
    refine g_iload_n hΓ rfl dJ2_add_2_16 ?_
    refine g_iconst hΓ dJ2_add_2_17 ?_
    refine g_iadd hΓ dJ2_add_2_18 ?_
    refine x_puti (c := 10) hE hΓ in_J2 rfl ha (ks_10_17 hk) tyJ2 tyJ2_ok nmJ2 (hAw _ (by rw [ha]; exact wk_10_17 hk)) 2 (ji := 2) rfl (by decide) (by decide) rfl q177 rfl rfl rfl rfl rfl rfl dJ2_add_2_19 (fun τ4 τ4e => ?_)
    have τ4r : τ4 a 2 = (D a 2) + 1 := by rw [τ4e]; exact us_s _ _ _ _
    have τ4f : ∀ (q9 : Nat) (j9 : Int), (q9 ≠ a ∨ j9 ≠ 2) → τ4 q9 j9 = D q9 j9 := fun q9 j9 hh => by rw [τ4e]; exact us_n hh
    have ho9 := hwb (by omega)
    have hf9 := GI_add (S' := S) (D' := τ4) (R' := ρ3) (b := b) (e := e) hg hk9 (fun q9 _ => rfl) (fun q9 h9 => ⟨Or.inl h9, fun h8 => absurd (by rw [h9] at h8; exact h8) (by decide)⟩) ⟨ho9.1, ho9.2.1, ho9.2.2.2.1, ho9.2.2.2.2⟩ (by omega) (by rw [he, hke, ha]) (fun q9 _ h9 => funext fun j9 => τ4f q9 j9 (Or.inl h9)) (fun q9 _ _ h9 => funext fun j9 => ρ3f q9 j9 (Or.inl h9)) ((ρ3f a 1 (Or.inl hne)).trans hbr1) τ4r (fun i9 x9 y9 => by rw [ρ3f _ _ (Or.inr (by omega)), hbe1]; exact (ls_el hg hk9 x9 y9).1) ρ3r
    exact x_vret hΓ dJ2_add_2_22 (Nat.zero_le _) (Nat.zero_le _) ⟨rfl, hf9, fun q9 h9 => rfl⟩
  · refine g_aload_n hΓ rfl dJ2_add_2_6 ?_
    refine x_callV (As := []) (rest := []) (c := 10) hE hΓ (x_J2_grow hE hX S D R a k ha hk hg (by rw [← hbe1]; omega) hn ) ha (ks_10_17 hk) rfl rfl q710 q712 qs17 q127 q713 ndJ2_grow rfl (by decide) (by decide) (by omega) (by omega) rfl (Nat.le_of_ble_eq_true rfl) dJ2_add_2_7 rfl (fun v5 S5 τ5 ρ5 h5 => ?_)
    obtain ⟨q5, rfl, h5, S5f⟩ := h5
    have kd6 : (S5 a).1 = k := kup ha (by omega) S5f
    have kd7 : (S5 b).1 = kb1 := kup hbk1 (by omega) S5f
    have ln7 : (S5 b).2.1 = (S b).2.1 := nup hbk1 (by omega) rfl S5f
    have kd8 : (S5 e).1 = ke := kup he (by omega) S5f
    obtain ⟨n5, hu5, hn15, hn25, hn35⟩ := h5.2.2.1
    have hkr : k + 10 ≠ 0 ∧ kty (k + 10) = 5 := ks_20_27 (by omega)
    have q5z : (S q5).1 = 0 := h5.1
    have q5w : E.2.2 q5 := h5.2.1
    have S5e : S5 = uS S q5 (k + 10) n5 a := hu5
    have S5q : S5 q5 = ((k + 10), n5, a) := by rw [S5e]; exact uS_s _ _ _ _ _
    have τ5f : ∀ (q9 : Nat) (j9 : Int), q9 ≠ q5 → τ5 q9 j9 = D q9 j9 := h5.2.2.2.1
    have kdq5 : (S5 q5).1 = (k + 10) := by rw [S5q]
    have lnq5 : (S5 q5).2.1 = n5 := by rw [S5q]
    show gW Γ E (xM E S5 τ5 ρ5) _ _ _ _ (.ref q5 :: _)
    refine g_astore_n hΓ dJ2_add_2_10 rfl (Nat.le_of_ble_eq_true rfl) (lv' := [some (.ref a), some (.ref e), some (.ref q5), some (.int (iI (D a 2)))]) rfl ?_
    refine g_aload_n hΓ rfl dJ2_add_2_11 ?_
    refine g_iload_n hΓ rfl dJ2_add_2_12 ?_
    refine g_aload_n hΓ rfl dJ2_add_2_13 ?_
    refine x_aastO (c := c9) hE hΓ kdq5 lnq5 hkr q5w kd8 hc9 hcl9 hca9 (by omega) (by omega) dJ2_add_2_14 (fun ρ9 ρ9e => ?_)
    have ρ9r : ρ9 q5 (D a 2) = some e := by rw [ρ9e]; exact ur_s _ _ _ _
    have ρ9f : ∀ (q9 : Nat) (j9 : Int), (q9 ≠ q5 ∨ j9 ≠ (D a 2)) → ρ9 q9 j9 = ρ5 q9 j9 := fun q9 j9 hh => by rw [ρ9e]; exact ur_n hh
    refine g_aload_n hΓ rfl dJ2_add_2_15 ?_
    refine g_iload_n hΓ rfl dJ2_add_2_16 ?_
    refine g_iconst hΓ dJ2_add_2_17 ?_
    refine g_iadd hΓ dJ2_add_2_18 ?_
    refine x_puti (c := 10) hE hΓ in_J2 rfl kd6 (ks_10_17 hk) tyJ2 tyJ2_ok nmJ2 (hAw _ (by rw [ha]; exact wk_10_17 hk)) 2 (ji := 2) rfl (by decide) (by decide) rfl q177 rfl rfl rfl rfl rfl rfl dJ2_add_2_19 (fun τ10 τ10e => ?_)
    have τ10r : τ10 a 2 = (D a 2) + 1 := by rw [τ10e]; exact us_s _ _ _ _
    have τ10f : ∀ (q9 : Nat) (j9 : Int), (q9 ≠ a ∨ j9 ≠ 2) → τ10 q9 j9 = τ5 q9 j9 := fun q9 j9 hh => by rw [τ10e]; exact us_n hh
    have ha8 : (S q5).1 = 0 := q5z
    have hnq : ∀ q9, (S q9).1 ≠ 0 → q9 ≠ q5 := fun q9 h9 e9 => h9 (by rw [e9]; exact ha8)
    have haq : a ≠ q5 := hnq a (by omega)
    have hS9 : S5 q5 = (k + 10, n5, a) := S5q
    have hf9 := GI_add (S' := S5) (D' := τ10) (R' := ρ9) (b := q5) (e := e) hg hk9 S5f (fun q9 h9 => by
      by_cases e9 : q9 = q5
      · exact ⟨Or.inr (Or.inl e9), fun _ => by rw [e9]; exact q5w⟩
      · rw [hu5, uS_n e9]
        exact ⟨Or.inl h9, fun h8 => absurd (by rw [h9] at h8; exact h8) (by decide)⟩) (by rw [hS9, ha]; exact ⟨rfl, rfl, hn15, by show n5 ≤ 1000; omega⟩) (by rw [hS9]; exact hn25) (by rw [S5f e (by rw [he]; exact hc9.1), he, hke, ha]) (fun q9 h9 h8 => funext fun j9 => (τ10f q9 j9 (Or.inl h8)).trans (τ5f q9 j9 (hnq q9 h9))) (fun q9 h9 h8 h7 => funext fun j9 => (ρ9f q9 j9 (Or.inl h7)).trans (h5.2.2.2.2.1 q9 j9 h7 (Or.inl h8))) ((ρ9f a 1 (Or.inl haq)).trans h5.2.2.2.2.2.1) τ10r (fun i9 x9 y9 => by rw [ρ9f _ _ (Or.inr (by omega)), h5.2.2.2.2.2.2 i9 x9 y9]; exact (ls_el hg hk9 x9 y9).1) ρ9r
    exact x_vret hΓ dJ2_add_2_22 (by omega) (by omega) ⟨rfl, hf9, S5f⟩
set_option maxHeartbeats 4000000 in
theorem x_J2_add {l : Launch} {E : gE} {X : State → Prop} {Z : Nat → Nat} {Y : Nat → Option Nat} (hE : E.2.1 = clsX) (hX : xOK l E X Z Y) (S : xS) (D : xD) (R : xR) (a e k ke : Nat) (ha : (S a).1 = k) (hk : 10 ≤ k ∧ k ≤ 17) (hg : GI E Z S D R) (he : (S e).1 = ke) (hke : ke = lek k) (hn : D a 2 ≤ 20) : xC l E X yJ2_add cJ2_add 2 (some .boolean) 6 1 60 [.ref a, .ref e] S D R (fun rv S' D' R' => rv = some (.int (iI 1)) ∧ (GI E Z S' D' R' ∧ D' a 2 = D a 2 + 1 ∧ chg (lT S a) S S' D D' R R' ∧ ∀ i, 0 ≤ i → i < D a 2 + 1 → lE R' a i = if i = D a 2 then e else lE R a i) ∧ sle S S') := by
  refine xC.ofF hX.1 (by decide +kernel) [some (.ref a), some (.ref e)] (Nat.le_of_ble_eq_true rfl) rfl rfl (fun Γ hΓ => ?_)
  have hAw := hg.2.2.2.2.2.2
  have hk9 : 10 ≤ (S a).1 ∧ (S a).1 ≤ 17 := by rw [ha]; exact hk
  have hls := hg.2.1 a hk9.1 hk9.2
  have hne := ls_ne hg hk9
  have hwb := fun (h9 : 0 < (S (rf R a 1)).2.1) => ls_own hg hk9 h9
  obtain ⟨b1, kb1, hbr1, hbe1, hbk1, hbq1, hbc1⟩ := lsOK_b hls hk9
  rw [← hbe1] at hwb hne
  have hE9 := el_c (S := S) (q := e) hX hk (by rw [he, hke])
  rw [he] at hE9
  obtain ⟨c9, hc9, ⟨C9, T9, N9⟩, hcl9, hca9⟩ := hE9
  refine g_aload_n hΓ rfl dJ2_add_0 ?_
  refine g_dup hΓ rfl dJ2_add_1 ?_
  refine x_getiS (c := 10) hE hΓ in_J2 rfl ha (ks_10_17 hk) 0 (ji := 0) rfl (by decide) (by decide) rfl q179 q180 rfl dJ2_add_2 ?_
  refine g_iconst hΓ dJ2_add_5 ?_
  refine g_iadd hΓ dJ2_add_6 ?_
  refine x_putSi (c := 10) hE hΓ in_J2 rfl ha (ks_10_17 hk) tyJ2 tyJ2_ok nmJ2 (hAw _ (by rw [ha]; exact wk_10_17 hk)) 0 (ji := 0) rfl (by decide) (by decide) rfl q179 q180 rfl rfl rfl rfl rfl dJ2_add_7 (fun τ2 τ2e => ?_)
  have τ2r : τ2 a 0 = (D a 0) + 1 := by rw [τ2e]; exact us_s _ _ _ _
  have τ2f : ∀ (q9 : Nat) (j9 : Int), (q9 ≠ a ∨ j9 ≠ 0) → τ2 q9 j9 = D q9 j9 := fun q9 j9 hh => by rw [τ2e]; exact us_n hh
  refine g_aload_n hΓ rfl dJ2_add_10 ?_
  refine g_aload_n hΓ rfl dJ2_add_11 ?_
  refine g_aload_n hΓ rfl dJ2_add_12 ?_
  refine x_geta (r := some b1) (c := 10) hE hΓ in_J2 rfl ha (ks_10_17 hk) 1 (ji := 1) rfl (by decide) (by decide) rfl q176 rfl rfl hbr1 dJ2_add_13 ?_
  show gW Γ E (xM E S τ2 R) 0 0 _ _ (.ref b1 :: _)
  refine g_aload_n hΓ rfl dJ2_add_16 ?_
  refine x_geti (c := 10) hE hΓ in_J2 rfl ha (ks_10_17 hk) 2 (ji := 2) rfl (by decide) (by decide) rfl q177 rfl rfl dJ2_add_17 ?_
  refine g_topi ((τ2f a 2 (Or.inr (by decide)))) ?_
  refine g_topi (show (D a 2 : Int) = τ2 a 2 from (τ2f a 2 (Or.inr (by decide))).symm) ?_
  have hm9 := GI_mod (D' := τ2) hg hk9 τ2f
  have e29 : τ2 a 2 = D a 2 := τ2f a 2 (Or.inr (by decide))
  refine x_callV (As := [.ref e, .ref b1, .int (iI (τ2 a 2))]) (rest := []) (c := 10) hE hΓ (x_J2_add_2 hE hX S τ2 R a b1 e k ke ha hk hm9.1 he hke (by omega) hbe1 ) ha (ks_10_17 hk) rfl rfl q706 q708 qs16 q127 q709 ndJ2_add_2 rfl (by decide) (by decide) (by omega) (by omega) rfl (Nat.le_of_ble_eq_true rfl) dJ2_add_20 rfl (fun v3 S3 τ3 ρ3 h3 => ?_)
  obtain ⟨rfl, h3, S3f⟩ := h3
  have kd4 : (S3 a).1 = k := kup ha (by omega) S3f
  have kd5 : (S3 b1).1 = kb1 := kup hbk1 (by omega) S3f
  have ln5 : (S3 b1).2.1 = (S b1).2.1 := nup hbk1 (by omega) rfl S3f
  have kd6 : (S3 e).1 = ke := kup he (by omega) S3f
  refine g_iconst hΓ dJ2_add_23 ?_
  exact x_zret hΓ (by omega) dJ2_add_24 (by omega) (by omega) ⟨rfl, ⟨h3.1, by rw [h3.2.1, e29], chg_t hm9.2 h3.2.2.1 (fun q9 _ h9 => h9), fun i9 x9 y9 => by have h8 := h3.2.2.2 i9 x9 (by rw [e29]; exact y9); rw [e29] at h8; exact h8⟩, S3f⟩
