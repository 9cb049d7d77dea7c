set_option maxRecDepth 100000
set_option maxHeartbeats 4000000 in
theorem m_laysAllRight {l : Launch} {E : gE} {h : Nat} {ad : Nat → Nat} (hok : mOK E h ad) (σ : mS)  (q : Int) (hq : 0 ≤ q ∧ q ≤ 2) (hr : rowOK (σ 0)) (ht : tolOK σ) : mC l E h ad yX3_laysAllRight cX3_laysAllRight 3 none 9 [.ref h, .int (iI q)] σ (fun rv σ' => rv = none ∧ (∀ v, 0 ≤ v → v < vlN q → σ' 36 v = dfF σ q v (σ 6 0).toNat ∧ σ' 37 v = rbF σ q v (σ 6 0).toNat) ∧ ∀ (k : Nat) (j : Int), k ∉ [22, 23, 24, 25, 26, 27, 28, 29, 36, 37, 38] → σ' k j = σ k j) := by
  refine mC.of (by decide) [some (.ref h), some (.int (iI q)), none] (Nat.le_of_ble_eq_true rfl) rfl rfl (fun Γ hΓ => ?_)
  obtain ⟨h1000, h1009, h1042, h1043, h1044, h1045, h1046, h1047, hms, hsi, hsm, hnm⟩ := id hr
  have ht6 := ht.1
  have hvl : 0 ≤ vlN q ∧ vlN q ≤ 41 ∧ (q = 2 → vlN q = 17) := by rw [vlN]; split <;> omega
  refine g_iconst hΓ dX3_laysAllRight_0 ?_
  refine g_istore_n hΓ dX3_laysAllRight_1 rfl (Nat.le_of_ble_eq_true rfl) (lv' := [some (.ref h), some (.int (iI q)), some (.int (iI 0))]) rfl ?_
  have loop0 : ∀ (fu : Nat) (v : Int) (t : mS), (41 - v).toNat < fu → (0 ≤ v ∧ v ≤ 41) → (∀ v', 0 ≤ v' → v' < v → t 36 v' = 1 ∧ t 37 v' = 100000000) → (∀ (k : Nat) (j : Int), k ∉ [22, 23, 24, 25, 26, 27, 28, 29, 36, 37, 38] → t k j = σ k j) → gW Γ E (mM E h ad t) 0 0 2 [some (.ref h), some (.int (iI q)), some (.int (iI v))] [] := by
    intro fu
    induction fu with
    | zero => intro v t hn; exact absurd hn (Nat.not_lt_zero _)
    | succ fu ih_loop0 =>
      intro v t hn hv hD tf
      refine g_iload_n hΓ rfl dX3_laysAllRight_2 ?_
      refine g_bipush hΓ (by decide) dX3_laysAllRight_3 ?_
      refine g_icmp_ge (tgt := 30) hΓ (by omega) (by omega) dX3_laysAllRight_5 (by decide) (fun c1 => ?_) (fun c1 => ?_)
      · refine g_iconst hΓ dX3_laysAllRight_30 ?_
        refine g_istore_n hΓ dX3_laysAllRight_31 rfl (Nat.le_of_ble_eq_true rfl) (lv' := [some (.ref h), some (.int (iI q)), some (.int (iI 0))]) rfl ?_
        have loop : ∀ (fu : Nat) (k : Int) (t : mS), (σ 6 0 - k).toNat < fu → (0 ≤ k ∧ k ≤ σ 6 0) → (∀ v, 0 ≤ v → v < vlN q → t 36 v = dfF σ q v k.toNat ∧ t 37 v = rbF σ q v k.toNat) → (∀ (k : Nat) (j : Int), k ∉ [22, 23, 24, 25, 26, 27, 28, 29, 36, 37, 38] → t k j = σ k j) → gW Γ E (mM E h ad t) 0 0 32 [some (.ref h), some (.int (iI q)), some (.int (iI k))] [] := by
          intro fu
          induction fu with
          | zero => intro k t hn; exact absurd hn (Nat.not_lt_zero _)
          | succ fu ih_loop =>
            intro k t hn hk hD tf
            have t0 : t 0 = σ 0 := funext fun j => (tf 0 j (by decide))
            have t6 : t 6 = σ 6 := funext fun j => (tf 6 j (by decide))
            have t7 : t 7 = σ 7 := funext fun j => (tf 7 j (by decide))
            have t8 : t 8 = σ 8 := funext fun j => (tf 8 j (by decide))
            have t9 : t 9 = σ 9 := funext fun j => (tf 9 j (by decide))
            have t10 : t 10 = σ 10 := funext fun j => (tf 10 j (by decide))
            have hr1 : rowOK (t 0) := by rw [t0]; exact hr
            have ht1 : tolOK t := tolOK_same t0 t6 t7 t8 t9 t10 ht
            have hrb1 : ∀ v, 0 ≤ v → v < vlN q → (-1584 ≤ t 37 v ∧ t 37 v ≤ 100000000) := fun v h0 h1 => by
              rw [(hD v h0 h1).2]
              exact (rbF_r hr ht (by omega) k.toNat (by omega)).1
            have tG : ∀ k v, rgE t k q v = rgE σ k q v := fun k v => by simp only [rgE, isM, nMod, t0, t10, vlS_same t0 t7 t8 t9]
            refine g_iload_n hΓ rfl dX3_laysAllRight_32 ?_
            refine g_aload_n hΓ rfl dX3_laysAllRight_33 ?_
            refine m_geti hok hΓ 6 (by decide) rfl rfl q1363 rfl dX3_laysAllRight_34 ?_
            refine g_topi ((tf 6 0 (by decide))) ?_
            refine g_icmp_ge (tgt := 52) hΓ (by omega) (by omega) dX3_laysAllRight_37 (by decide) (fun c2 => ?_) (fun c2 => ?_)
            · exact m_vret hΓ dX3_laysAllRight_52 ⟨rfl, (fun v h0 h1 => by have z9 := hD v h0 h1; rw [show k.toNat = (σ 6 0).toNat by omega] at z9; exact z9), tf⟩
            · refine g_aload_n hΓ rfl dX3_laysAllRight_40 ?_
              refine g_iload_n hΓ rfl dX3_laysAllRight_41 ?_
              refine g_iload_n hΓ rfl dX3_laysAllRight_42 ?_
              refine m_callV (As := [.int (iI k), .int (iI q)]) (rest := []) hok hΓ (m_laysRight hok t k q (by first | assumption | omega | (rw [t6]; omega)) (by first | assumption | omega | (rw [t6]; omega)) (by first | assumption | omega | (rw [t6]; omega)) (by first | assumption | omega | (rw [t6]; omega)) (by first | assumption | omega | (rw [t6]; omega))) rfl q1904 q1906 qs115 q131 q1907 ndX3_laysRight rfl (by decide) (by decide) rfl rfl (Nat.le_of_ble_eq_true rfl) dX3_laysAllRight_43 rfl (fun v3 τ3 τ3h => ?_)
              obtain ⟨rfl, τ3h, τ3f⟩ := τ3h
              obtain ⟨x4, ex4⟩ : ∃ z9 : Int, z9 = k + 1 := ⟨_, rfl⟩
              refine g_iinc hΓ dX3_laysAllRight_46 rfl rfl (lv' := [some (.ref h), some (.int (iI q)), some (.int (iI x4))]) (by rw [ex4]; rfl) ?_
              refine g_goto (tgt := 32) hΓ dX3_laysAllRight_49 (by decide) ?_
              exact ih_loop x4 τ3 (by omega) (by omega) (fun v h0 h1 => by
                  have z9 := τ3h v h0 h1
                  have y9 := hD v h0 h1
                  rw [tG] at z9
                  rw [show x4.toNat = k.toNat + 1 by omega, dfF, rbF, show ((k.toNat : Nat) : Int) = k by omega, ← y9.1, ← y9.2]
                  exact z9) (fun k j hk => ((τ3f k j (fun e => hk ((show ∀ x ∈ [22, 23, 24, 25, 26, 27, 28, 29, 36, 37, 38], x ∈ [22, 23, 24, 25, 26, 27, 28, 29, 36, 37, 38] by decide) k e))).trans (tf k j (fun e => hk ((show ∀ x ∈ [22, 23, 24, 25, 26, 27, 28, 29, 36, 37, 38], x ∈ [22, 23, 24, 25, 26, 27, 28, 29, 36, 37, 38] by decide) k e)))))
        exact loop 9 0 t (by omega) (by omega) (fun v h0 h1 => hD v h0 (by omega)) tf
      · refine g_aload_n hΓ rfl dX3_laysAllRight_8 ?_
        refine m_geta hok hΓ 36 (by decide) rfl rfl q1393 rfl dX3_laysAllRight_9 ?_
        refine g_iload_n hΓ rfl dX3_laysAllRight_12 ?_
        refine g_iconst hΓ dX3_laysAllRight_13 ?_
        refine m_ast hok hΓ 36 (by decide) rfl (n := 41) rfl (by omega) (by decide) dX3_laysAllRight_14 (fun τ5 τ5e => ?_)
        have τ5r : τ5 36 v = 1 := by rw [τ5e]; exact us_s _ _ _ _
        have τ5f : ∀ (k9 : Nat) (j9 : Int), (k9 ≠ 36 ∨ j9 ≠ v) → τ5 k9 j9 = t k9 j9 := fun k9 j9 hh => by rw [τ5e]; exact us_n hh
        refine g_aload_n hΓ rfl dX3_laysAllRight_15 ?_
        refine m_geta hok hΓ 37 (by decide) rfl rfl q1394 rfl dX3_laysAllRight_16 ?_
        refine g_iload_n hΓ rfl dX3_laysAllRight_19 ?_
        refine g_ldcw (n := 100000000) hΓ rfl q1716 (by decide) dX3_laysAllRight_20 ?_
        refine m_ast hok hΓ 37 (by decide) rfl (n := 41) rfl (by omega) (by decide) dX3_laysAllRight_23 (fun τ6 τ6e => ?_)
        have τ6r : τ6 37 v = 100000000 := by rw [τ6e]; exact us_s _ _ _ _
        have τ6f : ∀ (k9 : Nat) (j9 : Int), (k9 ≠ 37 ∨ j9 ≠ v) → τ6 k9 j9 = τ5 k9 j9 := fun k9 j9 hh => by rw [τ6e]; exact us_n hh
        obtain ⟨x7, ex7⟩ : ∃ z9 : Int, z9 = v + 1 := ⟨_, rfl⟩
        refine g_iinc hΓ dX3_laysAllRight_24 rfl rfl (lv' := [some (.ref h), some (.int (iI q)), some (.int (iI x7))]) (by rw [ex7]; rfl) ?_
        refine g_goto (tgt := 2) hΓ dX3_laysAllRight_27 (by decide) ?_
        exact ih_loop0 x7 τ6 (by omega) (by omega) (fun v' h0 h1 => by
            by_cases y : v' = v
            · rw [y]; exact ⟨(τ6f 36 _ (Or.inl (by decide))).trans τ5r, τ6r⟩
            · have z9 := hD v' h0 (by omega)
              exact ⟨(τ6f 36 _ (Or.inl (by decide))).trans ((τ5f 36 _ (Or.inr y)).trans z9.1), (τ6f 37 _ (Or.inr y)).trans ((τ5f 37 _ (Or.inl (by decide))).trans z9.2)⟩) (fun k j hk => (((τ6f k j (Or.inl (fun e => hk (by rw [e]; decide)))).trans (τ5f k j (Or.inl (fun e => hk (by rw [e]; decide))))).trans (tf k j (fun e => hk ((show ∀ x ∈ [22, 23, 24, 25, 26, 27, 28, 29, 36, 37, 38], x ∈ [22, 23, 24, 25, 26, 27, 28, 29, 36, 37, 38] by decide) k e)))))
  exact loop0 42 0 σ (by omega) (by omega) (fun v' h0 h1 => absurd h1 (by omega)) (fun k j _ => rfl)
set_option maxHeartbeats 4000000 in
theorem m_fits {l : Launch} {E : gE} {h : Nat} {ad : Nat → Nat} (hok : mOK E h ad) (σ : mS)  (q : Int) (k : Int) (hq : r32 q) (hk : r32 k) (hr : rowOK (σ 0)) (ht : tolOK σ) : mC l E h ad yX3_fits cX3_fits 5 (some .int) 10 [.ref h, .int (iI q), .int (iI k)] σ (fun rv σ' => rv = some (.int (iI (sp_fits σ q k))) ∧ (True) ∧ ∀ (k : Nat) (j : Int), k ∉ [22, 23, 24, 25, 26, 27, 28, 29, 36, 37, 38] → σ' k j = σ k j) := by
  refine mC.of (by decide) [some (.ref h), some (.int (iI q)), some (.int (iI k)), none, none] (Nat.le_of_ble_eq_true rfl) rfl rfl (fun Γ hΓ => ?_)
  obtain ⟨h1000, h1009, h1042, h1043, h1044, h1045, h1046, h1047, hms, hsi, hsm, hnm⟩ := id hr
  have ht6 := ht.1
  have hvl : 0 ≤ vlN q ∧ vlN q ≤ 41 ∧ (q = 2 → vlN q = 17) := by rw [vlN]; split <;> omega
  refine g_iload_n hΓ rfl dX3_fits_0 ?_
  refine g_iconst hΓ dX3_fits_1 ?_
  refine g_iconst hΓ dX3_fits_2 ?_
  refine m_callS (As := [.int (iI q), .int (iI 0), .int (iI 2)]) (rest := []) hok hΓ (m_isIn hok σ q 0 2 (by first | assumption | omega) (by first | assumption | omega) (by first | assumption | omega)) rfl q1549 q1550 q131 q1551 ndX3_isIn rfl (by decide) (by decide) rfl (Nat.le_of_ble_eq_true rfl) dX3_fits_3 rfl (fun v1 τ1 τ1h => ?_)
  obtain ⟨rfl, τ1h⟩ := τ1h
  rw [τ1h]
  clear τ1h
  show gW Γ E (mM E h ad σ) 0 0 _ _ (.int (iI (if 0 ≤ q ∧ q ≤ 2 then 1 else 0)) :: _)
  refine g_ifB_eq (tgt := 21) hΓ  dX3_fits_6 (by decide) (fun c2 => ?_) (fun c2 => ?_)
  · refine g_iconst hΓ dX3_fits_21 ?_
    exact m_iret hΓ dX3_fits_22 ⟨ri (by rw [sp_fits, if_neg (by omega)]), trivial, (fun k j hk => rfl)⟩
  · refine g_aload_n hΓ rfl dX3_fits_9 ?_
    refine m_geti hok hΓ 6 (by decide) rfl rfl q1363 rfl dX3_fits_10 ?_
    refine g_if_eq (tgt := 21) hΓ (by omega) dX3_fits_13 (by decide) (fun c3 => ?_) (fun c3 => ?_)
    · refine g_iconst hΓ dX3_fits_21 ?_
      exact m_iret hΓ dX3_fits_22 ⟨ri (by rw [sp_fits, if_neg (by omega)]), trivial, (fun k j hk => rfl)⟩
    · refine g_iload_n hΓ rfl dX3_fits_16 ?_
      refine g_iconst hΓ dX3_fits_17 ?_
      refine g_icmp_ge (tgt := 23) hΓ (by omega) (by omega) dX3_fits_18 (by decide) (fun c4 => ?_) (fun c4 => ?_)
      · refine g_aload_n hΓ rfl dX3_fits_23 ?_
        refine g_iload_n hΓ rfl dX3_fits_24 ?_
        refine m_callV (As := [.int (iI q)]) (rest := []) hok hΓ (m_laysAllRight hok σ q (by first | assumption | omega) (by first | assumption | omega) (by first | assumption | omega)) rfl q1900 q1902 qs114 q131 q1903 ndX3_laysAllRight rfl (by decide) (by decide) rfl rfl (Nat.le_of_ble_eq_true rfl) dX3_fits_25 rfl (fun v5 τ5 τ5h => ?_)
        obtain ⟨rfl, τ5h, τ5f⟩ := τ5h
        refine g_iconst hΓ dX3_fits_28 ?_
        refine g_istore_n hΓ dX3_fits_29 rfl (Nat.le_of_ble_eq_true rfl) (lv' := [some (.ref h), some (.int (iI q)), some (.int (iI k)), some (.int (iI 0)), none]) rfl ?_
        refine g_iconst hΓ dX3_fits_30 ?_
        refine g_istore hΓ dX3_fits_31 rfl (Nat.le_of_ble_eq_true rfl) (lv' := [some (.ref h), some (.int (iI q)), some (.int (iI k)), some (.int (iI 0)), some (.int (iI 0))]) rfl ?_
        have loop : ∀ (fu : Nat) (n : Int) (v : Int), (vlN q - v).toNat < fu → (0 ≤ v ∧ v ≤ vlN q ∧ 0 ≤ n ∧ n ≤ v) → (ftF (fun v => dfF σ q v (σ 6 0).toNat) k (vlN q - v).toNat v n = ftF (fun v => dfF σ q v (σ 6 0).toNat) k (vlN q).toNat 0 0) → gW Γ E (mM E h ad τ5) 0 0 33 [some (.ref h), some (.int (iI q)), some (.int (iI k)), some (.int (iI n)), some (.int (iI v))] [] := by
          intro fu
          induction fu with
          | zero => intro n v hn; exact absurd hn (Nat.not_lt_zero _)
          | succ fu ih_loop =>
            intro n v hn hv hv2
            refine g_iload hΓ rfl dX3_fits_33 ?_
            refine g_iload_n hΓ rfl dX3_fits_35 ?_
            refine m_callS (As := [.int (iI q)]) (rest := [.int (iI v)]) hok hΓ (m_valuesOf hok τ5 q (by first | assumption | omega)) rfl q1912 q1913 q131 q1914 ndX3_valuesOf rfl (by decide) (by decide) rfl (Nat.le_of_ble_eq_true rfl) dX3_fits_36 rfl (fun v6 τ6 τ6h => ?_)
            obtain ⟨rfl, τ6h⟩ := τ6h
            rw [τ6h]
            clear τ6h
            show gW Γ E (mM E h ad τ5) 0 0 _ _ (.int (iI (vlN q)) :: _)
            refine g_icmp_ge (tgt := 72) hΓ (by omega) (by omega) dX3_fits_39 (by decide) (fun c7 => ?_) (fun c7 => ?_)
            · refine g_iload_n hΓ rfl dX3_fits_72 ?_
              refine g_iconst hΓ dX3_fits_73 ?_
              refine g_icmp_ne (tgt := 81) hΓ (by omega) (by omega) dX3_fits_74 (by decide) (fun c8 => ?_) (fun c8 => ?_)
              · refine g_iconst hΓ dX3_fits_81 ?_
                exact m_iret hΓ dX3_fits_82 ⟨ri (by rw [sp_fits, if_pos (by omega), ← hv2]; rw [show (vlN q - v).toNat = 0 by omega, ftF]; first | rw [if_pos (by omega)] | rw [if_neg (by omega)]), trivial, (fun k j hk => (τ5f k j (fun e => hk ((show ∀ x ∈ [22, 23, 24, 25, 26, 27, 28, 29, 36, 37, 38], x ∈ [22, 23, 24, 25, 26, 27, 28, 29, 36, 37, 38] by decide) k e))))⟩
              · refine g_iload_n hΓ rfl dX3_fits_77 ?_
                refine g_goto (tgt := 82) hΓ dX3_fits_78 (by decide) ?_
                exact m_iret hΓ dX3_fits_82 ⟨ri (by rw [sp_fits, if_pos (by omega), ← hv2]; rw [show (vlN q - v).toNat = 0 by omega, ftF]; first | rw [if_pos (by omega)] | rw [if_neg (by omega)]), trivial, (fun k j hk => (τ5f k j (fun e => hk ((show ∀ x ∈ [22, 23, 24, 25, 26, 27, 28, 29, 36, 37, 38], x ∈ [22, 23, 24, 25, 26, 27, 28, 29, 36, 37, 38] by decide) k e))))⟩
            · have h9 := τ5h v (by omega) (by omega)
              have h8 := (rbF_r hr ht (which := q) (v := v) (by omega) (σ 6 0).toNat (by omega)).2
              refine g_aload_n hΓ rfl dX3_fits_42 ?_
              refine m_geta hok hΓ 36 (by decide) rfl rfl q1393 rfl dX3_fits_43 ?_
              refine g_iload hΓ rfl dX3_fits_46 ?_
              refine m_ald hok hΓ 36 (by decide) rfl (n := 41) rfl (by omega) (by decide) dX3_fits_48 ?_
              refine g_if_ne (tgt := 55) hΓ (by omega) dX3_fits_49 (by decide) (fun c9 => ?_) (fun c9 => ?_)
              · refine g_iload_n hΓ rfl dX3_fits_55 ?_
                refine g_iload_n hΓ rfl dX3_fits_56 ?_
                refine g_icmp_ne (tgt := 63) hΓ (by omega) (by omega) dX3_fits_57 (by decide) (fun c10 => ?_) (fun c10 => ?_)
                · obtain ⟨x11, ex11⟩ : ∃ z9 : Int, z9 = n + 1 := ⟨_, rfl⟩
                  refine g_iinc hΓ dX3_fits_63 rfl rfl (lv' := [some (.ref h), some (.int (iI q)), some (.int (iI k)), some (.int (iI x11)), some (.int (iI v))]) (by rw [ex11]; rfl) ?_
                  obtain ⟨x12, ex12⟩ : ∃ z9 : Int, z9 = v + 1 := ⟨_, rfl⟩
                  refine g_iinc hΓ dX3_fits_66 rfl rfl (lv' := [some (.ref h), some (.int (iI q)), some (.int (iI k)), some (.int (iI x11)), some (.int (iI x12))]) (by rw [ex12]; rfl) ?_
                  refine g_goto (tgt := 33) hΓ dX3_fits_69 (by decide) ?_
                  exact ih_loop x11 x12 (by omega) (by omega) (by rw [← hv2, show (vlN q - v).toNat = (vlN q - x12).toNat + 1 by omega, ftF]; (try simp only); rw [← h9.1, if_neg (by omega), if_neg (by omega), ex12, ex11])
                · refine g_iload hΓ rfl dX3_fits_60 ?_
                  exact m_iret hΓ dX3_fits_62 ⟨ri (by rw [sp_fits, if_pos (by omega), ← hv2]; rw [show (vlN q - v).toNat = (vlN q - v - 1).toNat + 1 by omega, ftF]; (try simp only); rw [← h9.1, if_neg (by omega), if_pos (by omega)]), trivial, (fun k j hk => (τ5f k j (fun e => hk ((show ∀ x ∈ [22, 23, 24, 25, 26, 27, 28, 29, 36, 37, 38], x ∈ [22, 23, 24, 25, 26, 27, 28, 29, 36, 37, 38] by decide) k e))))⟩
              · refine g_goto (tgt := 66) hΓ dX3_fits_52 (by decide) ?_
                obtain ⟨x13, ex13⟩ : ∃ z9 : Int, z9 = v + 1 := ⟨_, rfl⟩
                refine g_iinc hΓ dX3_fits_66 rfl rfl (lv' := [some (.ref h), some (.int (iI q)), some (.int (iI k)), some (.int (iI n)), some (.int (iI x13))]) (by rw [ex13]; rfl) ?_
                refine g_goto (tgt := 33) hΓ dX3_fits_69 (by decide) ?_
                exact ih_loop n x13 (by omega) (by omega) (by rw [← hv2, show (vlN q - v).toNat = (vlN q - x13).toNat + 1 by omega, ftF]; (try simp only); rw [← h9.1, if_pos (by omega), ex13])
        exact loop 42 0 0 (by omega) (by omega) (by rw [Int.sub_zero])
      · refine g_iconst hΓ dX3_fits_21 ?_
        exact m_iret hΓ dX3_fits_22 ⟨ri (by rw [sp_fits, if_neg (by omega)]), trivial, (fun k j hk => rfl)⟩
set_option maxHeartbeats 4000000 in
theorem m_best {l : Launch} {E : gE} {h : Nat} {ad : Nat → Nat} (hok : mOK E h ad) (σ : mS)  (q : Int) (w : Int) (hq : r32 q) (hw : r32 w) (hr : rowOK (σ 0)) (ht : tolOK σ) : mC l E h ad yX3_best cX3_best 5 (some .int) 10 [.ref h, .int (iI q), .int (iI w)] σ (fun rv σ' => rv = some (.int (iI (sp_best σ q w))) ∧ (True) ∧ ∀ (k : Nat) (j : Int), k ∉ [22, 23, 24, 25, 26, 27, 28, 29, 36, 37, 38] → σ' k j = σ k j) := by
  refine mC.of (by decide) [some (.ref h), some (.int (iI q)), some (.int (iI w)), none, none] (Nat.le_of_ble_eq_true rfl) rfl rfl (fun Γ hΓ => ?_)
  obtain ⟨h1000, h1009, h1042, h1043, h1044, h1045, h1046, h1047, hms, hsi, hsm, hnm⟩ := id hr
  have ht6 := ht.1
  have hvl : 2 ≤ vlN q ∧ vlN q ≤ 41 ∧ (q = 2 → vlN q = 17) := by rw [vlN]; split <;> omega
  refine g_iload_n hΓ rfl dX3_best_0 ?_
  refine g_iconst hΓ dX3_best_1 ?_
  refine g_iconst hΓ dX3_best_2 ?_
  refine m_callS (As := [.int (iI q), .int (iI 0), .int (iI 2)]) (rest := []) hok hΓ (m_isIn hok σ q 0 2 (by first | assumption | omega) (by first | assumption | omega) (by first | assumption | omega)) rfl q1549 q1550 q131 q1551 ndX3_isIn rfl (by decide) (by decide) rfl (Nat.le_of_ble_eq_true rfl) dX3_best_3 rfl (fun v1 τ1 τ1h => ?_)
  obtain ⟨rfl, τ1h⟩ := τ1h
  rw [τ1h]
  clear τ1h
  show gW Γ E (mM E h ad σ) 0 0 _ _ (.int (iI (if 0 ≤ q ∧ q ≤ 2 then 1 else 0)) :: _)
  refine g_ifB_eq (tgt := 25) hΓ  dX3_best_6 (by decide) (fun c2 => ?_) (fun c2 => ?_)
  · refine g_ldcw (n := -1000000) hΓ rfl q1806 (by decide) dX3_best_25 ?_
    exact m_iret hΓ dX3_best_28 ⟨ri (by rw [sp_best, if_neg (fun z => by first | (exact absurd z.2.2 (by assumption)) | omega)]), trivial, (fun k j hk => rfl)⟩
  · refine g_iload_n hΓ rfl dX3_best_9 ?_
    refine g_iconst hΓ dX3_best_10 ?_
    refine g_iconst hΓ dX3_best_11 ?_
    refine m_callS (As := [.int (iI w), .int (iI 0), .int (iI 1)]) (rest := []) hok hΓ (m_isIn hok σ w 0 1 (by first | assumption | omega) (by first | assumption | omega) (by first | assumption | omega)) rfl q1549 q1550 q131 q1551 ndX3_isIn rfl (by decide) (by decide) rfl (Nat.le_of_ble_eq_true rfl) dX3_best_12 rfl (fun v3 τ3 τ3h => ?_)
    obtain ⟨rfl, τ3h⟩ := τ3h
    rw [τ3h]
    clear τ3h
    show gW Γ E (mM E h ad σ) 0 0 _ _ (.int (iI (if 0 ≤ w ∧ w ≤ 1 then 1 else 0)) :: _)
    refine g_ifB_eq (tgt := 25) hΓ  dX3_best_15 (by decide) (fun c4 => ?_) (fun c4 => ?_)
    · refine g_ldcw (n := -1000000) hΓ rfl q1806 (by decide) dX3_best_25 ?_
      exact m_iret hΓ dX3_best_28 ⟨ri (by rw [sp_best, if_neg (fun z => by first | (exact absurd z.2.2 (by assumption)) | omega)]), trivial, (fun k j hk => rfl)⟩
    · refine g_aload_n hΓ rfl dX3_best_18 ?_
      refine m_callV (As := []) (rest := []) hok hΓ (m_areModelsThere hok σ  (by first | assumption | omega) (by first | assumption | omega)) rfl q1919 q1921 qs117 q131 q1922 ndX3_areModelsThere rfl (by decide) (by decide) rfl rfl (Nat.le_of_ble_eq_true rfl) dX3_best_19 rfl (fun v5 τ5 τ5h => ?_)
      obtain ⟨rfl, τ5h⟩ := τ5h
      rw [τ5h]
      clear τ5h
      show gW Γ E (mM E h ad σ) 0 0 _ _ (.int (iI (if allM σ (σ 6 0).toNat = true ∧ 0 < σ 6 0 ∧ 1 < σ 0 1000 then 1 else 0)) :: _)
      refine g_ifB_ne (tgt := 29) hΓ  dX3_best_22 (by decide) (fun c6 => ?_) (fun c6 => ?_)
      · refine g_aload_n hΓ rfl dX3_best_29 ?_
        refine g_iload_n hΓ rfl dX3_best_30 ?_
        refine m_callV (As := [.int (iI q)]) (rest := []) hok hΓ (m_laysAllRight hok σ q (by first | assumption | omega) (by first | assumption | omega) (by first | assumption | omega)) rfl q1900 q1902 qs114 q131 q1903 ndX3_laysAllRight rfl (by decide) (by decide) rfl rfl (Nat.le_of_ble_eq_true rfl) dX3_best_31 rfl (fun v7 τ7 τ7h => ?_)
        obtain ⟨rfl, τ7h, τ7f⟩ := τ7h
        refine g_iconst hΓ dX3_best_34 ?_
        refine g_istore_n hΓ dX3_best_35 rfl (Nat.le_of_ble_eq_true rfl) (lv' := [some (.ref h), some (.int (iI q)), some (.int (iI w)), some (.int (iI 0)), none]) rfl ?_
        refine g_iconst hΓ dX3_best_36 ?_
        refine g_istore hΓ dX3_best_37 rfl (Nat.le_of_ble_eq_true rfl) (lv' := [some (.ref h), some (.int (iI q)), some (.int (iI w)), some (.int (iI 0)), some (.int (iI 1))]) rfl ?_
        have loop : ∀ (fu : Nat) (x : Int) (v : Int), (vlN q - v).toNat < fu → (1 ≤ v ∧ v ≤ vlN q ∧ 0 ≤ x ∧ x < v) → (bvF (fun v => rbF σ q v (σ 6 0).toNat) (vlN q - v).toNat v x = bvE σ q) → gW Γ E (mM E h ad τ7) 0 0 39 [some (.ref h), some (.int (iI q)), some (.int (iI w)), some (.int (iI x)), some (.int (iI v))] [] := by
          intro fu
          induction fu with
          | zero => intro x v hn; exact absurd hn (Nat.not_lt_zero _)
          | succ fu ih_loop =>
            intro x v hn hv hv2
            refine g_iload hΓ rfl dX3_best_39 ?_
            refine g_iload_n hΓ rfl dX3_best_41 ?_
            refine m_callS (As := [.int (iI q)]) (rest := [.int (iI v)]) hok hΓ (m_valuesOf hok τ7 q (by first | assumption | omega)) rfl q1912 q1913 q131 q1914 ndX3_valuesOf rfl (by decide) (by decide) rfl (Nat.le_of_ble_eq_true rfl) dX3_best_42 rfl (fun v8 τ8 τ8h => ?_)
            obtain ⟨rfl, τ8h⟩ := τ8h
            rw [τ8h]
            clear τ8h
            show gW Γ E (mM E h ad τ7) 0 0 _ _ (.int (iI (vlN q)) :: _)
            refine g_icmp_ge (tgt := 77) hΓ (by omega) (by omega) dX3_best_45 (by decide) (fun c9 => ?_) (fun c9 => ?_)
            · have hx : bvE σ q = x := by rw [← hv2, show (vlN q - v).toNat = 0 by omega]; rfl
              have h8 := τ7h x (by omega) (by omega)
              refine g_iload_n hΓ rfl dX3_best_77 ?_
              refine g_if_ne (tgt := 85) hΓ (by omega) dX3_best_78 (by decide) (fun c10 => ?_) (fun c10 => ?_)
              · refine g_aload_n hΓ rfl dX3_best_85 ?_
                refine m_geta hok hΓ 37 (by decide) rfl rfl q1394 rfl dX3_best_86 ?_
                refine g_iload_n hΓ rfl dX3_best_89 ?_
                refine m_ald hok hΓ 37 (by decide) rfl (n := 41) rfl (by omega) (by decide) dX3_best_90 ?_
                exact m_iret hΓ dX3_best_91 ⟨ri (by rw [sp_best, if_pos ⟨by omega, by omega, by assumption⟩, hx]; first | (rw [if_pos (by omega)]; done) | (rw [if_neg (by omega)]; exact h8.2)), trivial, (fun k j hk => (τ7f k j (fun e => hk ((show ∀ x ∈ [22, 23, 24, 25, 26, 27, 28, 29, 36, 37, 38], x ∈ [22, 23, 24, 25, 26, 27, 28, 29, 36, 37, 38] by decide) k e))))⟩
              · refine g_iload_n hΓ rfl dX3_best_81 ?_
                refine g_goto (tgt := 91) hΓ dX3_best_82 (by decide) ?_
                exact m_iret hΓ dX3_best_91 ⟨ri (by rw [sp_best, if_pos ⟨by omega, by omega, by assumption⟩, hx]; first | (rw [if_pos (by omega)]; done) | (rw [if_neg (by omega)]; exact h8.2)), trivial, (fun k j hk => (τ7f k j (fun e => hk ((show ∀ x ∈ [22, 23, 24, 25, 26, 27, 28, 29, 36, 37, 38], x ∈ [22, 23, 24, 25, 26, 27, 28, 29, 36, 37, 38] by decide) k e))))⟩
            · have h9 := τ7h v (by omega) (by omega)
              have h8 := τ7h x (by omega) (by omega)
              have h7 := (rbF_r hr ht (which := q) (v := v) (by omega) (σ 6 0).toNat (by omega)).1
              have h6 := (rbF_r hr ht (which := q) (v := x) (by omega) (σ 6 0).toNat (by omega)).1
              refine g_aload_n hΓ rfl dX3_best_48 ?_
              refine m_geta hok hΓ 37 (by decide) rfl rfl q1394 rfl dX3_best_49 ?_
              refine g_iload hΓ rfl dX3_best_52 ?_
              refine m_ald hok hΓ 37 (by decide) rfl (n := 41) rfl (by omega) (by decide) dX3_best_54 ?_
              refine g_aload_n hΓ rfl dX3_best_55 ?_
              refine m_geta hok hΓ 37 (by decide) rfl rfl q1394 rfl dX3_best_56 ?_
              refine g_iload_n hΓ rfl dX3_best_59 ?_
              refine m_ald hok hΓ 37 (by decide) rfl (n := 41) rfl (by omega) (by decide) dX3_best_60 ?_
              refine g_icmp_le (tgt := 69) hΓ (by omega) (by omega) dX3_best_61 (by decide) (fun c11 => ?_) (fun c11 => ?_)
              · refine g_iload_n hΓ rfl dX3_best_69 ?_
                refine g_istore_n hΓ dX3_best_70 rfl (Nat.le_of_ble_eq_true rfl) (lv' := [some (.ref h), some (.int (iI q)), some (.int (iI w)), some (.int (iI x)), some (.int (iI v))]) rfl ?_
                obtain ⟨x12, ex12⟩ : ∃ z9 : Int, z9 = v + 1 := ⟨_, rfl⟩
                refine g_iinc hΓ dX3_best_71 rfl rfl (lv' := [some (.ref h), some (.int (iI q)), some (.int (iI w)), some (.int (iI x)), some (.int (iI x12))]) (by rw [ex12]; rfl) ?_
                refine g_goto (tgt := 39) hΓ dX3_best_74 (by decide) ?_
                exact ih_loop x x12 (by omega) (by omega) (by rw [← hv2, show (vlN q - v).toNat = (vlN q - x12).toNat + 1 by omega, bvF]; (try simp only); rw [← h9.2, ← h8.2, if_neg (by omega), ex12])
              · refine g_iload hΓ rfl dX3_best_64 ?_
                refine g_goto (tgt := 70) hΓ dX3_best_66 (by decide) ?_
                refine g_istore_n hΓ dX3_best_70 rfl (Nat.le_of_ble_eq_true rfl) (lv' := [some (.ref h), some (.int (iI q)), some (.int (iI w)), some (.int (iI v)), some (.int (iI v))]) rfl ?_
                obtain ⟨x13, ex13⟩ : ∃ z9 : Int, z9 = v + 1 := ⟨_, rfl⟩
                refine g_iinc hΓ dX3_best_71 rfl rfl (lv' := [some (.ref h), some (.int (iI q)), some (.int (iI w)), some (.int (iI v)), some (.int (iI x13))]) (by rw [ex13]; rfl) ?_
                refine g_goto (tgt := 39) hΓ dX3_best_74 (by decide) ?_
                exact ih_loop v x13 (by omega) (by omega) (by rw [← hv2, show (vlN q - v).toNat = (vlN q - x13).toNat + 1 by omega, bvF]; (try simp only); rw [← h9.2, ← h8.2, if_pos (by omega), ex13])
        exact loop 42 0 1 (by omega) (by omega) rfl
      · refine g_ldcw (n := -1000000) hΓ rfl q1806 (by decide) dX3_best_25 ?_
        exact m_iret hΓ dX3_best_28 ⟨ri (by rw [sp_best, if_neg (fun z => by first | (exact absurd z.2.2 (by assumption)) | omega)]), trivial, (fun k j hk => rfl)⟩
