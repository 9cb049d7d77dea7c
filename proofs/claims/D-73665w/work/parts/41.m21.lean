set_option maxRecDepth 100000
set_option maxHeartbeats 4000000 in
theorem m_lowOf {l : Launch} {E : gE} {h : Nat} {ad : Nat → Nat} (hok : mOK E h ad) (σ : mS)  (w : Int) (hw : r32 w) : mC l E h ad yX3_lowOf cX3_lowOf 1 (some .int) 0 [.int (iI w)] σ (fun rv σ' => rv = some (.int (iI (lowF w))) ∧ σ' = σ) := by
  refine mC.of (by decide) [some (.int (iI w))] (Nat.le_of_ble_eq_true rfl) rfl rfl (fun Γ hΓ => ?_)
  refine g_iload_n hΓ rfl dX3_lowOf_0 ?_
  refine g_if_ne (tgt := 8) hΓ (by omega) dX3_lowOf_1 (by decide) (fun c1 => ?_) (fun c1 => ?_)
  · refine g_iconst hΓ dX3_lowOf_8 ?_
    exact m_iret hΓ dX3_lowOf_9 ⟨ri (by rw [lowF]; first | rw [if_pos (by omega)] | rw [if_neg (by omega)]), rfl⟩
  · refine g_iconst hΓ dX3_lowOf_4 ?_
    refine g_goto (tgt := 9) hΓ dX3_lowOf_5 (by decide) ?_
    exact m_iret hΓ dX3_lowOf_9 ⟨ri (by rw [lowF]; first | rw [if_pos (by omega)] | rw [if_neg (by omega)]), rfl⟩
set_option maxHeartbeats 4000000 in
theorem m_highOf {l : Launch} {E : gE} {h : Nat} {ad : Nat → Nat} (hok : mOK E h ad) (σ : mS)  (w : Int) (hw : r32 w) : mC l E h ad yX3_highOf cX3_highOf 1 (some .int) 0 [.int (iI w)] σ (fun rv σ' => rv = some (.int (iI (hghF w))) ∧ σ' = σ) := by
  refine mC.of (by decide) [some (.int (iI w))] (Nat.le_of_ble_eq_true rfl) rfl rfl (fun Γ hΓ => ?_)
  refine g_iload_n hΓ rfl dX3_highOf_0 ?_
  refine g_iconst hΓ dX3_highOf_1 ?_
  refine g_icmp_ge (tgt := 10) hΓ (by omega) (by omega) dX3_highOf_2 (by decide) (fun c1 => ?_) (fun c1 => ?_)
  · refine g_iload_n hΓ rfl dX3_highOf_10 ?_
    refine g_iconst hΓ dX3_highOf_11 ?_
    refine g_icmp_ge (tgt := 20) hΓ (by omega) (by omega) dX3_highOf_12 (by decide) (fun c2 => ?_) (fun c2 => ?_)
    · refine g_bipush hΓ (by decide) dX3_highOf_20 ?_
      exact m_iret hΓ dX3_highOf_22 ⟨ri (by rw [hghF]; (repeat' split) <;> first | rfl | omega), rfl⟩
    · refine g_bipush hΓ (by decide) dX3_highOf_15 ?_
      refine g_goto (tgt := 22) hΓ dX3_highOf_17 (by decide) ?_
      exact m_iret hΓ dX3_highOf_22 ⟨ri (by rw [hghF]; (repeat' split) <;> first | rfl | omega), rfl⟩
  · refine g_bipush hΓ (by decide) dX3_highOf_5 ?_
    refine g_goto (tgt := 22) hΓ dX3_highOf_7 (by decide) ?_
    exact m_iret hΓ dX3_highOf_22 ⟨ri (by rw [hghF]; (repeat' split) <;> first | rfl | omega), rfl⟩
set_option maxHeartbeats 4000000 in
theorem m_status {l : Launch} {E : gE} {h : Nat} {ad : Nat → Nat} (hok : mOK E h ad) (σ : mS)  (w : Int) (hw : r32 w) : mC l E h ad yX3_status cX3_status 2 (some .int) 1 [.ref h, .int (iI w)] σ (fun rv σ' => rv = some (.int (iI (if 0 ≤ w ∧ w ≤ 5 then σ 13 w else -1))) ∧ σ' = σ) := by
  refine mC.of (by decide) [some (.ref h), some (.int (iI w))] (Nat.le_of_ble_eq_true rfl) rfl rfl (fun Γ hΓ => ?_)
  refine g_iload_n hΓ rfl dX3_status_0 ?_
  refine g_iconst hΓ dX3_status_1 ?_
  refine g_iconst hΓ dX3_status_2 ?_
  refine m_callS (As := [.int (iI w), .int (iI 0), .int (iI 5)]) (rest := []) hok hΓ (m_isIn hok σ w 0 5 (by first | assumption | omega) (by first | assumption | omega) (by first | assumption | omega)) rfl q1549 q1550 q131 q1551 ndX3_isIn rfl (by decide) (by decide) rfl (Nat.le_of_ble_eq_true rfl) dX3_status_3 rfl (fun v1 τ1 τ1h => ?_)
  obtain ⟨rfl, τ1h⟩ := τ1h
  rw [τ1h]
  clear τ1h
  show gW Γ E (mM E h ad σ) 0 0 _ _ (.int (iI (if 0 ≤ w ∧ w ≤ 5 then 1 else 0)) :: _)
  refine g_ifB_eq (tgt := 18) hΓ  dX3_status_6 (by decide) (fun c2 => ?_) (fun c2 => ?_)
  · refine g_iconst hΓ dX3_status_18 ?_
    exact m_iret hΓ dX3_status_19 ⟨ri (by first | rw [if_pos (by omega)] | rw [if_neg (by omega)]), rfl⟩
  · refine g_aload_n hΓ rfl dX3_status_9 ?_
    refine m_geta hok hΓ 13 (by decide) rfl rfl q1370 rfl dX3_status_10 ?_
    refine g_iload_n hΓ rfl dX3_status_13 ?_
    refine m_ald hok hΓ 13 (by decide) rfl (n := 6) rfl (by omega) (by decide) dX3_status_14 ?_
    refine g_goto (tgt := 19) hΓ dX3_status_15 (by decide) ?_
    exact m_iret hΓ dX3_status_19 ⟨ri (by first | rw [if_pos (by omega)] | rw [if_neg (by omega)]), rfl⟩
set_option maxHeartbeats 4000000 in
theorem m_octet {l : Launch} {E : gE} {h : Nat} {ad : Nat → Nat} (hok : mOK E h ad) (σ : mS)  (k : Int) (hk : r32 k) (ho : 0 ≤ σ 40 0 ∧ σ 40 0 ≤ 202) : mC l E h ad yX3_octet cX3_octet 2 (some .int) 1 [.ref h, .int (iI k)] σ (fun rv σ' => rv = some (.int (iI (if 0 ≤ k ∧ k < σ 40 0 then σ 39 k else -1))) ∧ σ' = σ) := by
  refine mC.of (by decide) [some (.ref h), some (.int (iI k))] (Nat.le_of_ble_eq_true rfl) rfl rfl (fun Γ hΓ => ?_)
  refine g_iload_n hΓ rfl dX3_octet_0 ?_
  refine g_iconst hΓ dX3_octet_1 ?_
  refine g_aload_n hΓ rfl dX3_octet_2 ?_
  refine m_geti hok hΓ 40 (by decide) rfl rfl q1397 rfl dX3_octet_3 ?_
  refine g_iconst hΓ dX3_octet_6 ?_
  refine g_isub hΓ dX3_octet_7 ?_
  refine m_callS (As := [.int (iI k), .int (iI 0), .int (iI ((σ 40 0) - 1))]) (rest := []) hok hΓ (m_isIn hok σ k 0 ((σ 40 0) - 1) (by first | assumption | omega) (by first | assumption | omega) (by first | assumption | omega)) rfl q1549 q1550 q131 q1551 ndX3_isIn rfl (by decide) (by decide) rfl (Nat.le_of_ble_eq_true rfl) dX3_octet_8 rfl (fun v1 τ1 τ1h => ?_)
  obtain ⟨rfl, τ1h⟩ := τ1h
  rw [τ1h]
  clear τ1h
  show gW Γ E (mM E h ad σ) 0 0 _ _ (.int (iI (if 0 ≤ k ∧ k ≤ ((σ 40 0) - 1) then 1 else 0)) :: _)
  refine g_ifB_eq (tgt := 23) hΓ  dX3_octet_11 (by decide) (fun c2 => ?_) (fun c2 => ?_)
  · refine g_iconst hΓ dX3_octet_23 ?_
    exact m_iret hΓ dX3_octet_24 ⟨ri (by first | rw [if_pos (by omega)] | rw [if_neg (by omega)]), rfl⟩
  · refine g_aload_n hΓ rfl dX3_octet_14 ?_
    refine m_geta hok hΓ 39 (by decide) rfl rfl q1396 rfl dX3_octet_15 ?_
    refine g_iload_n hΓ rfl dX3_octet_18 ?_
    refine m_ald hok hΓ 39 (by decide) rfl (n := 202) rfl (by omega) (by decide) dX3_octet_19 ?_
    refine g_goto (tgt := 24) hΓ dX3_octet_20 (by decide) ?_
    exact m_iret hΓ dX3_octet_24 ⟨ri (by first | rw [if_pos (by omega)] | rw [if_neg (by omega)]), rfl⟩
set_option maxHeartbeats 4000000 in
theorem m_seed {l : Launch} {E : gE} {h : Nat} {ad : Nat → Nat} (hok : mOK E h ad) (σ : mS)  (x : Int) (hx : r32 x) : mC l E h ad yX3_seed cX3_seed 2 (some .boolean) 1 [.ref h, .int (iI x)] σ (fun rv σ' => rv = some (.int (iI (if 0 ≤ x then 1 else 0))) ∧ ((x < 0 → σ' 5 0 = σ 5 0 ∧ refR σ' σ 5) ∧ (0 ≤ x → σ' 5 0 = x ∧ σ' 13 = σ 13)) ∧ ∀ (k : Nat) (j : Int), k ∉ [5, 13] → σ' k j = σ k j) := by
  refine mC.of (by decide) [some (.ref h), some (.int (iI x))] (Nat.le_of_ble_eq_true rfl) rfl rfl (fun Γ hΓ => ?_)
  refine g_iload_n hΓ rfl dX3_seed_0 ?_
  refine g_if_ge (tgt := 10) hΓ (by omega) dX3_seed_1 (by decide) (fun c1 => ?_) (fun c1 => ?_)
  · refine g_aload_n hΓ rfl dX3_seed_10 ?_
    refine g_iload_n hΓ rfl dX3_seed_11 ?_
    refine m_puti hok hΓ 5 (by decide) rfl rfl q1362 rfl rfl rfl dX3_seed_12 (fun τ2 τ2e => ?_)
    have τ2r : τ2 5 0 = x := by rw [τ2e]; exact us_s _ _ _ _
    have τ2f : ∀ (k9 : Nat) (j9 : Int), (k9 ≠ 5 ∨ j9 ≠ 0) → τ2 k9 j9 = σ k9 j9 := fun k9 j9 hh => by rw [τ2e]; exact us_n hh
    refine g_iconst hΓ dX3_seed_15 ?_
    exact m_zret hΓ (by omega) dX3_seed_16 ⟨ri (by first | rfl | omega | ((repeat' split) <;> first | rfl | omega | contradiction | (simp_all; done) | (exfalso; omega))), ⟨fun q => absurd q (by omega), fun _ => ⟨τ2r, funext fun j => τ2f 13 j (Or.inl (by decide))⟩⟩, (fun k j hk => (τ2f k j (Or.inl (fun e => hk (by rw [e]; decide)))))⟩
  · refine g_aload_n hΓ rfl dX3_seed_4 ?_
    refine g_iconst hΓ dX3_seed_5 ?_
    refine m_callV (As := [.int (iI 5)]) (rest := []) hok hΓ (m_isRefused hok σ 5 (by first | assumption | omega)) rfl q1497 q1499 qs58 q131 q1500 ndX3_isRefused rfl (by decide) (by decide) rfl rfl (Nat.le_of_ble_eq_true rfl) dX3_seed_6 rfl (fun v3 τ3 τ3h => ?_)
    obtain ⟨rfl, τ3h, τ3f⟩ := τ3h
    show gW Γ E (mM E h ad τ3) 0 0 _ _ (.int (iI 0) :: _)
    exact m_zret hΓ (by omega) dX3_seed_9 ⟨ri (by first | rfl | omega | ((repeat' split) <;> first | rfl | omega | contradiction | (simp_all; done) | (exfalso; omega))), ⟨fun _ => ⟨τ3f 5 0 (by decide), τ3h⟩, fun q => absurd q (by omega)⟩, (fun k j hk => (τ3f k j (fun e => hk ((show ∀ x ∈ [13], x ∈ [5, 13] by decide) k e))))⟩
set_option maxHeartbeats 4000000 in
theorem m_draw {l : Launch} {E : gE} {h : Nat} {ad : Nat → Nat} (hok : mOK E h ad) (σ : mS)  (m : Int) (hm : 1 ≤ m ∧ m ≤ 100) (hsd : 0 ≤ σ 5 0 ∧ σ 5 0 < 2147483648) : mC l E h ad yX3_draw cX3_draw 2 (some .int) 0 [.ref h, .int (iI m)] σ (fun rv σ' => rv = some (.int (iI (sdF (σ 5 0) / 64 % m))) ∧ (σ' 5 0 = sdF (σ 5 0)) ∧ ∀ (k : Nat) (j : Int), k ∉ [5] → σ' k j = σ k j) := by
  refine mC.of (by decide) [some (.ref h), some (.int (iI m))] (Nat.le_of_ble_eq_true rfl) rfl rfl (fun Γ hΓ => ?_)
  refine g_aload_n hΓ rfl dX3_draw_0 ?_
  refine g_ldc2 (n := 1103515245) hΓ rfl q1959 (by decide) dX3_draw_1 ?_
  refine g_aload_n hΓ rfl dX3_draw_4 ?_
  refine m_geti hok hΓ 5 (by decide) rfl rfl q1362 rfl dX3_draw_5 ?_
  refine g_i2l hΓ (by omega) dX3_draw_8 ?_
  refine g_lmul hΓ dX3_draw_9 ?_
  refine g_ldc2 (n := 12345) hΓ rfl q1960 (by decide) dX3_draw_10 ?_
  refine g_ladd hΓ dX3_draw_13 ?_
  refine g_ldc2 (n := 2147483648) hΓ rfl q1961 (by decide) dX3_draw_14 ?_
  refine g_lremN hΓ (by omega) (by omega) (by omega) dX3_draw_17 ?_
  refine g_l2i hΓ dX3_draw_18 ?_
  refine m_puti hok hΓ 5 (by decide) rfl rfl q1362 rfl rfl rfl dX3_draw_19 (fun τ1 τ1e => ?_)
  have τ1r : τ1 5 0 = ((1103515245 * (σ 5 0)) + 12345) % 2147483648 := by rw [τ1e]; exact us_s _ _ _ _
  have τ1f : ∀ (k9 : Nat) (j9 : Int), (k9 ≠ 5 ∨ j9 ≠ 0) → τ1 k9 j9 = σ k9 j9 := fun k9 j9 hh => by rw [τ1e]; exact us_n hh
  have hsr : 0 ≤ sdF (σ 5 0) ∧ sdF (σ 5 0) < 2147483648 := by rw [sdF]; omega
  have hsd2 : ((1103515245 * σ 5 0 + 12345) % 2147483648 : Int) = sdF (σ 5 0) := rfl
  refine g_aload_n hΓ rfl dX3_draw_22 ?_
  refine m_geti hok hΓ 5 (by decide) rfl rfl q1362 rfl dX3_draw_23 ?_
  refine g_topi (τ1r) ?_
  refine g_bipush hΓ (by decide) dX3_draw_26 ?_
  refine g_idivN hΓ (by omega) (by omega) (by omega) dX3_draw_28 ?_
  refine g_iload_n hΓ rfl dX3_draw_29 ?_
  refine g_iremN hΓ (by omega) (by omega) (by omega) dX3_draw_30 ?_
  exact m_iret hΓ dX3_draw_31 ⟨ri (by rfl), τ1r, (fun k j hk => (τ1f k j (Or.inl (fun e => hk (by rw [e]; decide)))))⟩
set_option maxHeartbeats 4000000 in
theorem m_remembers {l : Launch} {E : gE} {h : Nat} {ad : Nat → Nat} (hok : mOK E h ad) (σ : mS)   (hun : 0 ≤ σ 4 0 ∧ σ 4 0 ≤ 20) : mC l E h ad yX3_remembers cX3_remembers 2 none 0 [.ref h] σ (fun rv σ' => rv = none ∧ (remR σ' σ) ∧ ∀ (k : Nat) (j : Int), k ∉ [3, 4] → σ' k j = σ k j) := by
  refine mC.of (by decide) [some (.ref h), none] (Nat.le_of_ble_eq_true rfl) rfl rfl (fun Γ hΓ => ?_)
  refine g_aload_n hΓ rfl dX3_remembers_0 ?_
  refine m_geti hok hΓ 4 (by decide) rfl rfl q1361 rfl dX3_remembers_1 ?_
  refine g_bipush hΓ (by decide) dX3_remembers_4 ?_
  refine g_icmp_ne (tgt := 50) hΓ (by omega) (by omega) dX3_remembers_6 (by decide) (fun c1 => ?_) (fun c1 => ?_)
  · refine g_iconst hΓ dX3_remembers_50 ?_
    refine g_istore_n hΓ dX3_remembers_51 rfl (Nat.le_of_ble_eq_true rfl) (lv' := [some (.ref h), some (.int (iI 0))]) rfl ?_
    have hk0 : σ 3 = (if σ 4 0 = 20 then rmS (σ 3) else σ 3) := by rw [if_neg (by omega)]
    have hu0 : σ 4 0 = rmU (σ 4 0) := by rw [rmU, if_neg (by omega)]
    have hur : 0 ≤ rmU (σ 4 0) ∧ rmU (σ 4 0) ≤ 19 := by rw [rmU]; split <;> omega
    have loop2 : ∀ (fu : Nat) (q : Int) (u : mS), (1048 - q).toNat < fu → (0 ≤ q ∧ q ≤ 1048) → (∀ j, u 3 j = if 1048 * rmU (σ 4 0) ≤ j ∧ j < 1048 * rmU (σ 4 0) + q then σ 0 (j - 1048 * rmU (σ 4 0)) else (if σ 4 0 = 20 then rmS (σ 3) else σ 3) j) → (u 4 0 = rmU (σ 4 0)) → (∀ (k : Nat) (j : Int), k ∉ [3, 4] → u k j = σ k j) → gW Γ E (mM E h ad u) 0 0 52 [some (.ref h), some (.int (iI q))] [] := by
      intro fu
      induction fu with
      | zero => intro q u hn; exact absurd hn (Nat.not_lt_zero _)
      | succ fu ih_loop2 =>
        intro q u hn hq hA2 hu2 uf
        refine g_iload_n hΓ rfl dX3_remembers_52 ?_
        refine g_sipush hΓ (by decide) dX3_remembers_53 ?_
        refine g_icmp_ge (tgt := 86) hΓ (by omega) (by omega) dX3_remembers_56 (by decide) (fun c2 => ?_) (fun c2 => ?_)
        · refine g_aload_n hΓ rfl dX3_remembers_86 ?_
          refine g_dup hΓ rfl dX3_remembers_87 ?_
          refine m_geti hok hΓ 4 (by decide) rfl rfl q1361 rfl dX3_remembers_88 ?_
          refine g_iconst hΓ dX3_remembers_91 ?_
          refine g_iadd hΓ dX3_remembers_92 ?_
          refine m_puti hok hΓ 4 (by decide) rfl rfl q1361 rfl rfl rfl dX3_remembers_93 (fun τ3 τ3e => ?_)
          have τ3r : τ3 4 0 = (u 4 0) + 1 := by rw [τ3e]; exact us_s _ _ _ _
          have τ3f : ∀ (k9 : Nat) (j9 : Int), (k9 ≠ 4 ∨ j9 ≠ 0) → τ3 k9 j9 = u k9 j9 := fun k9 j9 hh => by rw [τ3e]; exact us_n hh
          exact m_vret hΓ dX3_remembers_96 ⟨rfl, ⟨funext fun j => by rw [τ3f 3 j (Or.inl (by decide)), hA2 j, rmK, rmW, show q = 1048 by omega], by rw [τ3r, hu2]⟩, (fun k j hk => ((τ3f k j (Or.inl (fun e => hk (by rw [e]; decide)))).trans (uf k j (fun e => hk ((show ∀ x ∈ [3, 4], x ∈ [3, 4] by decide) k e)))))⟩
        · refine g_aload_n hΓ rfl dX3_remembers_59 ?_
          refine m_geta hok hΓ 3 (by decide) rfl rfl q1360 rfl dX3_remembers_60 ?_
          refine g_sipush hΓ (by decide) dX3_remembers_63 ?_
          refine g_aload_n hΓ rfl dX3_remembers_66 ?_
          refine m_geti hok hΓ 4 (by decide) rfl rfl q1361 rfl dX3_remembers_67 ?_
          refine g_imul hΓ dX3_remembers_70 ?_
          refine g_iload_n hΓ rfl dX3_remembers_71 ?_
          refine g_iadd hΓ dX3_remembers_72 ?_
          refine g_aload_n hΓ rfl dX3_remembers_73 ?_
          refine m_geta hok hΓ 0 (by decide) rfl rfl q1357 rfl dX3_remembers_74 ?_
          refine g_iload_n hΓ rfl dX3_remembers_77 ?_
          refine m_ald hok hΓ 0 (by decide) rfl (n := 1048) rfl (by omega) (by decide) dX3_remembers_78 ?_
          refine g_topi ((uf 0 q (by decide))) ?_
          refine m_ast hok hΓ 3 (by decide) rfl (n := 20960) rfl (by omega) (by decide) dX3_remembers_79 (fun τ4 τ4e => ?_)
          have τ4r : τ4 3 ((1048 * (u 4 0)) + q) = σ 0 q := by rw [τ4e]; exact us_s _ _ _ _
          have τ4f : ∀ (k9 : Nat) (j9 : Int), (k9 ≠ 3 ∨ j9 ≠ ((1048 * (u 4 0)) + q)) → τ4 k9 j9 = u k9 j9 := fun k9 j9 hh => by rw [τ4e]; exact us_n hh
          obtain ⟨x5, ex5⟩ : ∃ z9 : Int, z9 = q + 1 := ⟨_, rfl⟩
          refine g_iinc hΓ dX3_remembers_80 rfl rfl (lv' := [some (.ref h), some (.int (iI x5))]) (by rw [ex5]; rfl) ?_
          refine g_goto (tgt := 52) hΓ dX3_remembers_83 (by decide) ?_
          exact ih_loop2 x5 τ4 (by omega) (by omega) (fun j => by
              by_cases z : j = 1048 * u 4 0 + q
              · rw [z, τ4r, if_pos (by omega)]
                congr 1; omega
              · rw [τ4f 3 j (Or.inr z), hA2 j]
                by_cases y : 1048 * rmU (σ 4 0) ≤ j ∧ j < 1048 * rmU (σ 4 0) + q
                · rw [if_pos y, if_pos (by omega)]
                · rw [if_neg y, if_neg (show ¬ (1048 * rmU (σ 4 0) ≤ j ∧ j < 1048 * rmU (σ 4 0) + x5) by omega)]) ((τ4f 4 0 (Or.inl (by decide))).trans hu2) (fun k j hk => ((τ4f k j (Or.inl (fun e => hk (by rw [e]; decide)))).trans (uf k j (fun e => hk ((show ∀ x ∈ [3, 4], x ∈ [3, 4] by decide) k e)))))
    exact loop2 1049 0 σ (by omega) (by omega) (fun j => by rw [if_neg (by omega)]; exact congrFun hk0 j) hu0 (fun k j hk => rfl)
  · refine g_iconst hΓ dX3_remembers_9 ?_
    refine g_istore_n hΓ dX3_remembers_10 rfl (Nat.le_of_ble_eq_true rfl) (lv' := [some (.ref h), some (.int (iI 0))]) rfl ?_
    have loop1 : ∀ (fu : Nat) (q : Int) (t : mS), (19912 - q).toNat < fu → (0 ≤ q ∧ q ≤ 19912) → (∀ j, t 3 j = if 0 ≤ j ∧ j < q then σ 3 (j + 1048) else σ 3 j) → (∀ (k : Nat) (j : Int), k ∉ [3] → t k j = σ k j) → gW Γ E (mM E h ad t) 0 0 11 [some (.ref h), some (.int (iI q))] [] := by
      intro fu
      induction fu with
      | zero => intro q t hn; exact absurd hn (Nat.not_lt_zero _)
      | succ fu ih_loop1 =>
        intro q t hn hq hA tf
        refine g_iload_n hΓ rfl dX3_remembers_11 ?_
        refine g_sipush hΓ (by decide) dX3_remembers_12 ?_
        refine g_icmp_ge (tgt := 40) hΓ (by omega) (by omega) dX3_remembers_15 (by decide) (fun c6 => ?_) (fun c6 => ?_)
        · have hK : t 3 = rmS (σ 3) := funext fun j => by rw [hA j, rmS, show q = 19912 by omega]
          refine g_aload_n hΓ rfl dX3_remembers_40 ?_
          refine g_dup hΓ rfl dX3_remembers_41 ?_
          refine m_geti hok hΓ 4 (by decide) rfl rfl q1361 rfl dX3_remembers_42 ?_
          refine g_topi ((tf 4 0 (by decide))) ?_
          refine g_iconst hΓ dX3_remembers_45 ?_
          refine g_isub hΓ dX3_remembers_46 ?_
          refine m_puti hok hΓ 4 (by decide) rfl rfl q1361 rfl rfl rfl dX3_remembers_47 (fun τ7 τ7e => ?_)
          have τ7r : τ7 4 0 = (σ 4 0) - 1 := by rw [τ7e]; exact us_s _ _ _ _
          have τ7f : ∀ (k9 : Nat) (j9 : Int), (k9 ≠ 4 ∨ j9 ≠ 0) → τ7 k9 j9 = t k9 j9 := fun k9 j9 hh => by rw [τ7e]; exact us_n hh
          refine g_iconst hΓ dX3_remembers_50 ?_
          refine g_istore_n hΓ dX3_remembers_51 rfl (Nat.le_of_ble_eq_true rfl) (lv' := [some (.ref h), some (.int (iI 0))]) rfl ?_
          have hk0 : τ7 3 = (if σ 4 0 = 20 then rmS (σ 3) else σ 3) := by rw [if_pos (by omega)]; exact (funext fun j => τ7f 3 j (Or.inl (by decide))).trans hK
          have hu0 : τ7 4 0 = rmU (σ 4 0) := by rw [rmU, if_pos (by omega), τ7r]; omega
          have hur : 0 ≤ rmU (σ 4 0) ∧ rmU (σ 4 0) ≤ 19 := by rw [rmU]; split <;> omega
          have loop2 : ∀ (fu : Nat) (q : Int) (u : mS), (1048 - q).toNat < fu → (0 ≤ q ∧ q ≤ 1048) → (∀ j, u 3 j = if 1048 * rmU (σ 4 0) ≤ j ∧ j < 1048 * rmU (σ 4 0) + q then σ 0 (j - 1048 * rmU (σ 4 0)) else (if σ 4 0 = 20 then rmS (σ 3) else σ 3) j) → (u 4 0 = rmU (σ 4 0)) → (∀ (k : Nat) (j : Int), k ∉ [3, 4] → u k j = σ k j) → gW Γ E (mM E h ad u) 0 0 52 [some (.ref h), some (.int (iI q))] [] := by
            intro fu
            induction fu with
            | zero => intro q u hn; exact absurd hn (Nat.not_lt_zero _)
            | succ fu ih_loop2 =>
              intro q u hn hq hA2 hu2 uf
              refine g_iload_n hΓ rfl dX3_remembers_52 ?_
              refine g_sipush hΓ (by decide) dX3_remembers_53 ?_
              refine g_icmp_ge (tgt := 86) hΓ (by omega) (by omega) dX3_remembers_56 (by decide) (fun c8 => ?_) (fun c8 => ?_)
              · refine g_aload_n hΓ rfl dX3_remembers_86 ?_
                refine g_dup hΓ rfl dX3_remembers_87 ?_
                refine m_geti hok hΓ 4 (by decide) rfl rfl q1361 rfl dX3_remembers_88 ?_
                refine g_iconst hΓ dX3_remembers_91 ?_
                refine g_iadd hΓ dX3_remembers_92 ?_
                refine m_puti hok hΓ 4 (by decide) rfl rfl q1361 rfl rfl rfl dX3_remembers_93 (fun τ9 τ9e => ?_)
                have τ9r : τ9 4 0 = (u 4 0) + 1 := by rw [τ9e]; exact us_s _ _ _ _
                have τ9f : ∀ (k9 : Nat) (j9 : Int), (k9 ≠ 4 ∨ j9 ≠ 0) → τ9 k9 j9 = u k9 j9 := fun k9 j9 hh => by rw [τ9e]; exact us_n hh
                exact m_vret hΓ dX3_remembers_96 ⟨rfl, ⟨funext fun j => by rw [τ9f 3 j (Or.inl (by decide)), hA2 j, rmK, rmW, show q = 1048 by omega], by rw [τ9r, hu2]⟩, (fun k j hk => ((τ9f k j (Or.inl (fun e => hk (by rw [e]; decide)))).trans (uf k j (fun e => hk ((show ∀ x ∈ [3, 4], x ∈ [3, 4] by decide) k e)))))⟩
              · refine g_aload_n hΓ rfl dX3_remembers_59 ?_
                refine m_geta hok hΓ 3 (by decide) rfl rfl q1360 rfl dX3_remembers_60 ?_
                refine g_sipush hΓ (by decide) dX3_remembers_63 ?_
                refine g_aload_n hΓ rfl dX3_remembers_66 ?_
                refine m_geti hok hΓ 4 (by decide) rfl rfl q1361 rfl dX3_remembers_67 ?_
                refine g_imul hΓ dX3_remembers_70 ?_
                refine g_iload_n hΓ rfl dX3_remembers_71 ?_
                refine g_iadd hΓ dX3_remembers_72 ?_
                refine g_aload_n hΓ rfl dX3_remembers_73 ?_
                refine m_geta hok hΓ 0 (by decide) rfl rfl q1357 rfl dX3_remembers_74 ?_
                refine g_iload_n hΓ rfl dX3_remembers_77 ?_
                refine m_ald hok hΓ 0 (by decide) rfl (n := 1048) rfl (by omega) (by decide) dX3_remembers_78 ?_
                refine g_topi ((uf 0 q (by decide))) ?_
                refine m_ast hok hΓ 3 (by decide) rfl (n := 20960) rfl (by omega) (by decide) dX3_remembers_79 (fun τ10 τ10e => ?_)
                have τ10r : τ10 3 ((1048 * (u 4 0)) + q) = σ 0 q := by rw [τ10e]; exact us_s _ _ _ _
                have τ10f : ∀ (k9 : Nat) (j9 : Int), (k9 ≠ 3 ∨ j9 ≠ ((1048 * (u 4 0)) + q)) → τ10 k9 j9 = u k9 j9 := fun k9 j9 hh => by rw [τ10e]; exact us_n hh
                obtain ⟨x11, ex11⟩ : ∃ z9 : Int, z9 = q + 1 := ⟨_, rfl⟩
                refine g_iinc hΓ dX3_remembers_80 rfl rfl (lv' := [some (.ref h), some (.int (iI x11))]) (by rw [ex11]; rfl) ?_
                refine g_goto (tgt := 52) hΓ dX3_remembers_83 (by decide) ?_
                exact ih_loop2 x11 τ10 (by omega) (by omega) (fun j => by
                    by_cases z : j = 1048 * u 4 0 + q
                    · rw [z, τ10r, if_pos (by omega)]
                      congr 1; omega
                    · rw [τ10f 3 j (Or.inr z), hA2 j]
                      by_cases y : 1048 * rmU (σ 4 0) ≤ j ∧ j < 1048 * rmU (σ 4 0) + q
                      · rw [if_pos y, if_pos (by omega)]
                      · rw [if_neg y, if_neg (show ¬ (1048 * rmU (σ 4 0) ≤ j ∧ j < 1048 * rmU (σ 4 0) + x11) by omega)]) ((τ10f 4 0 (Or.inl (by decide))).trans hu2) (fun k j hk => ((τ10f k j (Or.inl (fun e => hk (by rw [e]; decide)))).trans (uf k j (fun e => hk ((show ∀ x ∈ [3, 4], x ∈ [3, 4] by decide) k e)))))
          exact loop2 1049 0 τ7 (by omega) (by omega) (fun j => by rw [if_neg (by omega)]; exact congrFun hk0 j) hu0 (fun k j hk => ((τ7f k j (Or.inl (fun e => hk (by rw [e]; decide)))).trans (tf k j (fun e => hk ((show ∀ x ∈ [3], x ∈ [3, 4] by decide) k e)))))
        · refine g_aload_n hΓ rfl dX3_remembers_18 ?_
          refine m_geta hok hΓ 3 (by decide) rfl rfl q1360 rfl dX3_remembers_19 ?_
          refine g_iload_n hΓ rfl dX3_remembers_22 ?_
          refine g_aload_n hΓ rfl dX3_remembers_23 ?_
          refine m_geta hok hΓ 3 (by decide) rfl rfl q1360 rfl dX3_remembers_24 ?_
          refine g_iload_n hΓ rfl dX3_remembers_27 ?_
          refine g_sipush hΓ (by decide) dX3_remembers_28 ?_
          refine g_iadd hΓ dX3_remembers_31 ?_
          refine m_ald hok hΓ 3 (by decide) rfl (n := 20960) rfl (by omega) (by decide) dX3_remembers_32 ?_
          refine m_ast hok hΓ 3 (by decide) rfl (n := 20960) rfl (by omega) (by decide) dX3_remembers_33 (fun τ12 τ12e => ?_)
          have τ12r : τ12 3 q = t 3 (q + 1048) := by rw [τ12e]; exact us_s _ _ _ _
          have τ12f : ∀ (k9 : Nat) (j9 : Int), (k9 ≠ 3 ∨ j9 ≠ q) → τ12 k9 j9 = t k9 j9 := fun k9 j9 hh => by rw [τ12e]; exact us_n hh
          obtain ⟨x13, ex13⟩ : ∃ z9 : Int, z9 = q + 1 := ⟨_, rfl⟩
          refine g_iinc hΓ dX3_remembers_34 rfl rfl (lv' := [some (.ref h), some (.int (iI x13))]) (by rw [ex13]; rfl) ?_
          refine g_goto (tgt := 11) hΓ dX3_remembers_37 (by decide) ?_
          exact ih_loop1 x13 τ12 (by omega) (by omega) (fun j => by
              by_cases z : j = q
              · rw [z, τ12r, if_pos (by omega), hA, if_neg (by omega)]
              · rw [τ12f 3 j (Or.inr z), hA j]
                by_cases y : 0 ≤ j ∧ j < q
                · rw [if_pos y, if_pos (by omega)]
                · rw [if_neg y, if_neg (by omega)]) (fun k j hk => ((τ12f k j (Or.inl (fun e => hk (by rw [e]; decide)))).trans (tf k j (fun e => hk ((show ∀ x ∈ [3], x ∈ [3] by decide) k e)))))
    exact loop1 19913 0 σ (by omega) (by omega) (fun j => by rw [if_neg (by omega)]) (fun k j _ => rfl)
set_option maxHeartbeats 4000000 in
theorem m_lift {l : Launch} {E : gE} {h : Nat} {ad : Nat → Nat} (hok : mOK E h ad) (σ : mS)  (k : Int) (hk : r32 k) (hr : rowOK (σ 0)) (hun : 0 ≤ σ 4 0 ∧ σ 4 0 ≤ 20) : mC l E h ad yX3_lift cX3_lift 2 (some .boolean) 2 [.ref h, .int (iI k)] σ (fun rv σ' => rv = some (.int (iI (if 0 ≤ k ∧ k < σ 0 1009 then 1 else 0))) ∧ (((0 ≤ k ∧ k < σ 0 1009) → σ' 0 = lifF (σ 0) k ∧ remR σ' σ ∧ σ' 13 = σ 13) ∧ (¬ ((0 ≤ k ∧ k < σ 0 1009)) → refR σ' σ 2 ∧ σ' 0 = σ 0 ∧ σ' 3 = σ 3 ∧ σ' 4 0 = σ 4 0)) ∧ ∀ (k : Nat) (j : Int), k ∉ [0, 3, 4, 13] → σ' k j = σ k j) := by
  refine mC.of (by decide) [some (.ref h), some (.int (iI k))] (Nat.le_of_ble_eq_true rfl) rfl rfl (fun Γ hΓ => ?_)
  obtain ⟨h1000, h1009, h1042, h1043, h1044, h1045, h1046, h1047, hms, hsi, hsm, hnm⟩ := id hr
  refine g_aload_n hΓ rfl dX3_lift_0 ?_
  refine g_iload_n hΓ rfl dX3_lift_1 ?_
  refine m_callV (As := [.int (iI k)]) (rest := []) hok hΓ (m_isInked hok σ k (by first | assumption | omega) (by first | assumption | omega)) rfl q1847 q1849 qs108 q131 q1850 ndX3_isInked rfl (by decide) (by decide) rfl rfl (Nat.le_of_ble_eq_true rfl) dX3_lift_2 rfl (fun v1 τ1 τ1h => ?_)
  obtain ⟨rfl, τ1h⟩ := τ1h
  rw [τ1h]
  clear τ1h
  show gW Γ E (mM E h ad σ) 0 0 _ _ (.int (iI (if 0 ≤ k ∧ k < σ 0 1009 then 1 else 0)) :: _)
  refine g_ifB_ne (tgt := 14) hΓ  dX3_lift_5 (by decide) (fun c2 => ?_) (fun c2 => ?_)
  · refine g_aload_n hΓ rfl dX3_lift_14 ?_
    refine m_callV (As := []) (rest := []) hok hΓ (m_remembers hok σ  (by first | assumption | omega)) rfl q1927 q1929 qs118 q131 q1930 ndX3_remembers rfl (by decide) (by decide) rfl rfl (Nat.le_of_ble_eq_true rfl) dX3_lift_15 rfl (fun v3 τ3 τ3h => ?_)
    obtain ⟨rfl, τ3h, τ3f⟩ := τ3h
    have τ30 : τ3 0 = σ 0 := (funext fun j => τ3f 0 j (by decide))
    have hk1 : 0 ≤ k ∧ k < τ3 0 1009 := by rw [τ30]; omega
    have hi1 : τ3 0 1009 ≤ 8 := by rw [τ30]; omega
    refine g_aload_n hΓ rfl dX3_lift_18 ?_
    refine g_iload_n hΓ rfl dX3_lift_19 ?_
    refine m_callV (As := [.int (iI k)]) (rest := []) hok hΓ (m_lifts hok τ3 k (by first | assumption | omega) (by first | assumption | omega)) rfl q1855 q1857 qs110 q131 q1858 ndX3_lifts rfl (by decide) (by decide) rfl rfl (Nat.le_of_ble_eq_true rfl) dX3_lift_20 rfl (fun v4 τ4 τ4h => ?_)
    obtain ⟨rfl, τ4h, τ4f⟩ := τ4h
    refine g_iconst hΓ dX3_lift_23 ?_
    exact m_zret hΓ (by omega) dX3_lift_24 ⟨ri (by first | rfl | omega | ((repeat' split) <;> first | rfl | omega | contradiction | (simp_all; done) | (exfalso; omega))), ⟨fun _ => ⟨by rw [τ4h, (funext fun j => τ3f 0 j (by decide))], ⟨(funext fun j => τ4f 3 j (by decide)).trans τ3h.1, (τ4f 4 0 (by decide)).trans τ3h.2⟩, (funext fun j => τ4f 13 j (by decide)).trans (funext fun j => τ3f 13 j (by decide))⟩, fun q => absurd (by omega) q⟩, (fun k j hk => ((τ4f k j (fun e => hk ((show ∀ x ∈ [0], x ∈ [0, 3, 4, 13] by decide) k e))).trans (τ3f k j (fun e => hk ((show ∀ x ∈ [3, 4], x ∈ [0, 3, 4, 13] by decide) k e)))))⟩
  · refine g_aload_n hΓ rfl dX3_lift_8 ?_
    refine g_iconst hΓ dX3_lift_9 ?_
    refine m_callV (As := [.int (iI 2)]) (rest := []) hok hΓ (m_isRefused hok σ 2 (by first | assumption | omega)) rfl q1497 q1499 qs58 q131 q1500 ndX3_isRefused rfl (by decide) (by decide) rfl rfl (Nat.le_of_ble_eq_true rfl) dX3_lift_10 rfl (fun v5 τ5 τ5h => ?_)
    obtain ⟨rfl, τ5h, τ5f⟩ := τ5h
    show gW Γ E (mM E h ad τ5) 0 0 _ _ (.int (iI 0) :: _)
    exact m_zret hΓ (by omega) dX3_lift_13 ⟨ri (by first | rfl | omega | ((repeat' split) <;> first | rfl | omega | contradiction | (simp_all; done) | (exfalso; omega))), ⟨fun q => absurd q (by omega), fun _ => ⟨τ5h, (funext fun j => τ5f 0 j (by decide)), (funext fun j => τ5f 3 j (by decide)), τ5f 4 0 (by decide)⟩⟩, (fun k j hk => (τ5f k j (fun e => hk ((show ∀ x ∈ [13], x ∈ [0, 3, 4, 13] by decide) k e))))⟩
set_option maxHeartbeats 4000000 in
theorem m_clear {l : Launch} {E : gE} {h : Nat} {ad : Nat → Nat} (hok : mOK E h ad) (σ : mS)   (hr : rowOK (σ 0)) (hun : 0 ≤ σ 4 0 ∧ σ 4 0 ≤ 20) : mC l E h ad yX3_clear cX3_clear 2 (some .int) 1 [.ref h] σ (fun rv σ' => rv = some (.int (iI (if ¬ σ 0 1009 = 0 then σ 0 1009 else -1))) ∧ ((¬ σ 0 1009 = 0 → σ' 0 = up (σ 0) 1009 0 ∧ remR σ' σ ∧ σ' 13 = σ 13) ∧ (¬ (¬ σ 0 1009 = 0) → refR σ' σ 2 ∧ σ' 0 = σ 0 ∧ σ' 3 = σ 3 ∧ σ' 4 0 = σ 4 0)) ∧ ∀ (k : Nat) (j : Int), k ∉ [0, 3, 4, 13] → σ' k j = σ k j) := by
  refine mC.of (by decide) [some (.ref h), none] (Nat.le_of_ble_eq_true rfl) rfl rfl (fun Γ hΓ => ?_)
  obtain ⟨h1000, h1009, h1042, h1043, h1044, h1045, h1046, h1047, hms, hsi, hsm, hnm⟩ := id hr
  refine g_aload_n hΓ rfl dX3_clear_0 ?_
  refine m_geta hok hΓ 0 (by decide) rfl rfl q1357 rfl dX3_clear_1 ?_
  refine g_sipush hΓ (by decide) dX3_clear_4 ?_
  refine m_ald hok hΓ 0 (by decide) rfl (n := 1048) rfl (by omega) (by decide) dX3_clear_7 ?_
  obtain ⟨x1, ex1⟩ : ∃ z9 : Int, z9 = σ 0 1009 := ⟨_, rfl⟩
  refine g_topi ex1.symm ?_
  refine g_istore_n hΓ dX3_clear_8 rfl (Nat.le_of_ble_eq_true rfl) (lv' := [some (.ref h), some (.int (iI x1))]) rfl ?_
  refine g_iload_n hΓ rfl dX3_clear_9 ?_
  refine g_if_ne (tgt := 19) hΓ (by omega) dX3_clear_10 (by decide) (fun c2 => ?_) (fun c2 => ?_)
  · refine g_aload_n hΓ rfl dX3_clear_19 ?_
    refine m_callV (As := []) (rest := []) hok hΓ (m_remembers hok σ  (by first | assumption | omega)) rfl q1927 q1929 qs118 q131 q1930 ndX3_remembers rfl (by decide) (by decide) rfl rfl (Nat.le_of_ble_eq_true rfl) dX3_clear_20 rfl (fun v3 τ3 τ3h => ?_)
    obtain ⟨rfl, τ3h, τ3f⟩ := τ3h
    refine g_aload_n hΓ rfl dX3_clear_23 ?_
    refine m_geta hok hΓ 0 (by decide) rfl rfl q1357 rfl dX3_clear_24 ?_
    refine g_sipush hΓ (by decide) dX3_clear_27 ?_
    refine g_iconst hΓ dX3_clear_30 ?_
    refine m_ast hok hΓ 0 (by decide) rfl (n := 1048) rfl (by omega) (by decide) dX3_clear_31 (fun τ4 τ4e => ?_)
    have τ4r : τ4 0 1009 = 0 := by rw [τ4e]; exact us_s _ _ _ _
    have τ4f : ∀ (k9 : Nat) (j9 : Int), (k9 ≠ 0 ∨ j9 ≠ 1009) → τ4 k9 j9 = τ3 k9 j9 := fun k9 j9 hh => by rw [τ4e]; exact us_n hh
    refine g_iload_n hΓ rfl dX3_clear_32 ?_
    exact m_iret hΓ dX3_clear_33 ⟨ri (by first | rfl | omega | ((repeat' split) <;> first | rfl | omega | contradiction | (simp_all; done) | (exfalso; omega))), ⟨fun _ => ⟨by rw [τ4e, us_a, (funext fun j => τ3f 0 j (by decide))], ⟨(funext fun j => τ4f 3 j (Or.inl (by decide))).trans τ3h.1, (τ4f 4 0 (Or.inl (by decide))).trans τ3h.2⟩, (funext fun j => τ4f 13 j (Or.inl (by decide))).trans (funext fun j => τ3f 13 j (by decide))⟩, fun q => absurd (by omega) q⟩, (fun k j hk => ((τ4f k j (Or.inl (fun e => hk (by rw [e]; decide)))).trans (τ3f k j (fun e => hk ((show ∀ x ∈ [3, 4], x ∈ [0, 3, 4, 13] by decide) k e)))))⟩
  · refine g_aload_n hΓ rfl dX3_clear_13 ?_
    refine g_iconst hΓ dX3_clear_14 ?_
    refine m_callV (As := [.int (iI 2)]) (rest := []) hok hΓ (m_refuses hok σ 2 (by first | assumption | omega)) rfl q1485 q1487 qs56 q131 q1488 ndX3_refuses rfl (by decide) (by decide) rfl rfl (Nat.le_of_ble_eq_true rfl) dX3_clear_15 rfl (fun v5 τ5 τ5h => ?_)
    obtain ⟨rfl, τ5h, τ5f⟩ := τ5h
    show gW Γ E (mM E h ad τ5) 0 0 _ _ (.int (iI (-1)) :: _)
    exact m_iret hΓ dX3_clear_18 ⟨ri (by first | rfl | omega | ((repeat' split) <;> first | rfl | omega | contradiction | (simp_all; done) | (exfalso; omega))), ⟨fun q => absurd (by omega) q, fun _ => ⟨τ5h, (funext fun j => τ5f 0 j (by decide)), (funext fun j => τ5f 3 j (by decide)), τ5f 4 0 (by decide)⟩⟩, (fun k j hk => (τ5f k j (fun e => hk ((show ∀ x ∈ [13], x ∈ [0, 3, 4, 13] by decide) k e))))⟩
set_option maxHeartbeats 4000000 in
theorem m_set {l : Launch} {E : gE} {h : Nat} {ad : Nat → Nat} (hok : mOK E h ad) (σ : mS)  (w : Int) (v : Int) (hw : r32 w) (hv : r32 v) (hr : rowOK (σ 0)) (hun : 0 ≤ σ 4 0 ∧ σ 4 0 ≤ 20) : mC l E h ad yX3_set cX3_set 3 (some .boolean) 1 [.ref h, .int (iI w), .int (iI v)] σ (fun rv σ' => rv = some (.int (iI (if setC σ w v then 1 else 0))) ∧ ((setC σ w v → σ' 0 = up (σ 0) (1042 + w) v ∧ remR σ' σ ∧ σ' 13 = σ 13) ∧ (¬ (setC σ w v) → refR σ' σ 3 ∧ σ' 0 = σ 0 ∧ σ' 3 = σ 3 ∧ σ' 4 0 = σ 4 0)) ∧ ∀ (k : Nat) (j : Int), k ∉ [0, 3, 4, 13] → σ' k j = σ k j) := by
  refine mC.of (by decide) [some (.ref h), some (.int (iI w)), some (.int (iI v))] (Nat.le_of_ble_eq_true rfl) rfl rfl (fun Γ hΓ => ?_)
  obtain ⟨h1000, h1009, h1042, h1043, h1044, h1045, h1046, h1047, hms, hsi, hsm, hnm⟩ := id hr
  have hlo : 0 ≤ lowF w ∧ lowF w ≤ 4 := by rw [lowF]; split <;> omega
  have hhi : 16 ≤ hghF w ∧ hghF w ≤ 99 := by rw [hghF]; (repeat' split) <;> omega
  refine g_iload_n hΓ rfl dX3_set_0 ?_
  refine g_iconst hΓ dX3_set_1 ?_
  refine g_iconst hΓ dX3_set_2 ?_
  refine m_callS (As := [.int (iI w), .int (iI 0), .int (iI 5)]) (rest := []) hok hΓ (m_isIn hok σ w 0 5 (by first | assumption | omega) (by first | assumption | omega) (by first | assumption | omega)) rfl q1549 q1550 q131 q1551 ndX3_isIn rfl (by decide) (by decide) rfl (Nat.le_of_ble_eq_true rfl) dX3_set_3 rfl (fun v1 τ1 τ1h => ?_)
  obtain ⟨rfl, τ1h⟩ := τ1h
  rw [τ1h]
  clear τ1h
  show gW Γ E (mM E h ad σ) 0 0 _ _ (.int (iI (if 0 ≤ w ∧ w ≤ 5 then 1 else 0)) :: _)
  refine g_ifB_eq (tgt := 38) hΓ  dX3_set_6 (by decide) (fun c2 => ?_) (fun c2 => ?_)
  · refine g_aload_n hΓ rfl dX3_set_38 ?_
    refine g_iconst hΓ dX3_set_39 ?_
    refine m_callV (As := [.int (iI 3)]) (rest := []) hok hΓ (m_isRefused hok σ 3 (by first | assumption | omega)) rfl q1497 q1499 qs58 q131 q1500 ndX3_isRefused rfl (by decide) (by decide) rfl rfl (Nat.le_of_ble_eq_true rfl) dX3_set_40 rfl (fun v3 τ3 τ3h => ?_)
    obtain ⟨rfl, τ3h, τ3f⟩ := τ3h
    show gW Γ E (mM E h ad τ3) 0 0 _ _ (.int (iI 0) :: _)
    exact m_zret hΓ (by omega) dX3_set_43 ⟨ri (by first | rfl | omega | ((repeat' split) <;> first | rfl | omega | contradiction | (simp_all; done) | (exfalso; omega))), ⟨fun q => absurd q (by omega), fun _ => ⟨τ3h, (funext fun j => τ3f 0 j (by decide)), (funext fun j => τ3f 3 j (by decide)), τ3f 4 0 (by decide)⟩⟩, (fun k j hk => (τ3f k j (fun e => hk ((show ∀ x ∈ [13], x ∈ [0, 3, 4, 13] by decide) k e))))⟩
  · refine g_iload_n hΓ rfl dX3_set_9 ?_
    refine g_iload_n hΓ rfl dX3_set_10 ?_
    refine m_callS (As := [.int (iI w)]) (rest := [.int (iI v)]) hok hΓ (m_lowOf hok σ w (by first | assumption | omega)) rfl q1552 q1553 q131 q1554 ndX3_lowOf rfl (by decide) (by decide) rfl (Nat.le_of_ble_eq_true rfl) dX3_set_11 rfl (fun v4 τ4 τ4h => ?_)
    obtain ⟨rfl, τ4h⟩ := τ4h
    rw [τ4h]
    clear τ4h
    show gW Γ E (mM E h ad σ) 0 0 _ _ (.int (iI (lowF w)) :: _)
    refine g_iload_n hΓ rfl dX3_set_14 ?_
    refine m_callS (As := [.int (iI w)]) (rest := [.int (iI (lowF w)), .int (iI v)]) hok hΓ (m_highOf hok σ w (by first | assumption | omega)) rfl q1555 q1556 q131 q1557 ndX3_highOf rfl (by decide) (by decide) rfl (Nat.le_of_ble_eq_true rfl) dX3_set_15 rfl (fun v5 τ5 τ5h => ?_)
    obtain ⟨rfl, τ5h⟩ := τ5h
    rw [τ5h]
    clear τ5h
    show gW Γ E (mM E h ad σ) 0 0 _ _ (.int (iI (hghF w)) :: _)
    refine m_callS (As := [.int (iI v), .int (iI (lowF w)), .int (iI (hghF w))]) (rest := []) hok hΓ (m_isIn hok σ v (lowF w) (hghF w) (by first | assumption | omega) (by first | assumption | omega) (by first | assumption | omega)) rfl q1549 q1550 q131 q1551 ndX3_isIn rfl (by decide) (by decide) rfl (Nat.le_of_ble_eq_true rfl) dX3_set_18 rfl (fun v6 τ6 τ6h => ?_)
    obtain ⟨rfl, τ6h⟩ := τ6h
    rw [τ6h]
    clear τ6h
    show gW Γ E (mM E h ad σ) 0 0 _ _ (.int (iI (if (lowF w) ≤ v ∧ v ≤ (hghF w) then 1 else 0)) :: _)
    refine g_ifB_eq (tgt := 38) hΓ  dX3_set_21 (by decide) (fun c7 => ?_) (fun c7 => ?_)
    · refine g_aload_n hΓ rfl dX3_set_38 ?_
      refine g_iconst hΓ dX3_set_39 ?_
      refine m_callV (As := [.int (iI 3)]) (rest := []) hok hΓ (m_isRefused hok σ 3 (by first | assumption | omega)) rfl q1497 q1499 qs58 q131 q1500 ndX3_isRefused rfl (by decide) (by decide) rfl rfl (Nat.le_of_ble_eq_true rfl) dX3_set_40 rfl (fun v8 τ8 τ8h => ?_)
      obtain ⟨rfl, τ8h, τ8f⟩ := τ8h
      show gW Γ E (mM E h ad τ8) 0 0 _ _ (.int (iI 0) :: _)
      exact m_zret hΓ (by omega) dX3_set_43 ⟨ri (by first | rfl | omega | ((repeat' split) <;> first | rfl | omega | contradiction | (simp_all; done) | (exfalso; omega))), ⟨fun q => absurd q (by omega), fun _ => ⟨τ8h, (funext fun j => τ8f 0 j (by decide)), (funext fun j => τ8f 3 j (by decide)), τ8f 4 0 (by decide)⟩⟩, (fun k j hk => (τ8f k j (fun e => hk ((show ∀ x ∈ [13], x ∈ [0, 3, 4, 13] by decide) k e))))⟩
    · have hvr : 0 ≤ σ 0 (1042 + w) ∧ σ 0 (1042 + w) ≤ 99 := by
        rcases (show w = 0 ∨ w = 1 ∨ w = 2 ∨ w = 3 ∨ w = 4 ∨ w = 5 by omega) with z | z | z | z | z | z <;> subst z <;> simp <;> omega
      refine g_aload_n hΓ rfl dX3_set_24 ?_
      refine m_geta hok hΓ 0 (by decide) rfl rfl q1357 rfl dX3_set_25 ?_
      refine g_sipush hΓ (by decide) dX3_set_28 ?_
      refine g_iload_n hΓ rfl dX3_set_31 ?_
      refine g_iadd hΓ dX3_set_32 ?_
      refine m_ald hok hΓ 0 (by decide) rfl (n := 1048) rfl (by omega) (by decide) dX3_set_33 ?_
      refine g_iload_n hΓ rfl dX3_set_34 ?_
      refine g_icmp_ne (tgt := 44) hΓ (by omega) (by omega) dX3_set_35 (by decide) (fun c9 => ?_) (fun c9 => ?_)
      · refine g_aload_n hΓ rfl dX3_set_44 ?_
        refine m_callV (As := []) (rest := []) hok hΓ (m_remembers hok σ  (by first | assumption | omega)) rfl q1927 q1929 qs118 q131 q1930 ndX3_remembers rfl (by decide) (by decide) rfl rfl (Nat.le_of_ble_eq_true rfl) dX3_set_45 rfl (fun v10 τ10 τ10h => ?_)
        obtain ⟨rfl, τ10h, τ10f⟩ := τ10h
        refine g_aload_n hΓ rfl dX3_set_48 ?_
        refine m_geta hok hΓ 0 (by decide) rfl rfl q1357 rfl dX3_set_49 ?_
        refine g_sipush hΓ (by decide) dX3_set_52 ?_
        refine g_iload_n hΓ rfl dX3_set_55 ?_
        refine g_iadd hΓ dX3_set_56 ?_
        refine g_iload_n hΓ rfl dX3_set_57 ?_
        refine m_ast hok hΓ 0 (by decide) rfl (n := 1048) rfl (by omega) (by decide) dX3_set_58 (fun τ11 τ11e => ?_)
        have τ11r : τ11 0 (1042 + w) = v := by rw [τ11e]; exact us_s _ _ _ _
        have τ11f : ∀ (k9 : Nat) (j9 : Int), (k9 ≠ 0 ∨ j9 ≠ (1042 + w)) → τ11 k9 j9 = τ10 k9 j9 := fun k9 j9 hh => by rw [τ11e]; exact us_n hh
        refine g_iconst hΓ dX3_set_59 ?_
        exact m_zret hΓ (by omega) dX3_set_60 ⟨ri (by first | rfl | omega | ((repeat' split) <;> first | rfl | omega | contradiction | (simp_all; done) | (exfalso; omega))), ⟨fun _ => ⟨by rw [τ11e, us_a, (funext fun j => τ10f 0 j (by decide))], ⟨(funext fun j => τ11f 3 j (Or.inl (by decide))).trans τ10h.1, (τ11f 4 0 (Or.inl (by decide))).trans τ10h.2⟩, (funext fun j => τ11f 13 j (Or.inl (by decide))).trans (funext fun j => τ10f 13 j (by decide))⟩, fun q => absurd (by omega) q⟩, (fun k j hk => ((τ11f k j (Or.inl (fun e => hk (by rw [e]; decide)))).trans (τ10f k j (fun e => hk ((show ∀ x ∈ [3, 4], x ∈ [0, 3, 4, 13] by decide) k e)))))⟩
      · refine g_aload_n hΓ rfl dX3_set_38 ?_
        refine g_iconst hΓ dX3_set_39 ?_
        refine m_callV (As := [.int (iI 3)]) (rest := []) hok hΓ (m_isRefused hok σ 3 (by first | assumption | omega)) rfl q1497 q1499 qs58 q131 q1500 ndX3_isRefused rfl (by decide) (by decide) rfl rfl (Nat.le_of_ble_eq_true rfl) dX3_set_40 rfl (fun v12 τ12 τ12h => ?_)
        obtain ⟨rfl, τ12h, τ12f⟩ := τ12h
        show gW Γ E (mM E h ad τ12) 0 0 _ _ (.int (iI 0) :: _)
        exact m_zret hΓ (by omega) dX3_set_43 ⟨ri (by first | rfl | omega | ((repeat' split) <;> first | rfl | omega | contradiction | (simp_all; done) | (exfalso; omega))), ⟨fun q => absurd q (by omega), fun _ => ⟨τ12h, (funext fun j => τ12f 0 j (by decide)), (funext fun j => τ12f 3 j (by decide)), τ12f 4 0 (by decide)⟩⟩, (fun k j hk => (τ12f k j (fun e => hk ((show ∀ x ∈ [13], x ∈ [0, 3, 4, 13] by decide) k e))))⟩
