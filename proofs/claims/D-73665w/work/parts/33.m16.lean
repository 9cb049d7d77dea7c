set_option maxRecDepth 100000
set_option maxHeartbeats 4000000 in
theorem m_stashes {l : Launch} {E : gE} {h : Nat} {ad : Nat → Nat} (hok : mOK E h ad) (σ : mS)    : mC l E h ad yX3_stashes cX3_stashes 2 none 0 [.ref h] σ (fun rv σ' => rv = none ∧ (∀ j, σ' 2 j = if 0 ≤ j ∧ j < 1048 then σ 0 j else σ 2 j) ∧ ∀ (k : Nat) (j : Int), k ∉ [2] → σ' k j = σ k j) := by
  refine mC.of (by decide) [some (.ref h), none] (Nat.le_of_ble_eq_true rfl) rfl rfl (fun Γ hΓ => ?_)
  refine g_iconst hΓ dX3_stashes_0 ?_
  refine g_istore_n hΓ dX3_stashes_1 rfl (Nat.le_of_ble_eq_true rfl) (lv' := [some (.ref h), some (.int (iI 0))]) rfl ?_
  have loop : ∀ (fu : Nat) (q : Int) (t : mS), (1048 - q).toNat < fu → (0 ≤ q ∧ q ≤ 1048) → (∀ j, t 2 j = if 0 ≤ j ∧ j < q then σ 0 j else σ 2 j) → (∀ (k : Nat) (j : Int), k ∉ [2] → t k j = σ k j) → gW Γ E (mM E h ad t) 0 0 2 [some (.ref h), some (.int (iI q))] [] := by
    intro fu
    induction fu with
    | zero => intro q t hn; exact absurd hn (Nat.not_lt_zero _)
    | succ fu ih_loop =>
      intro q t hn hq hA tf
      refine g_iload_n hΓ rfl dX3_stashes_2 ?_
      refine g_sipush hΓ (by decide) dX3_stashes_3 ?_
      refine g_icmp_ge (tgt := 27) hΓ (by omega) (by omega) dX3_stashes_6 (by decide) (fun c1 => ?_) (fun c1 => ?_)
      · exact m_vret hΓ dX3_stashes_27 ⟨rfl, (fun j => by rw [hA j, show q = 1048 by omega]), tf⟩
      · refine g_aload_n hΓ rfl dX3_stashes_9 ?_
        refine m_geta hok hΓ 2 (by decide) rfl rfl q1359 rfl dX3_stashes_10 ?_
        refine g_iload_n hΓ rfl dX3_stashes_13 ?_
        refine g_aload_n hΓ rfl dX3_stashes_14 ?_
        refine m_geta hok hΓ 0 (by decide) rfl rfl q1357 rfl dX3_stashes_15 ?_
        refine g_iload_n hΓ rfl dX3_stashes_18 ?_
        refine m_ald hok hΓ 0 (by decide) rfl (n := 1048) rfl (by omega) (by decide) dX3_stashes_19 ?_
        refine g_topi ((tf 0 q (by decide))) ?_
        refine m_ast hok hΓ 2 (by decide) rfl (n := 1048) rfl (by omega) (by decide) dX3_stashes_20 (fun τ2 τ2e => ?_)
        have τ2r : τ2 2 q = σ 0 q := by rw [τ2e]; exact us_s _ _ _ _
        have τ2f : ∀ (k9 : Nat) (j9 : Int), (k9 ≠ 2 ∨ j9 ≠ q) → τ2 k9 j9 = t k9 j9 := fun k9 j9 hh => by rw [τ2e]; exact us_n hh
        obtain ⟨x3, ex3⟩ : ∃ z9 : Int, z9 = q + 1 := ⟨_, rfl⟩
        refine g_iinc hΓ dX3_stashes_21 rfl rfl (lv' := [some (.ref h), some (.int (iI x3))]) (by rw [ex3]; rfl) ?_
        refine g_goto (tgt := 2) hΓ dX3_stashes_24 (by decide) ?_
        exact ih_loop x3 τ2 (by omega) (by omega) (fun j => by
            by_cases z : j = q
            · subst z; rw [τ2r, if_pos (by omega)]
            · rw [τ2f 2 j (Or.inr z), hA j]
              by_cases y : 0 ≤ j ∧ j < q
              · rw [if_pos y, if_pos (by omega)]
              · rw [if_neg y, if_neg (by omega)]) (fun k j hk => ((τ2f k j (Or.inl (fun e => hk (by rw [e]; decide)))).trans (tf k j (fun e => hk ((show ∀ x ∈ [2], x ∈ [2] by decide) k e)))))
  exact loop 1049 0 σ (by omega) (by omega) (fun j => by rw [if_neg (by omega)]) (fun k j _ => rfl)
set_option maxHeartbeats 4000000 in
theorem m_unstashes {l : Launch} {E : gE} {h : Nat} {ad : Nat → Nat} (hok : mOK E h ad) (σ : mS)    : mC l E h ad yX3_unstashes cX3_unstashes 2 none 0 [.ref h] σ (fun rv σ' => rv = none ∧ (∀ j, σ' 0 j = if 0 ≤ j ∧ j < 1048 then σ 2 j else σ 0 j) ∧ ∀ (k : Nat) (j : Int), k ∉ [0] → σ' k j = σ k j) := by
  refine mC.of (by decide) [some (.ref h), none] (Nat.le_of_ble_eq_true rfl) rfl rfl (fun Γ hΓ => ?_)
  refine g_iconst hΓ dX3_unstashes_0 ?_
  refine g_istore_n hΓ dX3_unstashes_1 rfl (Nat.le_of_ble_eq_true rfl) (lv' := [some (.ref h), some (.int (iI 0))]) rfl ?_
  have loop : ∀ (fu : Nat) (q : Int) (t : mS), (1048 - q).toNat < fu → (0 ≤ q ∧ q ≤ 1048) → (∀ j, t 0 j = if 0 ≤ j ∧ j < q then σ 2 j else σ 0 j) → (∀ (k : Nat) (j : Int), k ∉ [0] → t k j = σ k j) → gW Γ E (mM E h ad t) 0 0 2 [some (.ref h), some (.int (iI q))] [] := by
    intro fu
    induction fu with
    | zero => intro q t hn; exact absurd hn (Nat.not_lt_zero _)
    | succ fu ih_loop =>
      intro q t hn hq hA tf
      refine g_iload_n hΓ rfl dX3_unstashes_2 ?_
      refine g_sipush hΓ (by decide) dX3_unstashes_3 ?_
      refine g_icmp_ge (tgt := 27) hΓ (by omega) (by omega) dX3_unstashes_6 (by decide) (fun c1 => ?_) (fun c1 => ?_)
      · exact m_vret hΓ dX3_unstashes_27 ⟨rfl, (fun j => by rw [hA j, show q = 1048 by omega]), tf⟩
      · refine g_aload_n hΓ rfl dX3_unstashes_9 ?_
        refine m_geta hok hΓ 0 (by decide) rfl rfl q1357 rfl dX3_unstashes_10 ?_
        refine g_iload_n hΓ rfl dX3_unstashes_13 ?_
        refine g_aload_n hΓ rfl dX3_unstashes_14 ?_
        refine m_geta hok hΓ 2 (by decide) rfl rfl q1359 rfl dX3_unstashes_15 ?_
        refine g_iload_n hΓ rfl dX3_unstashes_18 ?_
        refine m_ald hok hΓ 2 (by decide) rfl (n := 1048) rfl (by omega) (by decide) dX3_unstashes_19 ?_
        refine g_topi ((tf 2 q (by decide))) ?_
        refine m_ast hok hΓ 0 (by decide) rfl (n := 1048) rfl (by omega) (by decide) dX3_unstashes_20 (fun τ2 τ2e => ?_)
        have τ2r : τ2 0 q = σ 2 q := by rw [τ2e]; exact us_s _ _ _ _
        have τ2f : ∀ (k9 : Nat) (j9 : Int), (k9 ≠ 0 ∨ j9 ≠ q) → τ2 k9 j9 = t k9 j9 := fun k9 j9 hh => by rw [τ2e]; exact us_n hh
        obtain ⟨x3, ex3⟩ : ∃ z9 : Int, z9 = q + 1 := ⟨_, rfl⟩
        refine g_iinc hΓ dX3_unstashes_21 rfl rfl (lv' := [some (.ref h), some (.int (iI x3))]) (by rw [ex3]; rfl) ?_
        refine g_goto (tgt := 2) hΓ dX3_unstashes_24 (by decide) ?_
        exact ih_loop x3 τ2 (by omega) (by omega) (fun j => by
            by_cases z : j = q
            · subst z; rw [τ2r, if_pos (by omega)]
            · rw [τ2f 0 j (Or.inr z), hA j]
              by_cases y : 0 ≤ j ∧ j < q
              · rw [if_pos y, if_pos (by omega)]
              · rw [if_neg y, if_neg (by omega)]) (fun k j hk => ((τ2f k j (Or.inl (fun e => hk (by rw [e]; decide)))).trans (tf k j (fun e => hk ((show ∀ x ∈ [0], x ∈ [0] by decide) k e)))))
  exact loop 1049 0 σ (by omega) (by omega) (fun j => by rw [if_neg (by omega)]) (fun k j _ => rfl)
set_option maxHeartbeats 4000000 in
theorem m_isInked {l : Launch} {E : gE} {h : Nat} {ad : Nat → Nat} (hok : mOK E h ad) (σ : mS)  (k : Int) (hk : r32 k) (hr : rowOK (σ 0)) : mC l E h ad yX3_isInked cX3_isInked 2 (some .boolean) 1 [.ref h, .int (iI k)] σ (fun rv σ' => rv = some (.int (iI (if 0 ≤ k ∧ k < σ 0 1009 then 1 else 0))) ∧ σ' = σ) := by
  refine mC.of (by decide) [some (.ref h), some (.int (iI k))] (Nat.le_of_ble_eq_true rfl) rfl rfl (fun Γ hΓ => ?_)
  obtain ⟨h1000, h1009, h1042, h1043, h1044, h1045, h1046, h1047, hms, hsi, hsm, hnm⟩ := id hr
  refine g_iload_n hΓ rfl dX3_isInked_0 ?_
  refine g_iconst hΓ dX3_isInked_1 ?_
  refine g_aload_n hΓ rfl dX3_isInked_2 ?_
  refine m_geta hok hΓ 0 (by decide) rfl rfl q1357 rfl dX3_isInked_3 ?_
  refine g_sipush hΓ (by decide) dX3_isInked_6 ?_
  refine m_ald hok hΓ 0 (by decide) rfl (n := 1048) rfl (by omega) (by decide) dX3_isInked_9 ?_
  refine g_iconst hΓ dX3_isInked_10 ?_
  refine g_isub hΓ dX3_isInked_11 ?_
  refine m_callS (As := [.int (iI k), .int (iI 0), .int (iI ((σ 0 1009) - 1))]) (rest := []) hok hΓ (m_isIn hok σ k 0 ((σ 0 1009) - 1) (by first | assumption | omega) (by first | assumption | omega) (by first | assumption | omega)) rfl q1549 q1550 q131 q1551 ndX3_isIn rfl (by decide) (by decide) rfl (Nat.le_of_ble_eq_true rfl) dX3_isInked_12 rfl (fun v1 τ1 τ1h => ?_)
  obtain ⟨rfl, τ1h⟩ := τ1h
  rw [τ1h]
  clear τ1h
  show gW Γ E (mM E h ad σ) 0 0 _ _ (.int (iI (if 0 ≤ k ∧ k ≤ ((σ 0 1009) - 1) then 1 else 0)) :: _)
  exact m_zret hΓ (by omega) dX3_isInked_15 ⟨ri (by first | rfl | omega | (simp_all; done) | (simp_all; omega)), rfl⟩
set_option maxHeartbeats 4000000 in
theorem m_lifts {l : Launch} {E : gE} {h : Nat} {ad : Nat → Nat} (hok : mOK E h ad) (σ : mS)  (k : Int) (hk : 0 ≤ k ∧ k < σ 0 1009) (hi : σ 0 1009 ≤ 8) : mC l E h ad yX3_lifts cX3_lifts 4 none 0 [.ref h, .int (iI k)] σ (fun rv σ' => rv = none ∧ (σ' 0 = lifF (σ 0) k) ∧ ∀ (k : Nat) (j : Int), k ∉ [0] → σ' k j = σ k j) := by
  refine mC.of (by decide) [some (.ref h), some (.int (iI k)), none, none] (Nat.le_of_ble_eq_true rfl) rfl rfl (fun Γ hΓ => ?_)
  refine g_iload_n hΓ rfl dX3_lifts_0 ?_
  refine g_istore_n hΓ dX3_lifts_1 rfl (Nat.le_of_ble_eq_true rfl) (lv' := [some (.ref h), some (.int (iI k)), some (.int (iI k)), none]) rfl ?_
  have loop : ∀ (fu : Nat) (s : Int) (t : mS), (σ 0 1009 - s).toNat < fu → (k ≤ s ∧ s ≤ σ 0 1009 - 1) → (t 0 = lifP (σ 0) k s 0 0) → (∀ (k : Nat) (j : Int), k ∉ [0] → t k j = σ k j) → gW Γ E (mM E h ad t) 0 0 2 [some (.ref h), some (.int (iI k)), some (.int (iI s)), none] [] := by
    intro fu
    induction fu with
    | zero => intro s t hn; exact absurd hn (Nat.not_lt_zero _)
    | succ fu ih_loop =>
      intro s t hn hs hA tf
      have h9 : t 0 1009 = σ 0 1009 := by rw [hA, lifP, if_neg (by omega), if_neg (by omega)]
      refine g_iload_n hΓ rfl dX3_lifts_2 ?_
      refine g_iconst hΓ dX3_lifts_3 ?_
      refine g_iadd hΓ dX3_lifts_4 ?_
      refine g_aload_n hΓ rfl dX3_lifts_5 ?_
      refine m_geta hok hΓ 0 (by decide) rfl rfl q1357 rfl dX3_lifts_6 ?_
      refine g_sipush hΓ (by decide) dX3_lifts_9 ?_
      refine m_ald hok hΓ 0 (by decide) rfl (n := 1048) rfl (by omega) (by decide) dX3_lifts_12 ?_
      refine g_icmp_ge (tgt := 87) hΓ (by omega) (by omega) dX3_lifts_13 (by decide) (fun c1 => ?_) (fun c1 => ?_)
      · refine g_aload_n hΓ rfl dX3_lifts_87 ?_
        refine m_geta hok hΓ 0 (by decide) rfl rfl q1357 rfl dX3_lifts_88 ?_
        refine g_sipush hΓ (by decide) dX3_lifts_91 ?_
        refine g_dup2 hΓ rfl rfl dX3_lifts_94 ?_
        refine m_ald hok hΓ 0 (by decide) rfl (n := 1048) rfl (by omega) (by decide) dX3_lifts_95 ?_
        refine g_iconst hΓ dX3_lifts_96 ?_
        refine g_isub hΓ dX3_lifts_97 ?_
        refine m_ast hok hΓ 0 (by decide) rfl (n := 1048) rfl (by omega) (by decide) dX3_lifts_98 (fun τ2 τ2e => ?_)
        have τ2r : τ2 0 1009 = (t 0 1009) - 1 := by rw [τ2e]; exact us_s _ _ _ _
        have τ2f : ∀ (k9 : Nat) (j9 : Int), (k9 ≠ 0 ∨ j9 ≠ 1009) → τ2 k9 j9 = t k9 j9 := fun k9 j9 hh => by rw [τ2e]; exact us_n hh
        exact m_vret hΓ dX3_lifts_99 ⟨rfl, (funext fun j => by
            by_cases z : j = 1009
            · subst z; rw [τ2r, h9, lifF, if_pos rfl]
            · rw [τ2f 0 j (Or.inr z), hA, lifF, if_neg z, show σ 0 1009 - 1 = s by omega]), (fun k j hk => ((τ2f k j (Or.inl (fun e => hk (by rw [e]; decide)))).trans (tf k j (fun e => hk ((show ∀ x ∈ [0], x ∈ [0] by decide) k e)))))⟩
      · refine g_aload_n hΓ rfl dX3_lifts_16 ?_
        refine m_geta hok hΓ 0 (by decide) rfl rfl q1357 rfl dX3_lifts_17 ?_
        refine g_sipush hΓ (by decide) dX3_lifts_20 ?_
        refine g_iload_n hΓ rfl dX3_lifts_23 ?_
        refine g_iadd hΓ dX3_lifts_24 ?_
        refine g_aload_n hΓ rfl dX3_lifts_25 ?_
        refine m_geta hok hΓ 0 (by decide) rfl rfl q1357 rfl dX3_lifts_26 ?_
        refine g_sipush hΓ (by decide) dX3_lifts_29 ?_
        refine g_iload_n hΓ rfl dX3_lifts_32 ?_
        refine g_iadd hΓ dX3_lifts_33 ?_
        refine g_iconst hΓ dX3_lifts_34 ?_
        refine g_iadd hΓ dX3_lifts_35 ?_
        refine m_ald hok hΓ 0 (by decide) rfl (n := 1048) rfl (by omega) (by decide) dX3_lifts_36 ?_
        refine m_ast hok hΓ 0 (by decide) rfl (n := 1048) rfl (by omega) (by decide) dX3_lifts_37 (fun τ3 τ3e => ?_)
        have τ3r : τ3 0 (960 + s) = t 0 ((960 + s) + 1) := by rw [τ3e]; exact us_s _ _ _ _
        have τ3f : ∀ (k9 : Nat) (j9 : Int), (k9 ≠ 0 ∨ j9 ≠ (960 + s)) → τ3 k9 j9 = t k9 j9 := fun k9 j9 hh => by rw [τ3e]; exact us_n hh
        refine g_iconst hΓ dX3_lifts_38 ?_
        refine g_istore_n hΓ dX3_lifts_39 rfl (Nat.le_of_ble_eq_true rfl) (lv' := [some (.ref h), some (.int (iI k)), some (.int (iI s)), some (.int (iI 0))]) rfl ?_
        have loop2 : ∀ (fu : Nat) (i : Int) (t : mS), (24 - i).toNat < fu → (0 ≤ i ∧ i ≤ 24) → (t 0 = lifP (σ 0) k s i 1) → (∀ (k : Nat) (j : Int), k ∉ [0] → t k j = σ k j) → gW Γ E (mM E h ad t) 0 0 40 [some (.ref h), some (.int (iI k)), some (.int (iI s)), some (.int (iI i))] [] := by
          intro fu
          induction fu with
          | zero => intro i t hn; exact absurd hn (Nat.not_lt_zero _)
          | succ fu ih_loop2 =>
            intro i t hn hi hA tf
            refine g_iload_n hΓ rfl dX3_lifts_40 ?_
            refine g_bipush hΓ (by decide) dX3_lifts_41 ?_
            refine g_icmp_ge (tgt := 81) hΓ (by omega) (by omega) dX3_lifts_43 (by decide) (fun c4 => ?_) (fun c4 => ?_)
            · obtain ⟨x5, ex5⟩ : ∃ z9 : Int, z9 = s + 1 := ⟨_, rfl⟩
              refine g_iinc hΓ dX3_lifts_81 rfl rfl (lv' := [some (.ref h), some (.int (iI k)), some (.int (iI x5)), some (.int (iI i))]) (by rw [ex5]; rfl) ?_
              refine g_goto (tgt := 2) hΓ dX3_lifts_84 (by decide) ?_
              refine g_lvw (lv' := [some (.ref h), some (.int (iI k)), some (.int (iI x5)), none]) ⟨rfl, ⟨rfl, ⟨rfl, trivial⟩⟩⟩ ?_
              exact ih_loop x5 t (by omega) (by omega) (hA.trans (funext fun j => by
                  rw [lifP, lifP]
                  by_cases y : 24 * k ≤ j ∧ j < 24 * s + i
                  · rw [if_pos y, if_pos (show 24 * k ≤ j ∧ j < 24 * x5 + 0 by omega)]
                  · rw [if_neg y, if_neg (show ¬ (24 * k ≤ j ∧ j < 24 * x5 + 0) by omega)]
                    by_cases y2 : 960 + k ≤ j ∧ j < 960 + s + 1
                    · rw [if_pos y2, if_pos (show 960 + k ≤ j ∧ j < 960 + x5 + 0 by omega)]
                    · rw [if_neg y2, if_neg (show ¬ (960 + k ≤ j ∧ j < 960 + x5 + 0) by omega)])) tf
            · refine g_aload_n hΓ rfl dX3_lifts_46 ?_
              refine m_geta hok hΓ 0 (by decide) rfl rfl q1357 rfl dX3_lifts_47 ?_
              refine g_iconst hΓ dX3_lifts_50 ?_
              refine g_bipush hΓ (by decide) dX3_lifts_51 ?_
              refine g_iload_n hΓ rfl dX3_lifts_53 ?_
              refine g_imul hΓ dX3_lifts_54 ?_
              refine g_iadd hΓ dX3_lifts_55 ?_
              refine g_iload_n hΓ rfl dX3_lifts_56 ?_
              refine g_iadd hΓ dX3_lifts_57 ?_
              refine g_aload_n hΓ rfl dX3_lifts_58 ?_
              refine m_geta hok hΓ 0 (by decide) rfl rfl q1357 rfl dX3_lifts_59 ?_
              refine g_iconst hΓ dX3_lifts_62 ?_
              refine g_bipush hΓ (by decide) dX3_lifts_63 ?_
              refine g_iload_n hΓ rfl dX3_lifts_65 ?_
              refine g_imul hΓ dX3_lifts_66 ?_
              refine g_iadd hΓ dX3_lifts_67 ?_
              refine g_bipush hΓ (by decide) dX3_lifts_68 ?_
              refine g_iadd hΓ dX3_lifts_70 ?_
              refine g_iload_n hΓ rfl dX3_lifts_71 ?_
              refine g_iadd hΓ dX3_lifts_72 ?_
              refine m_ald hok hΓ 0 (by decide) rfl (n := 1048) rfl (by omega) (by decide) dX3_lifts_73 ?_
              refine m_ast hok hΓ 0 (by decide) rfl (n := 1048) rfl (by omega) (by decide) dX3_lifts_74 (fun τ6 τ6e => ?_)
              have τ6r : τ6 0 ((0 + (24 * s)) + i) = t 0 (((0 + (24 * s)) + 24) + i) := by rw [τ6e]; exact us_s _ _ _ _
              have τ6f : ∀ (k9 : Nat) (j9 : Int), (k9 ≠ 0 ∨ j9 ≠ ((0 + (24 * s)) + i)) → τ6 k9 j9 = t k9 j9 := fun k9 j9 hh => by rw [τ6e]; exact us_n hh
              obtain ⟨x7, ex7⟩ : ∃ z9 : Int, z9 = i + 1 := ⟨_, rfl⟩
              refine g_iinc hΓ dX3_lifts_75 rfl rfl (lv' := [some (.ref h), some (.int (iI k)), some (.int (iI s)), some (.int (iI x7))]) (by rw [ex7]; rfl) ?_
              refine g_goto (tgt := 40) hΓ dX3_lifts_78 (by decide) ?_
              exact ih_loop2 x7 τ6 (by omega) (by omega) (funext fun j => by
                  by_cases z : j = 0 + 24 * s + i
                  · subst z
                    rw [τ6r, hA, lifP, if_neg (by omega), if_neg (by omega), lifP, if_pos (by omega)]
                    congr 1; omega
                  · rw [τ6f 0 j (Or.inr (by omega)), hA, lifP, lifP]
                    by_cases y : 24 * k ≤ j ∧ j < 24 * s + i
                    · rw [if_pos y, if_pos (by omega)]
                    · rw [if_neg y]
                      by_cases y2 : 24 * k ≤ j ∧ j < 24 * s + x7
                      · exfalso; omega
                      · rw [if_neg y2]) (fun k j hk => ((τ6f k j (Or.inl (fun e => hk (by rw [e]; decide)))).trans (tf k j (fun e => hk ((show ∀ x ∈ [0], x ∈ [0] by decide) k e)))))
        exact loop2 25 0 τ3 (by omega) (by omega) (funext fun j => by
            by_cases z : j = 960 + s
            · subst z
              rw [τ3r, hA, lifP, if_neg (by omega), if_neg (by omega), lifP, if_neg (by omega), if_pos (by omega)]
            · rw [τ3f 0 j (Or.inr (by omega)), hA, lifP, lifP]
              by_cases y : 24 * k ≤ j ∧ j < 24 * s + 0
              · rw [if_pos y, if_pos y]
              · rw [if_neg y, if_neg y]
                by_cases y2 : 960 + k ≤ j ∧ j < 960 + s + 0
                · rw [if_pos y2, if_pos (by omega)]
                · rw [if_neg y2, if_neg (by omega)]) (fun k j hk => ((τ3f k j (Or.inl (fun e => hk (by rw [e]; decide)))).trans (tf k j (fun e => hk ((show ∀ x ∈ [0], x ∈ [0] by decide) k e)))))
  exact loop 9 k σ (by omega) (by omega) (funext fun j => by rw [lifP, if_neg (by omega), if_neg (by omega)]) (fun k j _ => rfl)
set_option maxHeartbeats 4000000 in
theorem m_lifted {l : Launch} {E : gE} {h : Nat} {ad : Nat → Nat} (hok : mOK E h ad) (σ : mS)  (k : Int) (w : Int) (hk : r32 k) (hw : r32 w) (hr : rowOK (σ 0)) : mC l E h ad yX3_lifted cX3_lifted 3 (some .int) 9 [.ref h, .int (iI k), .int (iI w)] σ (fun rv σ' => rv = some (.int (iI (sp_lifted σ k w))) ∧ (True) ∧ ∀ (k : Nat) (j : Int), k ∉ [2, 22, 23, 24, 25, 26, 27, 28, 29, 30] → σ' k j = σ k j) := by
  refine mC.of (by decide) [some (.ref h), some (.int (iI k)), some (.int (iI w))] (Nat.le_of_ble_eq_true rfl) rfl rfl (fun Γ hΓ => ?_)
  obtain ⟨h1000, h1009, h1042, h1043, h1044, h1045, h1046, h1047, hms, hsi, hsm, hnm⟩ := id hr
  refine g_aload_n hΓ rfl dX3_lifted_0 ?_
  refine m_geta hok hΓ 0 (by decide) rfl rfl q1357 rfl dX3_lifted_1 ?_
  refine g_sipush hΓ (by decide) dX3_lifted_4 ?_
  refine m_ald hok hΓ 0 (by decide) rfl (n := 1048) rfl (by omega) (by decide) dX3_lifted_7 ?_
  refine g_if_eq (tgt := 28) hΓ (by omega) dX3_lifted_8 (by decide) (fun c1 => ?_) (fun c1 => ?_)
  · refine g_iconst hΓ dX3_lifted_28 ?_
    exact m_iret hΓ dX3_lifted_29 ⟨ri (by rw [sp_lifted, if_neg (by omega)]), trivial, (fun k j hk => rfl)⟩
  · refine g_aload_n hΓ rfl dX3_lifted_11 ?_
    refine g_iload_n hΓ rfl dX3_lifted_12 ?_
    refine m_callV (As := [.int (iI k)]) (rest := []) hok hΓ (m_isInked hok σ k (by first | assumption | omega) (by first | assumption | omega)) rfl q1847 q1849 qs108 q131 q1850 ndX3_isInked rfl (by decide) (by decide) rfl rfl (Nat.le_of_ble_eq_true rfl) dX3_lifted_13 rfl (fun v2 τ2 τ2h => ?_)
    obtain ⟨rfl, τ2h⟩ := τ2h
    rw [τ2h]
    clear τ2h
    show gW Γ E (mM E h ad σ) 0 0 _ _ (.int (iI (if 0 ≤ k ∧ k < σ 0 1009 then 1 else 0)) :: _)
    refine g_ifB_eq (tgt := 28) hΓ  dX3_lifted_16 (by decide) (fun c3 => ?_) (fun c3 => ?_)
    · refine g_iconst hΓ dX3_lifted_28 ?_
      exact m_iret hΓ dX3_lifted_29 ⟨ri (by rw [sp_lifted, if_neg (by omega)]), trivial, (fun k j hk => rfl)⟩
    · refine g_iload_n hΓ rfl dX3_lifted_19 ?_
      refine g_iconst hΓ dX3_lifted_20 ?_
      refine g_iconst hΓ dX3_lifted_21 ?_
      refine m_callS (As := [.int (iI w), .int (iI 0), .int (iI 2)]) (rest := []) hok hΓ (m_isIn hok σ w 0 2 (by first | assumption | omega) (by first | assumption | omega) (by first | assumption | omega)) rfl q1549 q1550 q131 q1551 ndX3_isIn rfl (by decide) (by decide) rfl (Nat.le_of_ble_eq_true rfl) dX3_lifted_22 rfl (fun v4 τ4 τ4h => ?_)
      obtain ⟨rfl, τ4h⟩ := τ4h
      rw [τ4h]
      clear τ4h
      show gW Γ E (mM E h ad σ) 0 0 _ _ (.int (iI (if 0 ≤ w ∧ w ≤ 2 then 1 else 0)) :: _)
      refine g_ifB_ne (tgt := 30) hΓ  dX3_lifted_25 (by decide) (fun c5 => ?_) (fun c5 => ?_)
      · refine g_aload_n hΓ rfl dX3_lifted_30 ?_
        refine m_callV (As := []) (rest := []) hok hΓ (m_stashes hok σ  ) rfl q1851 q1853 qs109 q131 q1854 ndX3_stashes rfl (by decide) (by decide) rfl rfl (Nat.le_of_ble_eq_true rfl) dX3_lifted_31 rfl (fun v6 τ6 τ6h => ?_)
        obtain ⟨rfl, τ6h, τ6f⟩ := τ6h
        have τ60 : τ6 0 = σ 0 := funext fun j => τ6f 0 j (by decide)
        have hk1 : 0 ≤ k ∧ k < τ6 0 1009 := by rw [τ60]; omega
        have hi1 : τ6 0 1009 ≤ 8 := by rw [τ60]; omega
        refine g_aload_n hΓ rfl dX3_lifted_34 ?_
        refine g_iload_n hΓ rfl dX3_lifted_35 ?_
        refine m_callV (As := [.int (iI k)]) (rest := []) hok hΓ (m_lifts hok τ6 k (by first | assumption | omega) (by first | assumption | omega)) rfl q1855 q1857 qs110 q131 q1858 ndX3_lifts rfl (by decide) (by decide) rfl rfl (Nat.le_of_ble_eq_true rfl) dX3_lifted_36 rfl (fun v7 τ7 τ7h => ?_)
        obtain ⟨rfl, τ7h, τ7f⟩ := τ7h
        obtain ⟨ra, rb, rc⟩ := rowOK_lif hr (by omega) (show k < σ 0 1009 by omega)
        have τ70 : τ7 0 = lifS σ k 0 := by rw [τ7h, τ60, lifS_0]
        have τ77 : τ7 7 = lifS σ k 7 := by rw [lifS_n _ _ (by decide)]; exact funext fun j => (τ7f 7 j (by decide)).trans (τ6f 7 j (by decide))
        have τ78 : τ7 8 = lifS σ k 8 := by rw [lifS_n _ _ (by decide)]; exact funext fun j => (τ7f 8 j (by decide)).trans (τ6f 8 j (by decide))
        have τ7q := scM_same τ70 τ77 τ78
        have hr2 : rowOK (τ7 0) := by rw [τ70, lifS_0]; exact ra
        have b2 : τ7 0 1009 = σ 0 1009 - 1 := by rw [τ70, lifS_0]; exact rb
        have c2 : τ7 0 1000 = σ 0 1000 := by rw [τ70, lifS_0]; exact rc
        have hl2 : letS τ7 0 (τ7 0 1009) := inkS hr2
        refine g_aload_n hΓ rfl dX3_lifted_39 ?_
        refine g_iconst hΓ dX3_lifted_40 ?_
        refine g_aload_n hΓ rfl dX3_lifted_41 ?_
        refine m_geta hok hΓ 0 (by decide) rfl rfl q1357 rfl dX3_lifted_42 ?_
        refine g_sipush hΓ (by decide) dX3_lifted_45 ?_
        refine m_ald hok hΓ 0 (by decide) rfl (n := 1048) rfl (by omega) (by decide) dX3_lifted_48 ?_
        refine m_callV (As := [.int (iI 0), .int (iI (τ7 0 1009))]) (rest := []) hok hΓ (m_laysScores hok τ7 0 (τ7 0 1009) (by first | assumption | omega) (by first | assumption | omega)) rfl q1786 q1788 qs101 q131 q1789 ndX3_laysScores rfl (by decide) (by decide) rfl rfl (Nat.le_of_ble_eq_true rfl) dX3_lifted_49 rfl (fun v8 τ8 τ8h => ?_)
        obtain ⟨rfl, τ8h, τ8f⟩ := τ8h
        refine g_aload_n hΓ rfl dX3_lifted_52 ?_
        refine m_callV (As := []) (rest := []) hok hΓ (m_unstashes hok τ8  ) rfl q1859 q1861 qs111 q131 q1862 ndX3_unstashes rfl (by decide) (by decide) rfl rfl (Nat.le_of_ble_eq_true rfl) dX3_lifted_53 rfl (fun v9 τ9 τ9h => ?_)
        obtain ⟨rfl, τ9h, τ9f⟩ := τ9h
        have τ90 : τ9 0 = σ 0 := funext fun j => by
          rw [τ9h j]
          by_cases z : 0 ≤ j ∧ j < 1048
          · rw [if_pos z, τ8f 2 j (by decide), τ7f 2 j (by decide), τ6h j, if_pos z]
          · rw [if_neg z, τ8f 0 j (by decide), τ7h, lifF, if_neg (by omega), lifP]
            have : (τ6 0 1009) = σ 0 1009 := by rw [τ60]
            rw [if_neg (by omega), if_neg (by omega), τ60]
        have hnm : ((nMod σ : Nat) : Int) = σ 0 1000 := by rw [nMod]; omega
        have τ9N : nMod τ9 = nMod σ := by rw [nMod, nMod, τ90]
        have hk9 : ∀ o : Int, 0 ≤ o → o < nMod σ → τ9 30 o = lfM σ k o := fun o q0 q1 => by
          rw [τ9f 30 o (by decide), τ8h o q0 (by omega), b2, lfM, τ7q]
        have hn1 : 0 ≤ τ9 0 1000 ∧ τ9 0 1000 ≤ 8 := by rw [τ90]; exact h1000
        have hs1 : ∀ o, 0 ≤ o → o < τ9 0 1000 → 0 ≤ τ9 30 o ∧ τ9 30 o ≤ 1584 := fun o q0 q1 => by
          rw [τ90] at q1
          rw [hk9 o q0 (by omega)]
          exact lfM_r hr (by omega) (by omega) q0 q1
        have hmc := moA_congr hk9 0
        have hm0 := moA_in (f := lfM σ k) (N := nMod σ) (p := 0) (by omega) (by omega)
        have hmg := mgn_congr hk9
        have hfr : ∀ (k9 : Nat) (j9 : Int), k9 ∉ [2, 22, 23, 24, 25, 26, 27, 28, 29, 30] → τ9 k9 j9 = σ k9 j9 := fun k9 j9 hk => by
          by_cases z : k9 = 0
          · subst z; rw [τ90]
          · exact ((τ9f k9 j9 (by simpa using z)).trans (τ8f k9 j9 (fun e => hk ((show ∀ x ∈ [22, 23, 24, 25, 26, 27, 28, 29, 30], x ∈ [2, 22, 23, 24, 25, 26, 27, 28, 29, 30] by decide) k9 e)))).trans ((τ7f k9 j9 (by simpa using z)).trans (τ6f k9 j9 (fun e => hk ((show ∀ x ∈ [2], x ∈ [2, 22, 23, 24, 25, 26, 27, 28, 29, 30] by decide) k9 e))))
        rw [← τ9N] at hmc hm0 hmg
        refine g_iload_n hΓ rfl dX3_lifted_56 ?_
        refine g_if_ne (tgt := 68) hΓ (by omega) dX3_lifted_57 (by decide) (fun c10 => ?_) (fun c10 => ?_)
        · refine g_iload_n hΓ rfl dX3_lifted_68 ?_
          refine g_iconst hΓ dX3_lifted_69 ?_
          refine g_icmp_ne (tgt := 86) hΓ (by omega) (by omega) dX3_lifted_70 (by decide) (fun c11 => ?_) (fun c11 => ?_)
          · refine g_aload_n hΓ rfl dX3_lifted_86 ?_
            refine m_callV (As := []) (rest := []) hok hΓ (m_marginOf hok τ9  (by first | assumption | omega) (by first | assumption | omega)) rfl q1802 q1804 qs104 q131 q1805 ndX3_marginOf rfl (by decide) (by decide) rfl rfl (Nat.le_of_ble_eq_true rfl) dX3_lifted_87 rfl (fun v12 τ12 τ12h => ?_)
            obtain ⟨rfl, τ12h⟩ := τ12h
            rw [τ12h]
            clear τ12h
            show gW Γ E (mM E h ad τ9) 0 0 _ _ (.int (iI (mgn (τ9 30) (nMod τ9))) :: _)
            exact m_iret hΓ dX3_lifted_90 ⟨ri (by rw [sp_lifted, if_pos (by omega), ← τ9N]; (repeat' split) <;> first | (exfalso; omega) | omega | (rw [hmc]; exact (τ9f 30 _ (by decide)).symm.trans (hk9 _ hm0.1 (by rw [← τ9N]; exact hm0.2.1)))), trivial, hfr⟩
          · refine g_aload_n hΓ rfl dX3_lifted_73 ?_
            refine m_geta hok hΓ 30 (by decide) rfl rfl q1387 rfl dX3_lifted_74 ?_
            refine g_aload_n hΓ rfl dX3_lifted_77 ?_
            refine g_iconst hΓ dX3_lifted_78 ?_
            refine m_callV (As := [.int (iI 0)]) (rest := [.ref (ad 30)]) hok hΓ (m_modelAt hok τ9 0 (by first | assumption | omega) (by first | assumption | omega) (by first | assumption | omega)) rfl q1790 q1792 qs102 q131 q1793 ndX3_modelAt rfl (by decide) (by decide) rfl rfl (Nat.le_of_ble_eq_true rfl) dX3_lifted_79 rfl (fun v13 τ13 τ13h => ?_)
            obtain ⟨rfl, τ13h⟩ := τ13h
            rw [τ13h]
            clear τ13h
            show gW Γ E (mM E h ad τ9) 0 0 _ _ (.int (iI (moA (τ9 30) (nMod τ9) 0)) :: _)
            refine m_ald hok hΓ 30 (by decide) rfl (n := 8) rfl (by rw [hmc]; omega) (by decide) dX3_lifted_82 ?_
            refine g_topi ((τ9f 30 (moA (τ9 30) (nMod τ9) 0) (by decide))) ?_
            refine g_goto (tgt := 90) hΓ dX3_lifted_83 (by decide) ?_
            exact m_iret hΓ dX3_lifted_90 ⟨ri (by rw [sp_lifted, if_pos (by omega), ← τ9N]; (repeat' split) <;> first | (exfalso; omega) | omega | (rw [hmc]; exact (τ9f 30 _ (by decide)).symm.trans (hk9 _ hm0.1 (by rw [← τ9N]; exact hm0.2.1)))), trivial, hfr⟩
        · refine g_aload_n hΓ rfl dX3_lifted_60 ?_
          refine g_iconst hΓ dX3_lifted_61 ?_
          refine m_callV (As := [.int (iI 0)]) (rest := []) hok hΓ (m_modelAt hok τ9 0 (by first | assumption | omega) (by first | assumption | omega) (by first | assumption | omega)) rfl q1790 q1792 qs102 q131 q1793 ndX3_modelAt rfl (by decide) (by decide) rfl rfl (Nat.le_of_ble_eq_true rfl) dX3_lifted_62 rfl (fun v14 τ14 τ14h => ?_)
          obtain ⟨rfl, τ14h⟩ := τ14h
          rw [τ14h]
          clear τ14h
          show gW Γ E (mM E h ad τ9) 0 0 _ _ (.int (iI (moA (τ9 30) (nMod τ9) 0)) :: _)
          refine g_goto (tgt := 90) hΓ dX3_lifted_65 (by decide) ?_
          exact m_iret hΓ dX3_lifted_90 ⟨ri (by rw [sp_lifted, if_pos (by omega), ← τ9N]; (repeat' split) <;> first | (exfalso; omega) | omega | (rw [hmc]; exact (τ9f 30 _ (by decide)).symm.trans (hk9 _ hm0.1 (by rw [← τ9N]; exact hm0.2.1)))), trivial, hfr⟩
      · refine g_iconst hΓ dX3_lifted_28 ?_
        exact m_iret hΓ dX3_lifted_29 ⟨ri (by rw [sp_lifted, if_neg (by omega)]), trivial, (fun k j hk => rfl)⟩
set_option maxHeartbeats 4000000 in
theorem m_weakest {l : Launch} {E : gE} {h : Nat} {ad : Nat → Nat} (hok : mOK E h ad) (σ : mS)   (hr : rowOK (σ 0)) : mC l E h ad yX3_weakest cX3_weakest 5 (some .int) 10 [.ref h] σ (fun rv σ' => rv = some (.int (iI (sp_weakest σ))) ∧ (True) ∧ ∀ (k : Nat) (j : Int), k ∉ [2, 22, 23, 24, 25, 26, 27, 28, 29, 30] → σ' k j = σ k j) := by
  refine mC.of (by decide) [some (.ref h), none, none, none, none] (Nat.le_of_ble_eq_true rfl) rfl rfl (fun Γ hΓ => ?_)
  obtain ⟨h1000, h1009, h1042, h1043, h1044, h1045, h1046, h1047, hms, hsi, hsm, hnm⟩ := id hr
  refine g_iconst hΓ dX3_weakest_0 ?_
  refine g_istore_n hΓ dX3_weakest_1 rfl (Nat.le_of_ble_eq_true rfl) (lv' := [some (.ref h), some (.int (iI (-1))), none, none, none]) rfl ?_
  refine g_ldcw (n := 100000000) hΓ rfl q1716 (by decide) dX3_weakest_2 ?_
  refine g_istore_n hΓ dX3_weakest_5 rfl (Nat.le_of_ble_eq_true rfl) (lv' := [some (.ref h), some (.int (iI (-1))), some (.int (iI 100000000)), none, none]) rfl ?_
  refine g_iconst hΓ dX3_weakest_6 ?_
  refine g_istore_n hΓ dX3_weakest_7 rfl (Nat.le_of_ble_eq_true rfl) (lv' := [some (.ref h), some (.int (iI (-1))), some (.int (iI 100000000)), some (.int (iI 0)), none]) rfl ?_
  have loop : ∀ (fu : Nat) (s : Int) (z : Int) (k : Int) (t : mS), (σ 0 1009 - k).toNat < fu → (0 ≤ k ∧ k ≤ σ 0 1009) → (0 ≤ z ∧ z ≤ 100000000) → (σ 0 1000 = 0 → s = -1) → (weF (fun k => sp_lifted σ k 1) (σ 0 1009 - k).toNat k (s, z) = weF (fun k => sp_lifted σ k 1) (σ 0 1009).toNat 0 (-1, 100000000)) → (∀ (k : Nat) (j : Int), k ∉ [2, 22, 23, 24, 25, 26, 27, 28, 29, 30] → t k j = σ k j) → gW Γ E (mM E h ad t) 0 0 8 [some (.ref h), some (.int (iI s)), some (.int (iI z)), some (.int (iI k)), none] [] := by
    intro fu
    induction fu with
    | zero => intro s z k t hn; exact absurd hn (Nat.not_lt_zero _)
    | succ fu ih_loop =>
      intro s z k t hn hk hz hz2 hv tf
      have t0 : t 0 = σ 0 := funext fun j => tf 0 j (by decide)
      have t7 : t 7 = σ 7 := funext fun j => tf 7 j (by decide)
      have t8 : t 8 = σ 8 := funext fun j => tf 8 j (by decide)
      have tQ := sp_lifted_same t0 t7 t8
      have hr1 : rowOK (t 0) := by rw [t0]; exact hr
      refine g_iload_n hΓ rfl dX3_weakest_8 ?_
      refine g_aload_n hΓ rfl dX3_weakest_9 ?_
      refine m_geta hok hΓ 0 (by decide) rfl rfl q1357 rfl dX3_weakest_10 ?_
      refine g_sipush hΓ (by decide) dX3_weakest_13 ?_
      refine m_ald hok hΓ 0 (by decide) rfl (n := 1048) rfl (by omega) (by decide) dX3_weakest_16 ?_
      refine g_topi ((tf 0 1009 (by decide))) ?_
      refine g_icmp_ge (tgt := 59) hΓ (by omega) (by omega) dX3_weakest_17 (by decide) (fun c1 => ?_) (fun c1 => ?_)
      · refine g_iload_n hΓ rfl dX3_weakest_59 ?_
        exact m_iret hΓ dX3_weakest_60 ⟨ri (by rw [sp_weakest]; by_cases q : σ 0 1000 = 0; rw [if_pos q]; exact hz2 q; rw [if_neg q, ← hv, show (σ 0 1009 - k).toNat = 0 by omega]; rfl), trivial, tf⟩
      · refine g_aload_n hΓ rfl dX3_weakest_20 ?_
        refine m_geta hok hΓ 0 (by decide) rfl rfl q1357 rfl dX3_weakest_21 ?_
        refine g_sipush hΓ (by decide) dX3_weakest_24 ?_
        refine m_ald hok hΓ 0 (by decide) rfl (n := 1048) rfl (by omega) (by decide) dX3_weakest_27 ?_
        refine g_topi ((tf 0 1000 (by decide))) ?_
        refine g_if_le (tgt := 59) hΓ (by omega) dX3_weakest_28 (by decide) (fun c2 => ?_) (fun c2 => ?_)
        · refine g_iload_n hΓ rfl dX3_weakest_59 ?_
          exact m_iret hΓ dX3_weakest_60 ⟨ri (by rw [sp_weakest]; by_cases q : σ 0 1000 = 0; rw [if_pos q]; exact hz2 q; rw [if_neg q, ← hv, show (σ 0 1009 - k).toNat = 0 by omega]; rfl), trivial, tf⟩
        · have hsr := lf1_r hr (k := k) (by omega) (by omega) (by omega)
          refine g_aload_n hΓ rfl dX3_weakest_31 ?_
          refine g_iload_n hΓ rfl dX3_weakest_32 ?_
          refine g_iconst hΓ dX3_weakest_33 ?_
          refine m_callV (As := [.int (iI k), .int (iI 1)]) (rest := []) hok hΓ (m_lifted hok t k 1 (by first | assumption | omega) (by first | assumption | omega) (by first | assumption | omega)) rfl q1867 q1844 q1845 q131 q1846 ndX3_lifted rfl (by decide) (by decide) rfl rfl (Nat.le_of_ble_eq_true rfl) dX3_weakest_34 rfl (fun v3 τ3 τ3h => ?_)
          obtain ⟨rfl, τ3h, τ3f⟩ := τ3h
          show gW Γ E (mM E h ad τ3) 0 0 _ _ (.int (iI (sp_lifted t k 1)) :: _)
          refine g_topi (show (sp_lifted t k 1 : Int) = (sp_lifted σ k 1) by simp only [tQ]) ?_
          obtain ⟨x4, ex4⟩ : ∃ z9 : Int, z9 = sp_lifted σ k 1 := ⟨_, rfl⟩
          refine g_topi ex4.symm ?_
          refine g_istore hΓ dX3_weakest_37 rfl (Nat.le_of_ble_eq_true rfl) (lv' := [some (.ref h), some (.int (iI s)), some (.int (iI z)), some (.int (iI k)), some (.int (iI x4))]) rfl ?_
          refine g_iload hΓ rfl dX3_weakest_39 ?_
          refine g_iload_n hΓ rfl dX3_weakest_41 ?_
          refine g_icmp_lt (tgt := 48) hΓ (by omega) (by omega) dX3_weakest_42 (by decide) (fun c5 => ?_) (fun c5 => ?_)
          · refine g_iload hΓ rfl dX3_weakest_48 ?_
            refine g_istore_n hΓ dX3_weakest_50 rfl (Nat.le_of_ble_eq_true rfl) (lv' := [some (.ref h), some (.int (iI s)), some (.int (iI x4)), some (.int (iI k)), some (.int (iI x4))]) rfl ?_
            refine g_iload_n hΓ rfl dX3_weakest_51 ?_
            refine g_istore_n hΓ dX3_weakest_52 rfl (Nat.le_of_ble_eq_true rfl) (lv' := [some (.ref h), some (.int (iI k)), some (.int (iI x4)), some (.int (iI k)), some (.int (iI x4))]) rfl ?_
            obtain ⟨x6, ex6⟩ : ∃ z9 : Int, z9 = k + 1 := ⟨_, rfl⟩
            refine g_iinc hΓ dX3_weakest_53 rfl rfl (lv' := [some (.ref h), some (.int (iI k)), some (.int (iI x4)), some (.int (iI x6)), some (.int (iI x4))]) (by rw [ex6]; rfl) ?_
            refine g_goto (tgt := 8) hΓ dX3_weakest_56 (by decide) ?_
            refine g_lvw (lv' := [some (.ref h), some (.int (iI k)), some (.int (iI x4)), some (.int (iI x6)), none]) ⟨rfl, ⟨rfl, ⟨rfl, ⟨rfl, trivial⟩⟩⟩⟩ ?_
            exact ih_loop k x4 x6 τ3 (by omega) (by omega) (by omega) (by omega) (by rw [← hv, show (σ 0 1009 - k).toNat = (σ 0 1009 - x6).toNat + 1 by omega, weF]; simp only; rw [if_neg (by omega), ex6, ← ex4]) (fun k' j' hk' => (τ3f k' j' hk').trans (tf k' j' hk'))
          · refine g_goto (tgt := 53) hΓ dX3_weakest_45 (by decide) ?_
            obtain ⟨x7, ex7⟩ : ∃ z9 : Int, z9 = k + 1 := ⟨_, rfl⟩
            refine g_iinc hΓ dX3_weakest_53 rfl rfl (lv' := [some (.ref h), some (.int (iI s)), some (.int (iI z)), some (.int (iI x7)), some (.int (iI x4))]) (by rw [ex7]; rfl) ?_
            refine g_goto (tgt := 8) hΓ dX3_weakest_56 (by decide) ?_
            refine g_lvw (lv' := [some (.ref h), some (.int (iI s)), some (.int (iI z)), some (.int (iI x7)), none]) ⟨rfl, ⟨rfl, ⟨rfl, ⟨rfl, trivial⟩⟩⟩⟩ ?_
            exact ih_loop s z x7 τ3 (by omega) (by omega) (by omega) (by omega) (by rw [← hv, show (σ 0 1009 - k).toNat = (σ 0 1009 - x7).toNat + 1 by omega, weF]; simp only; rw [if_pos (by omega), ex7]) (fun k' j' hk' => (τ3f k' j' hk').trans (tf k' j' hk'))
  exact loop 9 (-1) 100000000 0 σ (by omega) (by omega) (by omega) (by omega) (by rw [Int.sub_zero]) (fun k j _ => rfl)
