set_option maxRecDepth 100000
set_option maxHeartbeats 4000000 in
theorem m_image {l : Launch} {E : gE} {h : Nat} {ad : Nat → Nat} (hok : mOK E h ad) (σ : mS)   (hr : rowOK (σ 0)) : mC l E h ad yX3_image cX3_image 3 (some .int) 1 [.ref h] σ (fun rv σ' => rv = some (.int (iI ((imE σ).2))) ∧ (σ' 39 = (imE σ).1 ∧ σ' 40 0 = (imE σ).2) ∧ ∀ (k : Nat) (j : Int), k ∉ [39, 40] → σ' k j = σ k j) := by
  refine mC.of (by decide) [some (.ref h), none, none] (Nat.le_of_ble_eq_true rfl) rfl rfl (fun Γ hΓ => ?_)
  obtain ⟨h1000, h1009, h1042, h1043, h1044, h1045, h1046, h1047, hms, hsi, hsm, hnm⟩ := id hr
  refine g_aload_n hΓ rfl dX3_image_0 ?_
  refine g_iconst hΓ dX3_image_1 ?_
  refine m_puti hok hΓ 40 (by decide) rfl rfl q1397 rfl rfl rfl dX3_image_2 (fun τ1 τ1e => ?_)
  have τ1r : τ1 40 0 = 0 := by rw [τ1e]; exact us_s _ _ _ _
  have τ1f : ∀ (k9 : Nat) (j9 : Int), (k9 ≠ 40 ∨ j9 ≠ 0) → τ1 k9 j9 = σ k9 j9 := fun k9 j9 hh => by rw [τ1e]; exact us_n hh
  refine g_aload_n hΓ rfl dX3_image_5 ?_
  refine g_aload_n hΓ rfl dX3_image_6 ?_
  refine m_geta hok hΓ 0 (by decide) rfl rfl q1357 rfl dX3_image_7 ?_
  refine g_sipush hΓ (by decide) dX3_image_10 ?_
  refine m_ald hok hΓ 0 (by decide) rfl (n := 1048) rfl (by omega) (by decide) dX3_image_13 ?_
  refine g_topi ((τ1f 0 1009 (Or.inl (by decide)))) ?_
  refine m_callV (As := [.int (iI (σ 0 1009))]) (rest := []) hok hΓ (m_puts hok τ1 (σ 0 1009) (by first | assumption | omega)) rfl q1974 q1976 qs120 q131 q1977 ndX3_puts rfl (by decide) (by decide) rfl rfl (Nat.le_of_ble_eq_true rfl) dX3_image_14 rfl (fun v2 τ2 τ2h => ?_)
  obtain ⟨rfl, τ2h, τ2f⟩ := τ2h
  refine g_iconst hΓ dX3_image_17 ?_
  refine g_istore_n hΓ dX3_image_18 rfl (Nat.le_of_ble_eq_true rfl) (lv' := [some (.ref h), some (.int (iI 0)), none]) rfl ?_
  have loop : ∀ (fu : Nat) (s : Int) (t : mS), (σ 0 1009 - s).toNat < fu → (0 ≤ s ∧ s ≤ σ 0 1009) → (t 39 = (imS (σ 0) s.toNat (ptI (σ 39, 0) (σ 0 1009))).1) → (t 40 0 = (imS (σ 0) s.toNat (ptI (σ 39, 0) (σ 0 1009))).2) → (1 ≤ t 40 0 ∧ t 40 0 ≤ 1 + 25 * s) → (∀ j, 0 ≤ j → j < t 40 0 → 0 ≤ t 39 j ∧ t 39 j ≤ 99) → (∀ (k : Nat) (j : Int), k ∉ [39, 40] → t k j = σ k j) → gW Γ E (mM E h ad t) 0 0 19 [some (.ref h), some (.int (iI s)), none] [] := by
    intro fu
    induction fu with
    | zero => intro s t hn; exact absurd hn (Nat.not_lt_zero _)
    | succ fu ih_loop =>
      intro s t hn hs h39 h40 hp hV tf
      refine g_iload_n hΓ rfl dX3_image_19 ?_
      refine g_aload_n hΓ rfl dX3_image_20 ?_
      refine m_geta hok hΓ 0 (by decide) rfl rfl q1357 rfl dX3_image_21 ?_
      refine g_sipush hΓ (by decide) dX3_image_24 ?_
      refine m_ald hok hΓ 0 (by decide) rfl (n := 1048) rfl (by omega) (by decide) dX3_image_27 ?_
      refine g_topi ((tf 0 1009 (by decide))) ?_
      refine g_icmp_ge (tgt := 92) hΓ (by omega) (by omega) dX3_image_28 (by decide) (fun c3 => ?_) (fun c3 => ?_)
      · refine g_sipush hΓ (by decide) dX3_image_92 ?_
        refine g_istore_n hΓ dX3_image_95 rfl (Nat.le_of_ble_eq_true rfl) (lv' := [some (.ref h), some (.int (iI 157)), none]) rfl ?_
        refine g_iconst hΓ dX3_image_96 ?_
        refine g_istore_n hΓ dX3_image_97 rfl (Nat.le_of_ble_eq_true rfl) (lv' := [some (.ref h), some (.int (iI 157)), some (.int (iI 0))]) rfl ?_
        have hB : imB σ = (t 39, t 40 0) := by
          rw [imB, show (σ 0 1009).toNat = s.toNat by omega, h39, h40]
        have loop3 : ∀ (fu : Nat) (c : Int) (q : Int), (t 40 0 - q).toNat < fu → (0 ≤ q ∧ q ≤ t 40 0) → (c = ckF (t 39) q.toNat) → gW Γ E (mM E h ad t) 0 0 98 [some (.ref h), some (.int (iI c)), some (.int (iI q))] [] := by
          intro fu
          induction fu with
          | zero => intro c q hn; exact absurd hn (Nat.not_lt_zero _)
          | succ fu ih_loop3 =>
            intro c q hn hq hc
            have hcr := ckF_r (t 39) q.toNat
            rw [← hc] at hcr
            refine g_iload_n hΓ rfl dX3_image_98 ?_
            refine g_aload_n hΓ rfl dX3_image_99 ?_
            refine m_geti hok hΓ 40 (by decide) rfl rfl q1397 rfl dX3_image_100 ?_
            refine g_icmp_ge (tgt := 127) hΓ (by omega) (by omega) dX3_image_103 (by decide) (fun c4 => ?_) (fun c4 => ?_)
            · refine g_aload_n hΓ rfl dX3_image_127 ?_
              refine g_iload_n hΓ rfl dX3_image_128 ?_
              refine m_callV (As := [.int (iI c)]) (rest := []) hok hΓ (m_puts hok t c (by first | assumption | omega)) rfl q1974 q1976 qs120 q131 q1977 ndX3_puts rfl (by decide) (by decide) rfl rfl (Nat.le_of_ble_eq_true rfl) dX3_image_129 rfl (fun v5 τ5 τ5h => ?_)
              obtain ⟨rfl, τ5h, τ5f⟩ := τ5h
              refine g_aload_n hΓ rfl dX3_image_132 ?_
              refine m_geti hok hΓ 40 (by decide) rfl rfl q1397 rfl dX3_image_133 ?_
              exact m_iret hΓ dX3_image_136 ⟨ri (by rw [imE, hB, ptI]; simp only; rw [τ5h.2]), ⟨by rw [imE, hB, ptI, τ5h.1]; simp only; rw [hc, show q.toNat = (t 40 0).toNat by omega], by rw [imE, hB, ptI, τ5h.2]⟩, (fun k j hk => ((τ5f k j (fun e => hk ((show ∀ x ∈ [39, 40], x ∈ [39, 40] by decide) k e))).trans (tf k j (fun e => hk ((show ∀ x ∈ [39, 40], x ∈ [39, 40] by decide) k e)))))⟩
            · have hvq := hV q (by omega) (by omega)
              refine g_iconst hΓ dX3_image_106 ?_
              refine g_iload_n hΓ rfl dX3_image_107 ?_
              refine g_imul hΓ dX3_image_108 ?_
              refine g_aload_n hΓ rfl dX3_image_109 ?_
              refine m_geta hok hΓ 39 (by decide) rfl rfl q1396 rfl dX3_image_110 ?_
              refine g_iload_n hΓ rfl dX3_image_113 ?_
              refine m_ald hok hΓ 39 (by decide) rfl (n := 202) rfl (by omega) (by decide) dX3_image_114 ?_
              refine g_iadd hΓ dX3_image_115 ?_
              refine g_sipush hΓ (by decide) dX3_image_116 ?_
              refine g_iremN hΓ (by omega) (by omega) (by omega) dX3_image_119 ?_
              obtain ⟨x6, ex6⟩ : ∃ z9 : Int, z9 = ((3 * c) + (t 39 q)) % 251 := ⟨_, rfl⟩
              refine g_topi ex6.symm ?_
              refine g_istore_n hΓ dX3_image_120 rfl (Nat.le_of_ble_eq_true rfl) (lv' := [some (.ref h), some (.int (iI x6)), some (.int (iI q))]) rfl ?_
              obtain ⟨x7, ex7⟩ : ∃ z9 : Int, z9 = q + 1 := ⟨_, rfl⟩
              refine g_iinc hΓ dX3_image_121 rfl rfl (lv' := [some (.ref h), some (.int (iI x6)), some (.int (iI x7))]) (by rw [ex7]; rfl) ?_
              refine g_goto (tgt := 98) hΓ dX3_image_124 (by decide) ?_
              exact ih_loop3 x6 x7 (by omega) (by omega) (by rw [show x7.toNat = q.toNat + 1 by omega, ckF, show ((q.toNat : Nat) : Int) = q by omega, ← hc, ex6])
        exact loop3 203 157 0 (by omega) (by omega) rfl
      · have hsq := hsi s (by omega) (by omega)
        have hsq1 := hsq.1
        have hsq2 := hsq.2.1
        refine g_aload_n hΓ rfl dX3_image_31 ?_
        refine g_aload_n hΓ rfl dX3_image_32 ?_
        refine m_geta hok hΓ 0 (by decide) rfl rfl q1357 rfl dX3_image_33 ?_
        refine g_sipush hΓ (by decide) dX3_image_36 ?_
        refine g_iload_n hΓ rfl dX3_image_39 ?_
        refine g_iadd hΓ dX3_image_40 ?_
        refine m_ald hok hΓ 0 (by decide) rfl (n := 1048) rfl (by omega) (by decide) dX3_image_41 ?_
        refine g_topi ((tf 0 (960 + s) (by decide))) ?_
        refine m_callV (As := [.int (iI (σ 0 (960 + s)))]) (rest := []) hok hΓ (m_puts hok t (σ 0 (960 + s)) (by first | assumption | omega)) rfl q1974 q1976 qs120 q131 q1977 ndX3_puts rfl (by decide) (by decide) rfl rfl (Nat.le_of_ble_eq_true rfl) dX3_image_42 rfl (fun v8 τ8 τ8h => ?_)
        obtain ⟨rfl, τ8h, τ8f⟩ := τ8h
        refine g_iconst hΓ dX3_image_45 ?_
        refine g_istore_n hΓ dX3_image_46 rfl (Nat.le_of_ble_eq_true rfl) (lv' := [some (.ref h), some (.int (iI s)), some (.int (iI 0))]) rfl ?_
        have loop2 : ∀ (fu : Nat) (k : Int) (t : mS), (2 * σ 0 (960 + s) - k).toNat < fu → (0 ≤ k ∧ k ≤ 2 * σ 0 (960 + s)) → (t 39 = (imK (σ 0) s k.toNat (ptI (imS (σ 0) s.toNat (ptI (σ 39, 0) (σ 0 1009))) (σ 0 (960 + s)))).1) → (t 40 0 = (imK (σ 0) s k.toNat (ptI (imS (σ 0) s.toNat (ptI (σ 39, 0) (σ 0 1009))) (σ 0 (960 + s)))).2) → (1 ≤ t 40 0 ∧ t 40 0 ≤ 2 + 25 * s + k) → (∀ j, 0 ≤ j → j < t 40 0 → 0 ≤ t 39 j ∧ t 39 j ≤ 99) → (∀ (k : Nat) (j : Int), k ∉ [39, 40] → t k j = σ k j) → gW Γ E (mM E h ad t) 0 0 47 [some (.ref h), some (.int (iI s)), some (.int (iI k))] [] := by
          intro fu
          induction fu with
          | zero => intro k t hn; exact absurd hn (Nat.not_lt_zero _)
          | succ fu ih_loop2 =>
            intro k t hn hk h39 h40 hp hV tf
            refine g_iload_n hΓ rfl dX3_image_47 ?_
            refine g_iconst hΓ dX3_image_48 ?_
            refine g_aload_n hΓ rfl dX3_image_49 ?_
            refine m_geta hok hΓ 0 (by decide) rfl rfl q1357 rfl dX3_image_50 ?_
            refine g_sipush hΓ (by decide) dX3_image_53 ?_
            refine g_iload_n hΓ rfl dX3_image_56 ?_
            refine g_iadd hΓ dX3_image_57 ?_
            refine m_ald hok hΓ 0 (by decide) rfl (n := 1048) rfl (by omega) (by decide) dX3_image_58 ?_
            refine g_topi ((tf 0 (960 + s) (by decide))) ?_
            refine g_imul hΓ dX3_image_59 ?_
            refine g_icmp_ge (tgt := 86) hΓ (by omega) (by omega) dX3_image_60 (by decide) (fun c9 => ?_) (fun c9 => ?_)
            · obtain ⟨x10, ex10⟩ : ∃ z9 : Int, z9 = s + 1 := ⟨_, rfl⟩
              refine g_iinc hΓ dX3_image_86 rfl rfl (lv' := [some (.ref h), some (.int (iI x10)), some (.int (iI k))]) (by rw [ex10]; rfl) ?_
              refine g_goto (tgt := 19) hΓ dX3_image_89 (by decide) ?_
              refine g_lvw (lv' := [some (.ref h), some (.int (iI x10)), none]) ⟨rfl, ⟨rfl, trivial⟩⟩ ?_
              exact ih_loop x10 t (by omega) (by omega) (h39.trans (by rw [show x10.toNat = s.toNat + 1 by omega, imS, show ((s.toNat : Nat) : Int) = s by omega, show k.toNat = (2 * σ 0 (960 + s)).toNat by omega])) (h40.trans (by rw [show x10.toNat = s.toNat + 1 by omega, imS, show ((s.toNat : Nat) : Int) = s by omega, show k.toNat = (2 * σ 0 (960 + s)).toNat by omega])) (by omega) hV tf
            · have hpt := hsq.pt (j := k) (by omega) (by omega)
              have hpe : σ 0 (0 + 24 * s + k) = σ 0 (24 * s + k) := by rw [Int.zero_add]
              refine g_aload_n hΓ rfl dX3_image_63 ?_
              refine g_aload_n hΓ rfl dX3_image_64 ?_
              refine m_geta hok hΓ 0 (by decide) rfl rfl q1357 rfl dX3_image_65 ?_
              refine g_iconst hΓ dX3_image_68 ?_
              refine g_bipush hΓ (by decide) dX3_image_69 ?_
              refine g_iload_n hΓ rfl dX3_image_71 ?_
              refine g_imul hΓ dX3_image_72 ?_
              refine g_iadd hΓ dX3_image_73 ?_
              refine g_iload_n hΓ rfl dX3_image_74 ?_
              refine g_iadd hΓ dX3_image_75 ?_
              refine m_ald hok hΓ 0 (by decide) rfl (n := 1048) rfl (by omega) (by decide) dX3_image_76 ?_
              refine g_topi ((tf 0 ((0 + (24 * s)) + k) (by decide))) ?_
              refine m_callV (As := [.int (iI (σ 0 ((0 + (24 * s)) + k)))]) (rest := []) hok hΓ (m_puts hok t (σ 0 ((0 + (24 * s)) + k)) (by first | assumption | omega)) rfl q1974 q1976 qs120 q131 q1977 ndX3_puts rfl (by decide) (by decide) rfl rfl (Nat.le_of_ble_eq_true rfl) dX3_image_77 rfl (fun v11 τ11 τ11h => ?_)
              obtain ⟨rfl, τ11h, τ11f⟩ := τ11h
              obtain ⟨x12, ex12⟩ : ∃ z9 : Int, z9 = k + 1 := ⟨_, rfl⟩
              refine g_iinc hΓ dX3_image_80 rfl rfl (lv' := [some (.ref h), some (.int (iI s)), some (.int (iI x12))]) (by rw [ex12]; rfl) ?_
              refine g_goto (tgt := 47) hΓ dX3_image_83 (by decide) ?_
              exact ih_loop2 x12 τ11 (by omega) (by omega) (by rw [τ11h.1, show x12.toNat = k.toNat + 1 by omega, imK, ptI, h39, h40, show 24 * s + ((k.toNat : Nat) : Int) = 0 + 24 * s + k by omega]) (by rw [τ11h.2, show x12.toNat = k.toNat + 1 by omega, imK, ptI, h40]) (by rw [τ11h.2]; omega) (fun j h0 h1 => by
                  rw [τ11h.1]
                  rw [τ11h.2] at h1
                  by_cases z : j = t 40 0
                  · rw [z, up_s]; omega
                  · rw [up_n z]; exact hV j h0 (by omega)) (fun k j hk => ((τ11f k j (fun e => hk ((show ∀ x ∈ [39, 40], x ∈ [39, 40] by decide) k e))).trans (tf k j (fun e => hk ((show ∀ x ∈ [39, 40], x ∈ [39, 40] by decide) k e)))))
        exact loop2 25 0 τ8 (by omega) (by omega) (by rw [τ8h.1, h39, h40]; rfl) (by rw [τ8h.2, h40]; rfl) (by rw [τ8h.2]; omega) (fun j h0 h1 => by
            rw [τ8h.1]
            rw [τ8h.2] at h1
            by_cases z : j = t 40 0
            · rw [z, up_s]; omega
            · rw [up_n z]; exact hV j h0 (by omega)) (fun k j hk => ((τ8f k j (fun e => hk ((show ∀ x ∈ [39, 40], x ∈ [39, 40] by decide) k e))).trans (tf k j (fun e => hk ((show ∀ x ∈ [39, 40], x ∈ [39, 40] by decide) k e)))))
  exact loop 9 0 τ2 (by omega) (by omega) (by rw [τ2h.1, τ1r, show τ1 39 = σ 39 from funext fun j => τ1f 39 j (Or.inl (by decide))]; rfl) (by rw [τ2h.2, τ1r]; rfl) (by rw [τ2h.2, τ1r]; omega) (fun j h0 h1 => by
      rw [τ2h.2, τ1r] at h1
      rw [τ2h.1, τ1r, show j = 0 by omega, up_s]; omega) (fun k j hk => ((τ2f k j (fun e => hk ((show ∀ x ∈ [39, 40], x ∈ [39, 40] by decide) k e))).trans (τ1f k j (Or.inl (fun e => hk (by rw [e]; decide))))))
