set_option maxRecDepth 100000
set_option maxHeartbeats 4000000 in
theorem m_forget {l : Launch} {E : gE} {h : Nat} {ad : Nat → Nat} (hok : mOK E h ad) (σ : mS)  (k : Int) (hk : r32 k) (hr : rowOK (σ 0)) (hun : 0 ≤ σ 4 0 ∧ σ 4 0 ≤ 20) : mC l E h ad yX3_forget cX3_forget 4 (some .boolean) 2 [.ref h, .int (iI k)] σ (fun rv σ' => rv = some (.int (iI (if 0 ≤ k ∧ k < σ 0 1000 then 1 else 0))) ∧ (((0 ≤ k ∧ k < σ 0 1000) → σ' 0 = foF (σ 0) k ∧ remR σ' σ ∧ σ' 13 = σ 13) ∧ (¬ ((0 ≤ k ∧ k < σ 0 1000)) → refR σ' σ 3 ∧ σ' 0 = σ 0 ∧ σ' 3 = σ 3 ∧ σ' 4 0 = σ 4 0)) ∧ ∀ (k : Nat) (j : Int), k ∉ [0, 3, 4, 13] → σ' k j = σ k j) := by
  refine mC.of (by decide) [some (.ref h), some (.int (iI k)), none, none] (Nat.le_of_ble_eq_true rfl) rfl rfl (fun Γ hΓ => ?_)
  obtain ⟨h1000, h1009, h1042, h1043, h1044, h1045, h1046, h1047, hms, hsi, hsm, hnm⟩ := id hr
  refine g_aload_n hΓ rfl dX3_forget_0 ?_
  refine g_iload_n hΓ rfl dX3_forget_1 ?_
  refine m_callV (As := [.int (iI k)]) (rest := []) hok hΓ (m_isModel hok σ k (by first | assumption | omega) (by first | assumption | omega)) rfl q1594 q1596 qs76 q131 q1597 ndX3_isModel rfl (by decide) (by decide) rfl rfl (Nat.le_of_ble_eq_true rfl) dX3_forget_2 rfl (fun v1 τ1 τ1h => ?_)
  obtain ⟨rfl, τ1h⟩ := τ1h
  rw [τ1h]
  clear τ1h
  show gW Γ E (mM E h ad σ) 0 0 _ _ (.int (iI (if 0 ≤ k ∧ k < σ 0 1000 then 1 else 0)) :: _)
  refine g_ifB_ne (tgt := 14) hΓ  dX3_forget_5 (by decide) (fun c2 => ?_) (fun c2 => ?_)
  · refine g_aload_n hΓ rfl dX3_forget_14 ?_
    refine m_callV (As := []) (rest := []) hok hΓ (m_remembers hok σ  (by first | assumption | omega)) rfl q1927 q1929 qs118 q131 q1930 ndX3_remembers rfl (by decide) (by decide) rfl rfl (Nat.le_of_ble_eq_true rfl) dX3_forget_15 rfl (fun v3 τ3 τ3h => ?_)
    obtain ⟨rfl, τ3h, τ3f⟩ := τ3h
    refine g_aload_n hΓ rfl dX3_forget_18 ?_
    refine m_geta hok hΓ 0 (by decide) rfl rfl q1357 rfl dX3_forget_19 ?_
    refine g_sipush hΓ (by decide) dX3_forget_22 ?_
    refine g_dup2 hΓ rfl rfl dX3_forget_25 ?_
    refine m_ald hok hΓ 0 (by decide) rfl (n := 1048) rfl (by omega) (by decide) dX3_forget_26 ?_
    refine g_topi ((τ3f 0 1000 (by decide))) ?_
    refine g_iconst hΓ dX3_forget_27 ?_
    refine g_isub hΓ dX3_forget_28 ?_
    refine m_ast hok hΓ 0 (by decide) rfl (n := 1048) rfl (by omega) (by decide) dX3_forget_29 (fun τ4 τ4e => ?_)
    have τ4r : τ4 0 1000 = (σ 0 1000) - 1 := by rw [τ4e]; exact us_s _ _ _ _
    have τ4f : ∀ (k9 : Nat) (j9 : Int), (k9 ≠ 0 ∨ j9 ≠ 1000) → τ4 k9 j9 = τ3 k9 j9 := fun k9 j9 hh => by rw [τ4e]; exact us_n hh
    refine g_iload_n hΓ rfl dX3_forget_30 ?_
    refine g_istore_n hΓ dX3_forget_31 rfl (Nat.le_of_ble_eq_true rfl) (lv' := [some (.ref h), some (.int (iI k)), some (.int (iI k)), none]) rfl ?_
    have τ30 : τ3 0 = σ 0 := (funext fun j => τ3f 0 j (by decide))
    have loop : ∀ (fu : Nat) (m : Int) (t : mS), (σ 0 1000 - m).toNat < fu → (k ≤ m ∧ m ≤ σ 0 1000 - 1) → (t 0 = foP (σ 0) k m 0 0 0 0) → (∀ (k9 : Nat) (j : Int), k9 ∉ [0] → t k9 j = τ3 k9 j) → gW Γ E (mM E h ad t) 0 0 32 [some (.ref h), some (.int (iI k)), some (.int (iI m)), none] [] := by
      intro fu
      induction fu with
      | zero => intro m t hn; exact absurd hn (Nat.not_lt_zero _)
      | succ fu ih_loop =>
        intro m t hn hm hA tf
        have h10 : t 0 1000 = σ 0 1000 - 1 := by rw [hA, foP, if_pos rfl]
        refine g_iload_n hΓ rfl dX3_forget_32 ?_
        refine g_aload_n hΓ rfl dX3_forget_33 ?_
        refine m_geta hok hΓ 0 (by decide) rfl rfl q1357 rfl dX3_forget_34 ?_
        refine g_sipush hΓ (by decide) dX3_forget_37 ?_
        refine m_ald hok hΓ 0 (by decide) rfl (n := 1048) rfl (by omega) (by decide) dX3_forget_40 ?_
        refine g_icmp_ge (tgt := 210) hΓ (by omega) (by omega) dX3_forget_41 (by decide) (fun c5 => ?_) (fun c5 => ?_)
        · refine g_iconst hΓ dX3_forget_210 ?_
          exact m_zret hΓ (by omega) dX3_forget_211 ⟨ri (by rw [if_pos (by omega)]), ⟨fun _ => ⟨hA.trans (by rw [foF, show m = σ 0 1000 - 1 by omega]), ⟨(funext fun j => tf 3 j (by decide)).trans τ3h.1, (tf 4 0 (by decide)).trans τ3h.2⟩, (funext fun j => tf 13 j (by decide)).trans (funext fun j => τ3f 13 j (by decide))⟩, fun q => absurd (by omega) q⟩, (fun k j hk => ((tf k j (fun e => hk ((show ∀ x ∈ [0], x ∈ [0, 3, 4, 13] by decide) k e))).trans (τ3f k j (fun e => hk ((show ∀ x ∈ [3, 4], x ∈ [0, 3, 4, 13] by decide) k e)))))⟩
        · refine g_aload_n hΓ rfl dX3_forget_44 ?_
          refine m_geta hok hΓ 0 (by decide) rfl rfl q1357 rfl dX3_forget_45 ?_
          refine g_sipush hΓ (by decide) dX3_forget_48 ?_
          refine g_iload_n hΓ rfl dX3_forget_51 ?_
          refine g_iadd hΓ dX3_forget_52 ?_
          refine g_aload_n hΓ rfl dX3_forget_53 ?_
          refine m_geta hok hΓ 0 (by decide) rfl rfl q1357 rfl dX3_forget_54 ?_
          refine g_sipush hΓ (by decide) dX3_forget_57 ?_
          refine g_iload_n hΓ rfl dX3_forget_60 ?_
          refine g_iadd hΓ dX3_forget_61 ?_
          refine g_iconst hΓ dX3_forget_62 ?_
          refine g_iadd hΓ dX3_forget_63 ?_
          refine m_ald hok hΓ 0 (by decide) rfl (n := 1048) rfl (by omega) (by decide) dX3_forget_64 ?_
          refine m_ast hok hΓ 0 (by decide) rfl (n := 1048) rfl (by omega) (by decide) dX3_forget_65 (fun τ6 τ6e => ?_)
          have τ6r : τ6 0 (1001 + m) = t 0 ((1001 + m) + 1) := by rw [τ6e]; exact us_s _ _ _ _
          have τ6f : ∀ (k9 : Nat) (j9 : Int), (k9 ≠ 0 ∨ j9 ≠ (1001 + m)) → τ6 k9 j9 = t k9 j9 := fun k9 j9 hh => by rw [τ6e]; exact us_n hh
          refine g_iconst hΓ dX3_forget_66 ?_
          refine g_istore_n hΓ dX3_forget_67 rfl (Nat.le_of_ble_eq_true rfl) (lv' := [some (.ref h), some (.int (iI k)), some (.int (iI m)), some (.int (iI 0))]) rfl ?_
          have loop2 : ∀ (fu : Nat) (i : Int) (t : mS), (4 - i).toNat < fu → (0 ≤ i ∧ i ≤ 4) → (t 0 = foP (σ 0) k m 1 i 0 0) → (∀ (k9 : Nat) (j : Int), k9 ∉ [0] → t k9 j = τ3 k9 j) → gW Γ E (mM E h ad t) 0 0 68 [some (.ref h), some (.int (iI k)), some (.int (iI m)), some (.int (iI i))] [] := by
            intro fu
            induction fu with
            | zero => intro i t hn; exact absurd hn (Nat.not_lt_zero _)
            | succ fu ih_loop2 =>
              intro i t hn hi hA tf
              refine g_iload_n hΓ rfl dX3_forget_68 ?_
              refine g_iconst hΓ dX3_forget_69 ?_
              refine g_icmp_ge (tgt := 109) hΓ (by omega) (by omega) dX3_forget_70 (by decide) (fun c7 => ?_) (fun c7 => ?_)
              · refine g_iconst hΓ dX3_forget_109 ?_
                refine g_istore_n hΓ dX3_forget_110 rfl (Nat.le_of_ble_eq_true rfl) (lv' := [some (.ref h), some (.int (iI k)), some (.int (iI m)), some (.int (iI 0))]) rfl ?_
                have loop3 : ∀ (fu : Nat) (i : Int) (t : mS), (4 - i).toNat < fu → (0 ≤ i ∧ i ≤ 4) → (t 0 = foP (σ 0) k m 1 4 i 0) → (∀ (k9 : Nat) (j : Int), k9 ∉ [0] → t k9 j = τ3 k9 j) → gW Γ E (mM E h ad t) 0 0 111 [some (.ref h), some (.int (iI k)), some (.int (iI m)), some (.int (iI i))] [] := by
                  intro fu
                  induction fu with
                  | zero => intro i t hn; exact absurd hn (Nat.not_lt_zero _)
                  | succ fu ih_loop3 =>
                    intro i t hn hi hA tf
                    refine g_iload_n hΓ rfl dX3_forget_111 ?_
                    refine g_iconst hΓ dX3_forget_112 ?_
                    refine g_icmp_ge (tgt := 152) hΓ (by omega) (by omega) dX3_forget_113 (by decide) (fun c8 => ?_) (fun c8 => ?_)
                    · refine g_iconst hΓ dX3_forget_152 ?_
                      refine g_istore_n hΓ dX3_forget_153 rfl (Nat.le_of_ble_eq_true rfl) (lv' := [some (.ref h), some (.int (iI k)), some (.int (iI m)), some (.int (iI 0))]) rfl ?_
                      have loop4 : ∀ (fu : Nat) (i : Int) (t : mS), (96 - i).toNat < fu → (0 ≤ i ∧ i ≤ 96) → (t 0 = foP (σ 0) k m 1 4 4 i) → (∀ (k9 : Nat) (j : Int), k9 ∉ [0] → t k9 j = τ3 k9 j) → gW Γ E (mM E h ad t) 0 0 154 [some (.ref h), some (.int (iI k)), some (.int (iI m)), some (.int (iI i))] [] := by
                        intro fu
                        induction fu with
                        | zero => intro i t hn; exact absurd hn (Nat.not_lt_zero _)
                        | succ fu ih_loop4 =>
                          intro i t hn hi hA tf
                          refine g_iload_n hΓ rfl dX3_forget_154 ?_
                          refine g_bipush hΓ (by decide) dX3_forget_155 ?_
                          refine g_icmp_ge (tgt := 204) hΓ (by omega) (by omega) dX3_forget_157 (by decide) (fun c9 => ?_) (fun c9 => ?_)
                          · obtain ⟨x10, ex10⟩ : ∃ z9 : Int, z9 = m + 1 := ⟨_, rfl⟩
                            refine g_iinc hΓ dX3_forget_204 rfl rfl (lv' := [some (.ref h), some (.int (iI k)), some (.int (iI x10)), some (.int (iI i))]) (by rw [ex10]; rfl) ?_
                            refine g_goto (tgt := 32) hΓ dX3_forget_207 (by decide) ?_
                            refine g_lvw (lv' := [some (.ref h), some (.int (iI k)), some (.int (iI x10)), none]) ⟨rfl, ⟨rfl, ⟨rfl, trivial⟩⟩⟩ ?_
                            exact ih_loop x10 t (by omega) (by omega) (hA.trans (funext fun j => by
                                rw [show i = 96 by omega]
                                rw [foP, foP]
                                by_cases y0 : j = 1000
                                · rw [if_pos y0, if_pos y0]
                                · rw [if_neg y0, if_neg y0]
                                  by_cases y1 : 1001 + k ≤ j ∧ j < 1001 + m + 1
                                  · rw [if_pos y1, if_pos (show 1001 + k ≤ j ∧ j < 1001 + x10 + 0 by omega)]
                                  · rw [if_neg y1, if_neg (show ¬ (1001 + k ≤ j ∧ j < 1001 + x10 + 0) by omega)]
                                    by_cases y2 : 1010 + 4 * k ≤ j ∧ j < 1010 + 4 * m + 4
                                    · rw [if_pos y2, if_pos (show 1010 + 4 * k ≤ j ∧ j < 1010 + 4 * x10 + 0 by omega)]
                                    · rw [if_neg y2, if_neg (show ¬ (1010 + 4 * k ≤ j ∧ j < 1010 + 4 * x10 + 0) by omega)]
                                      by_cases y3 : 968 + 4 * k ≤ j ∧ j < 968 + 4 * m + 4
                                      · rw [if_pos y3, if_pos (show 968 + 4 * k ≤ j ∧ j < 968 + 4 * x10 + 0 by omega)]
                                      · rw [if_neg y3, if_neg (show ¬ (968 + 4 * k ≤ j ∧ j < 968 + 4 * x10 + 0) by omega)]
                                        by_cases y4 : 24 * (8 + 4 * k) ≤ j ∧ j < 24 * (8 + 4 * m) + 96
                                        · rw [if_pos y4, if_pos (show 24 * (8 + 4 * k) ≤ j ∧ j < 24 * (8 + 4 * x10) + 0 by omega)]
                                        · rw [if_neg y4, if_neg (show ¬ (24 * (8 + 4 * k) ≤ j ∧ j < 24 * (8 + 4 * x10) + 0) by omega)])) tf
                          · refine g_aload_n hΓ rfl dX3_forget_160 ?_
                            refine m_geta hok hΓ 0 (by decide) rfl rfl q1357 rfl dX3_forget_161 ?_
                            refine g_iconst hΓ dX3_forget_164 ?_
                            refine g_bipush hΓ (by decide) dX3_forget_165 ?_
                            refine g_bipush hΓ (by decide) dX3_forget_167 ?_
                            refine g_iconst hΓ dX3_forget_169 ?_
                            refine g_iload_n hΓ rfl dX3_forget_170 ?_
                            refine g_imul hΓ dX3_forget_171 ?_
                            refine g_iadd hΓ dX3_forget_172 ?_
                            refine g_imul hΓ dX3_forget_173 ?_
                            refine g_iadd hΓ dX3_forget_174 ?_
                            refine g_iload_n hΓ rfl dX3_forget_175 ?_
                            refine g_iadd hΓ dX3_forget_176 ?_
                            refine g_aload_n hΓ rfl dX3_forget_177 ?_
                            refine m_geta hok hΓ 0 (by decide) rfl rfl q1357 rfl dX3_forget_178 ?_
                            refine g_iconst hΓ dX3_forget_181 ?_
                            refine g_bipush hΓ (by decide) dX3_forget_182 ?_
                            refine g_bipush hΓ (by decide) dX3_forget_184 ?_
                            refine g_iconst hΓ dX3_forget_186 ?_
                            refine g_iload_n hΓ rfl dX3_forget_187 ?_
                            refine g_imul hΓ dX3_forget_188 ?_
                            refine g_iadd hΓ dX3_forget_189 ?_
                            refine g_iconst hΓ dX3_forget_190 ?_
                            refine g_iadd hΓ dX3_forget_191 ?_
                            refine g_imul hΓ dX3_forget_192 ?_
                            refine g_iadd hΓ dX3_forget_193 ?_
                            refine g_iload_n hΓ rfl dX3_forget_194 ?_
                            refine g_iadd hΓ dX3_forget_195 ?_
                            refine m_ald hok hΓ 0 (by decide) rfl (n := 1048) rfl (by omega) (by decide) dX3_forget_196 ?_
                            refine m_ast hok hΓ 0 (by decide) rfl (n := 1048) rfl (by omega) (by decide) dX3_forget_197 (fun τ11 τ11e => ?_)
                            have τ11r : τ11 0 ((0 + (24 * (8 + (4 * m)))) + i) = t 0 ((0 + (24 * ((8 + (4 * m)) + 4))) + i) := by rw [τ11e]; exact us_s _ _ _ _
                            have τ11f : ∀ (k9 : Nat) (j9 : Int), (k9 ≠ 0 ∨ j9 ≠ ((0 + (24 * (8 + (4 * m)))) + i)) → τ11 k9 j9 = t k9 j9 := fun k9 j9 hh => by rw [τ11e]; exact us_n hh
                            obtain ⟨x12, ex12⟩ : ∃ z9 : Int, z9 = i + 1 := ⟨_, rfl⟩
                            refine g_iinc hΓ dX3_forget_198 rfl rfl (lv' := [some (.ref h), some (.int (iI k)), some (.int (iI m)), some (.int (iI x12))]) (by rw [ex12]; rfl) ?_
                            refine g_goto (tgt := 154) hΓ dX3_forget_201 (by decide) ?_
                            exact ih_loop4 x12 τ11 (by omega) (by omega) (funext fun j => by
                                by_cases z : j = 0 + 24 * (8 + 4 * m) + i
                                · rw [z, τ11r, hA, foP, if_neg (by omega), if_neg (by omega), if_neg (by omega), if_neg (by omega), if_neg (by omega), foP, if_neg (by omega), if_neg (by omega), if_neg (by omega), if_neg (by omega), if_pos (by omega)]
                                  (try (congr 1; omega))
                                · rw [τ11f 0 j (Or.inr z), hA]
                                  rw [foP, foP]
                                  by_cases y0 : j = 1000
                                  · rw [if_pos y0, if_pos y0]
                                  · rw [if_neg y0, if_neg y0]
                                    by_cases y1 : 1001 + k ≤ j ∧ j < 1001 + m + 1
                                    · rw [if_pos y1, if_pos (show 1001 + k ≤ j ∧ j < 1001 + m + 1 by omega)]
                                    · rw [if_neg y1, if_neg (show ¬ (1001 + k ≤ j ∧ j < 1001 + m + 1) by omega)]
                                      by_cases y2 : 1010 + 4 * k ≤ j ∧ j < 1010 + 4 * m + 4
                                      · rw [if_pos y2, if_pos (show 1010 + 4 * k ≤ j ∧ j < 1010 + 4 * m + 4 by omega)]
                                      · rw [if_neg y2, if_neg (show ¬ (1010 + 4 * k ≤ j ∧ j < 1010 + 4 * m + 4) by omega)]
                                        by_cases y3 : 968 + 4 * k ≤ j ∧ j < 968 + 4 * m + 4
                                        · rw [if_pos y3, if_pos (show 968 + 4 * k ≤ j ∧ j < 968 + 4 * m + 4 by omega)]
                                        · rw [if_neg y3, if_neg (show ¬ (968 + 4 * k ≤ j ∧ j < 968 + 4 * m + 4) by omega)]
                                          by_cases y4 : 24 * (8 + 4 * k) ≤ j ∧ j < 24 * (8 + 4 * m) + i
                                          · rw [if_pos y4, if_pos (show 24 * (8 + 4 * k) ≤ j ∧ j < 24 * (8 + 4 * m) + x12 by omega)]
                                          · rw [if_neg y4, if_neg (show ¬ (24 * (8 + 4 * k) ≤ j ∧ j < 24 * (8 + 4 * m) + x12) by omega)]) (fun k9 j9 hk9 => (τ11f k9 j9 (Or.inl (fun e => hk9 (by rw [e]; decide)))).trans (tf k9 j9 hk9))
                      exact loop4 97 0 t (by omega) (by omega) (hA.trans (by rw [show i = 4 by omega])) tf
                    · refine g_aload_n hΓ rfl dX3_forget_116 ?_
                      refine m_geta hok hΓ 0 (by decide) rfl rfl q1357 rfl dX3_forget_117 ?_
                      refine g_sipush hΓ (by decide) dX3_forget_120 ?_
                      refine g_iconst hΓ dX3_forget_123 ?_
                      refine g_iload_n hΓ rfl dX3_forget_124 ?_
                      refine g_imul hΓ dX3_forget_125 ?_
                      refine g_iadd hΓ dX3_forget_126 ?_
                      refine g_iload_n hΓ rfl dX3_forget_127 ?_
                      refine g_iadd hΓ dX3_forget_128 ?_
                      refine g_aload_n hΓ rfl dX3_forget_129 ?_
                      refine m_geta hok hΓ 0 (by decide) rfl rfl q1357 rfl dX3_forget_130 ?_
                      refine g_sipush hΓ (by decide) dX3_forget_133 ?_
                      refine g_iconst hΓ dX3_forget_136 ?_
                      refine g_iload_n hΓ rfl dX3_forget_137 ?_
                      refine g_imul hΓ dX3_forget_138 ?_
                      refine g_iadd hΓ dX3_forget_139 ?_
                      refine g_iconst hΓ dX3_forget_140 ?_
                      refine g_iadd hΓ dX3_forget_141 ?_
                      refine g_iload_n hΓ rfl dX3_forget_142 ?_
                      refine g_iadd hΓ dX3_forget_143 ?_
                      refine m_ald hok hΓ 0 (by decide) rfl (n := 1048) rfl (by omega) (by decide) dX3_forget_144 ?_
                      refine m_ast hok hΓ 0 (by decide) rfl (n := 1048) rfl (by omega) (by decide) dX3_forget_145 (fun τ13 τ13e => ?_)
                      have τ13r : τ13 0 ((968 + (4 * m)) + i) = t 0 (((968 + (4 * m)) + 4) + i) := by rw [τ13e]; exact us_s _ _ _ _
                      have τ13f : ∀ (k9 : Nat) (j9 : Int), (k9 ≠ 0 ∨ j9 ≠ ((968 + (4 * m)) + i)) → τ13 k9 j9 = t k9 j9 := fun k9 j9 hh => by rw [τ13e]; exact us_n hh
                      obtain ⟨x14, ex14⟩ : ∃ z9 : Int, z9 = i + 1 := ⟨_, rfl⟩
                      refine g_iinc hΓ dX3_forget_146 rfl rfl (lv' := [some (.ref h), some (.int (iI k)), some (.int (iI m)), some (.int (iI x14))]) (by rw [ex14]; rfl) ?_
                      refine g_goto (tgt := 111) hΓ dX3_forget_149 (by decide) ?_
                      exact ih_loop3 x14 τ13 (by omega) (by omega) (funext fun j => by
                          by_cases z : j = 968 + 4 * m + i
                          · rw [z, τ13r, hA, foP, if_neg (by omega), if_neg (by omega), if_neg (by omega), if_neg (by omega), if_neg (by omega), foP, if_neg (by omega), if_neg (by omega), if_neg (by omega), if_pos (by omega)]
                            (try (congr 1; omega))
                          · rw [τ13f 0 j (Or.inr z), hA]
                            rw [foP, foP]
                            by_cases y0 : j = 1000
                            · rw [if_pos y0, if_pos y0]
                            · rw [if_neg y0, if_neg y0]
                              by_cases y1 : 1001 + k ≤ j ∧ j < 1001 + m + 1
                              · rw [if_pos y1, if_pos (show 1001 + k ≤ j ∧ j < 1001 + m + 1 by omega)]
                              · rw [if_neg y1, if_neg (show ¬ (1001 + k ≤ j ∧ j < 1001 + m + 1) by omega)]
                                by_cases y2 : 1010 + 4 * k ≤ j ∧ j < 1010 + 4 * m + 4
                                · rw [if_pos y2, if_pos (show 1010 + 4 * k ≤ j ∧ j < 1010 + 4 * m + 4 by omega)]
                                · rw [if_neg y2, if_neg (show ¬ (1010 + 4 * k ≤ j ∧ j < 1010 + 4 * m + 4) by omega)]
                                  by_cases y3 : 968 + 4 * k ≤ j ∧ j < 968 + 4 * m + i
                                  · rw [if_pos y3, if_pos (show 968 + 4 * k ≤ j ∧ j < 968 + 4 * m + x14 by omega)]
                                  · rw [if_neg y3, if_neg (show ¬ (968 + 4 * k ≤ j ∧ j < 968 + 4 * m + x14) by omega)]) (fun k9 j9 hk9 => (τ13f k9 j9 (Or.inl (fun e => hk9 (by rw [e]; decide)))).trans (tf k9 j9 hk9))
                exact loop3 5 0 t (by omega) (by omega) (hA.trans (by rw [show i = 4 by omega])) tf
              · refine g_aload_n hΓ rfl dX3_forget_73 ?_
                refine m_geta hok hΓ 0 (by decide) rfl rfl q1357 rfl dX3_forget_74 ?_
                refine g_sipush hΓ (by decide) dX3_forget_77 ?_
                refine g_iconst hΓ dX3_forget_80 ?_
                refine g_iload_n hΓ rfl dX3_forget_81 ?_
                refine g_imul hΓ dX3_forget_82 ?_
                refine g_iadd hΓ dX3_forget_83 ?_
                refine g_iload_n hΓ rfl dX3_forget_84 ?_
                refine g_iadd hΓ dX3_forget_85 ?_
                refine g_aload_n hΓ rfl dX3_forget_86 ?_
                refine m_geta hok hΓ 0 (by decide) rfl rfl q1357 rfl dX3_forget_87 ?_
                refine g_sipush hΓ (by decide) dX3_forget_90 ?_
                refine g_iconst hΓ dX3_forget_93 ?_
                refine g_iload_n hΓ rfl dX3_forget_94 ?_
                refine g_imul hΓ dX3_forget_95 ?_
                refine g_iadd hΓ dX3_forget_96 ?_
                refine g_iconst hΓ dX3_forget_97 ?_
                refine g_iadd hΓ dX3_forget_98 ?_
                refine g_iload_n hΓ rfl dX3_forget_99 ?_
                refine g_iadd hΓ dX3_forget_100 ?_
                refine m_ald hok hΓ 0 (by decide) rfl (n := 1048) rfl (by omega) (by decide) dX3_forget_101 ?_
                refine m_ast hok hΓ 0 (by decide) rfl (n := 1048) rfl (by omega) (by decide) dX3_forget_102 (fun τ15 τ15e => ?_)
                have τ15r : τ15 0 ((1010 + (4 * m)) + i) = t 0 (((1010 + (4 * m)) + 4) + i) := by rw [τ15e]; exact us_s _ _ _ _
                have τ15f : ∀ (k9 : Nat) (j9 : Int), (k9 ≠ 0 ∨ j9 ≠ ((1010 + (4 * m)) + i)) → τ15 k9 j9 = t k9 j9 := fun k9 j9 hh => by rw [τ15e]; exact us_n hh
                obtain ⟨x16, ex16⟩ : ∃ z9 : Int, z9 = i + 1 := ⟨_, rfl⟩
                refine g_iinc hΓ dX3_forget_103 rfl rfl (lv' := [some (.ref h), some (.int (iI k)), some (.int (iI m)), some (.int (iI x16))]) (by rw [ex16]; rfl) ?_
                refine g_goto (tgt := 68) hΓ dX3_forget_106 (by decide) ?_
                exact ih_loop2 x16 τ15 (by omega) (by omega) (funext fun j => by
                    by_cases z : j = 1010 + 4 * m + i
                    · rw [z, τ15r, hA, foP, if_neg (by omega), if_neg (by omega), if_neg (by omega), if_neg (by omega), if_neg (by omega), foP, if_neg (by omega), if_neg (by omega), if_pos (by omega)]
                      (try (congr 1; omega))
                    · rw [τ15f 0 j (Or.inr z), hA]
                      rw [foP, foP]
                      by_cases y0 : j = 1000
                      · rw [if_pos y0, if_pos y0]
                      · rw [if_neg y0, if_neg y0]
                        by_cases y1 : 1001 + k ≤ j ∧ j < 1001 + m + 1
                        · rw [if_pos y1, if_pos (show 1001 + k ≤ j ∧ j < 1001 + m + 1 by omega)]
                        · rw [if_neg y1, if_neg (show ¬ (1001 + k ≤ j ∧ j < 1001 + m + 1) by omega)]
                          by_cases y2 : 1010 + 4 * k ≤ j ∧ j < 1010 + 4 * m + i
                          · rw [if_pos y2, if_pos (show 1010 + 4 * k ≤ j ∧ j < 1010 + 4 * m + x16 by omega)]
                          · rw [if_neg y2, if_neg (show ¬ (1010 + 4 * k ≤ j ∧ j < 1010 + 4 * m + x16) by omega)]) (fun k9 j9 hk9 => (τ15f k9 j9 (Or.inl (fun e => hk9 (by rw [e]; decide)))).trans (tf k9 j9 hk9))
          exact loop2 5 0 τ6 (by omega) (by omega) (funext fun j => by
              by_cases z : j = 1001 + m
              · rw [z, τ6r, hA, foP, if_neg (by omega), if_neg (by omega), if_neg (by omega), if_neg (by omega), if_neg (by omega), foP, if_neg (by omega), if_pos (by omega)]
                (try (congr 1; omega))
              · rw [τ6f 0 j (Or.inr z), hA]
                rw [foP, foP]
                by_cases y0 : j = 1000
                · rw [if_pos y0, if_pos y0]
                · rw [if_neg y0, if_neg y0]
                  by_cases y1 : 1001 + k ≤ j ∧ j < 1001 + m + 0
                  · rw [if_pos y1, if_pos (show 1001 + k ≤ j ∧ j < 1001 + m + 1 by omega)]
                  · rw [if_neg y1, if_neg (show ¬ (1001 + k ≤ j ∧ j < 1001 + m + 1) by omega)]) (fun k9 j9 hk9 => (τ6f k9 j9 (Or.inl (fun e => hk9 (by rw [e]; decide)))).trans (tf k9 j9 hk9))
    exact loop 9 k τ4 (by omega) (by omega) (funext fun j => by
        rw [foP]
        by_cases z : j = 1000
        · rw [z, τ4r, if_pos rfl]
        · rw [τ4f 0 j (Or.inr z), if_neg z, if_neg (by omega), if_neg (by omega), if_neg (by omega), if_neg (by omega), τ30]) (fun k9 j hk9 => τ4f k9 j (Or.inl (fun e => hk9 (by rw [e]; decide))))
  · refine g_aload_n hΓ rfl dX3_forget_8 ?_
    refine g_iconst hΓ dX3_forget_9 ?_
    refine m_callV (As := [.int (iI 3)]) (rest := []) hok hΓ (m_isRefused hok σ 3 (by first | assumption | omega)) rfl q1497 q1499 qs58 q131 q1500 ndX3_isRefused rfl (by decide) (by decide) rfl rfl (Nat.le_of_ble_eq_true rfl) dX3_forget_10 rfl (fun v17 τ17 τ17h => ?_)
    obtain ⟨rfl, τ17h, τ17f⟩ := τ17h
    show gW Γ E (mM E h ad τ17) 0 0 _ _ (.int (iI 0) :: _)
    exact m_zret hΓ (by omega) dX3_forget_13 ⟨ri (by rw [if_neg (by omega)]), ⟨fun q => absurd q (by omega), fun _ => ⟨τ17h, (funext fun j => τ17f 0 j (by decide)), (funext fun j => τ17f 3 j (by decide)), τ17f 4 0 (by decide)⟩⟩, (fun k j hk => (τ17f k j (fun e => hk ((show ∀ x ∈ [13], x ∈ [0, 3, 4, 13] by decide) k e))))⟩
