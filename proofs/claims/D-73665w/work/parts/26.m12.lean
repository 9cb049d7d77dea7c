set_option maxRecDepth 100000
set_option maxHeartbeats 4000000 in
theorem m_partner {l : Launch} {E : gE} {h : Nat} {ad : Nat → Nat} (hok : mOK E h ad) (σ : mS)  (x : Int) (y : Int) (k : Int) (w : Int) (hx : r32 x) (hy : r32 y) (hk : r32 k) (hw : r32 w) (hr : rowOK (σ 0)) : mC l E h ad yX3_partner cX3_partner 10 (some .int) 9 [.ref h, .int (iI x), .int (iI y), .int (iI k), .int (iI w)] σ (fun rv σ' => rv = some (.int (iI (sp_partner σ x y k w))) ∧ (isPn σ x y k w → pairL σ' σ x y) ∧ ∀ (k : Nat) (j : Int), k ∉ [22, 23, 24, 25, 26, 27, 28, 29] → σ' k j = σ k j) := by
  refine mC.of (by decide) [some (.ref h), some (.int (iI x)), some (.int (iI y)), some (.int (iI k)), some (.int (iI w)), none, none, none, none, none] (Nat.le_of_ble_eq_true rfl) rfl rfl (fun Γ hΓ => ?_)
  obtain ⟨h1000, h1009, h1042, h1043, h1044, h1045, h1046, h1047, hms, hsi, hsm, hnm⟩ := id hr
  have hmx := fun q => mnS_r hr (m := x) q
  refine g_aload_n hΓ rfl dX3_partner_0 ?_
  refine g_iload_n hΓ rfl dX3_partner_1 ?_
  refine m_callV (As := [.int (iI x)]) (rest := []) hok hΓ (m_isLetter hok σ x (by first | assumption | omega) (by first | assumption | omega)) rfl q1602 q1604 qs77 q131 q1605 ndX3_isLetter rfl (by decide) (by decide) rfl rfl (Nat.le_of_ble_eq_true rfl) dX3_partner_2 rfl (fun v1 τ1 τ1h => ?_)
  obtain ⟨rfl, τ1h⟩ := τ1h
  rw [τ1h]
  clear τ1h
  show gW Γ E (mM E h ad σ) 0 0 _ _ (.int (iI (if x = -1 ∨ (0 ≤ x ∧ x < σ 0 1000) then 1 else 0)) :: _)
  refine g_ifB_eq (tgt := 41) hΓ  dX3_partner_5 (by decide) (fun c2 => ?_) (fun c2 => ?_)
  · refine g_iconst hΓ dX3_partner_41 ?_
    exact m_iret hΓ dX3_partner_42 ⟨ri (by rw [sp_partner, if_neg (by omega)]), (fun q => absurd q (by omega)), (fun k j hk => rfl)⟩
  · refine g_aload_n hΓ rfl dX3_partner_8 ?_
    refine g_iload_n hΓ rfl dX3_partner_9 ?_
    refine m_callV (As := [.int (iI y)]) (rest := []) hok hΓ (m_isLetter hok σ y (by first | assumption | omega) (by first | assumption | omega)) rfl q1602 q1604 qs77 q131 q1605 ndX3_isLetter rfl (by decide) (by decide) rfl rfl (Nat.le_of_ble_eq_true rfl) dX3_partner_10 rfl (fun v3 τ3 τ3h => ?_)
    obtain ⟨rfl, τ3h⟩ := τ3h
    rw [τ3h]
    clear τ3h
    show gW Γ E (mM E h ad σ) 0 0 _ _ (.int (iI (if y = -1 ∨ (0 ≤ y ∧ y < σ 0 1000) then 1 else 0)) :: _)
    refine g_ifB_eq (tgt := 41) hΓ  dX3_partner_13 (by decide) (fun c4 => ?_) (fun c4 => ?_)
    · refine g_iconst hΓ dX3_partner_41 ?_
      exact m_iret hΓ dX3_partner_42 ⟨ri (by rw [sp_partner, if_neg (by omega)]), (fun q => absurd q (by omega)), (fun k j hk => rfl)⟩
    · refine g_iload_n hΓ rfl dX3_partner_16 ?_
      refine g_iconst hΓ dX3_partner_17 ?_
      refine g_aload_n hΓ rfl dX3_partner_18 ?_
      refine g_iload_n hΓ rfl dX3_partner_19 ?_
      refine m_callV (As := [.int (iI x)]) (rest := [.int (iI 0), .int (iI k)]) hok hΓ (m_manyOf hok σ x (by first | assumption | omega) (by first | assumption | omega)) rfl q1606 q1608 qs78 q131 q1609 ndX3_manyOf rfl (by decide) (by decide) rfl rfl (Nat.le_of_ble_eq_true rfl) dX3_partner_20 rfl (fun v5 τ5 τ5h => ?_)
      obtain ⟨rfl, τ5h⟩ := τ5h
      rw [τ5h]
      clear τ5h
      show gW Γ E (mM E h ad σ) 0 0 _ _ (.int (iI (mnS σ x)) :: _)
      refine g_iconst hΓ dX3_partner_23 ?_
      refine g_isub hΓ dX3_partner_24 ?_
      refine m_callS (As := [.int (iI k), .int (iI 0), .int (iI ((mnS σ x) - 1))]) (rest := []) hok hΓ (m_isIn hok σ k 0 ((mnS σ x) - 1) (by first | assumption | omega) (by first | assumption | omega) (by first | assumption | omega)) rfl q1549 q1550 q131 q1551 ndX3_isIn rfl (by decide) (by decide) rfl (Nat.le_of_ble_eq_true rfl) dX3_partner_25 rfl (fun v6 τ6 τ6h => ?_)
      obtain ⟨rfl, τ6h⟩ := τ6h
      rw [τ6h]
      clear τ6h
      show gW Γ E (mM E h ad σ) 0 0 _ _ (.int (iI (if 0 ≤ k ∧ k ≤ ((mnS σ x) - 1) then 1 else 0)) :: _)
      refine g_ifB_eq (tgt := 41) hΓ  dX3_partner_28 (by decide) (fun c7 => ?_) (fun c7 => ?_)
      · refine g_iconst hΓ dX3_partner_41 ?_
        exact m_iret hΓ dX3_partner_42 ⟨ri (by rw [sp_partner, if_neg (by omega)]), (fun q => absurd q (by omega)), (fun k j hk => rfl)⟩
      · refine g_iload hΓ rfl dX3_partner_31 ?_
        refine g_iconst hΓ dX3_partner_33 ?_
        refine g_iconst hΓ dX3_partner_34 ?_
        refine m_callS (As := [.int (iI w), .int (iI 0), .int (iI 1)]) (rest := []) hok hΓ (m_isIn hok σ w 0 1 (by first | assumption | omega) (by first | assumption | omega) (by first | assumption | omega)) rfl q1549 q1550 q131 q1551 ndX3_isIn rfl (by decide) (by decide) rfl (Nat.le_of_ble_eq_true rfl) dX3_partner_35 rfl (fun v8 τ8 τ8h => ?_)
        obtain ⟨rfl, τ8h⟩ := τ8h
        rw [τ8h]
        clear τ8h
        show gW Γ E (mM E h ad σ) 0 0 _ _ (.int (iI (if 0 ≤ w ∧ w ≤ 1 then 1 else 0)) :: _)
        refine g_ifB_ne (tgt := 43) hΓ  dX3_partner_38 (by decide) (fun c9 => ?_) (fun c9 => ?_)
        · have hx : isL σ x := by omega
          have hy : isL σ y := by omega
          refine g_aload_n hΓ rfl dX3_partner_43 ?_
          refine g_iload_n hΓ rfl dX3_partner_44 ?_
          refine g_iload_n hΓ rfl dX3_partner_45 ?_
          refine m_callV (As := [.int (iI x), .int (iI y)]) (rest := []) hok hΓ (m_scoreOfTwo hok σ x y (by first | assumption | omega) (by first | assumption | omega) (by first | assumption | omega)) rfl q1746 q1748 qs95 q131 q1749 ndX3_scoreOfTwo rfl (by decide) (by decide) rfl rfl (Nat.le_of_ble_eq_true rfl) dX3_partner_46 rfl (fun v10 τ10 τ10h => ?_)
          obtain ⟨rfl, τ10h, τ10f⟩ := τ10h
          show gW Γ E (mM E h ad τ10) 0 0 _ _ (.int (iI (sc2 σ x y)) :: _)
          refine g_pop hΓ rfl dX3_partner_49 ?_
          refine g_iconst hΓ dX3_partner_50 ?_
          refine g_istore hΓ dX3_partner_51 rfl (Nat.le_of_ble_eq_true rfl) (lv' := [some (.ref h), some (.int (iI x)), some (.int (iI y)), some (.int (iI k)), some (.int (iI w)), some (.int (iI 0)), none, none, none, none]) rfl ?_
          refine g_iconst hΓ dX3_partner_53 ?_
          refine g_istore hΓ dX3_partner_54 rfl (Nat.le_of_ble_eq_true rfl) (lv' := [some (.ref h), some (.int (iI x)), some (.int (iI y)), some (.int (iI k)), some (.int (iI w)), some (.int (iI 0)), some (.int (iI (-1))), none, none, none]) rfl ?_
          refine g_iconst hΓ dX3_partner_56 ?_
          refine g_istore hΓ dX3_partner_57 rfl (Nat.le_of_ble_eq_true rfl) (lv' := [some (.ref h), some (.int (iI x)), some (.int (iI y)), some (.int (iI k)), some (.int (iI w)), some (.int (iI 0)), some (.int (iI (-1))), some (.int (iI 0)), none, none]) rfl ?_
          have τ100 : τ10 0 = σ 0 := funext fun j => τ10f 0 j (by decide)
          obtain ⟨htb, ⟨h24, h25⟩, hcs, hbs, hbr⟩ := pairL_use hr τ100 hx hy τ10h
          have mx := mnS_r hr hx
          have my := mnS_r hr hy
          have hP : 2 ^ (mnS σ y).toNat ≤ 256 := (show 2 ^ (mnS σ y).toNat ≤ 2 ^ 8 from Nat.pow_le_pow_right (by decide) (by omega))
          have hP0 : 0 < 2 ^ (mnS σ y).toNat := Nat.two_pow_pos _
          have loop : ∀ (fu : Nat) (s : Int) (z : Int) (i : Int), (k + 1 - i).toNat < fu → (0 ≤ i ∧ i ≤ k + 1) → (0 ≤ s) → (s.toNat = prS (pcL σ x y) (σ 0 1044) (mnS σ y).toNat (mnS σ x).toNat i.toNat) → (s.toNat < 2 ^ (mnS σ y).toNat) → ((i = 0 ∧ z = -1) ∨ z = parO (pcL σ x y) (σ 0 1044) (mnS σ y).toNat (mnS σ x).toNat (i - 1)) → gW Γ E (mM E h ad τ10) 0 0 59 [some (.ref h), some (.int (iI x)), some (.int (iI y)), some (.int (iI k)), some (.int (iI w)), some (.int (iI s)), some (.int (iI z)), some (.int (iI i)), none, none] [] := by
            intro fu
            induction fu with
            | zero => intro s z i hn; exact absurd hn (Nat.not_lt_zero _)
            | succ fu ih_loop =>
              intro s z i hn hi hs0 hs1 hs2 hz
              refine g_iload hΓ rfl dX3_partner_59 ?_
              refine g_iload_n hΓ rfl dX3_partner_61 ?_
              refine g_icmp_gt (tgt := 198) hΓ (by omega) (by omega) dX3_partner_62 (by decide) (fun c11 => ?_) (fun c11 => ?_)
              · have hzp : z = pnr σ x y k := by
                  rcases hz with hz | hz
                  · omega
                  · rw [hz, pnr, show i - 1 = k by omega]
                have hpr := pnr_r hr (x := x) hy k
                refine g_iload hΓ rfl dX3_partner_198 ?_
                refine g_if_ne (tgt := 206) hΓ (by omega) dX3_partner_200 (by decide) (fun c12 => ?_) (fun c12 => ?_)
                · refine g_iload hΓ rfl dX3_partner_206 ?_
                  refine g_iconst hΓ dX3_partner_208 ?_
                  refine g_icmp_eq (tgt := 252) hΓ (by omega) (by omega) dX3_partner_209 (by decide) (fun c13 => ?_) (fun c13 => ?_)
                  · refine g_iconst hΓ dX3_partner_252 ?_
                    exact m_iret hΓ dX3_partner_253 ⟨ri (by rw [sp_partner, if_pos ⟨hx, hy, by omega, by omega, by omega⟩, ← hzp]; rw [if_neg (by omega), trn]; first | rw [if_pos (by omega)] | rw [if_neg (by omega)]), (fun _ => τ10h), (fun k j hk => (τ10f k j (fun e => hk ((show ∀ x ∈ [22, 23, 24, 25, 26, 27, 28, 29], x ∈ [22, 23, 24, 25, 26, 27, 28, 29] by decide) k e))))⟩
                  · have hc9 := hcs k z (by omega) (by omega) (by omega) (by omega)
                    have e9 := els_64 h1042 (fsS x + k) (fsS y + z) 0 h1043.1
                    have e8 := els_64 h1042 (fsS x + k) (fsS y + z) 1 h1043.1
                    refine g_aload_n hΓ rfl dX3_partner_212 ?_
                    refine m_geta hok hΓ 27 (by decide) rfl rfl q1384 rfl dX3_partner_213 ?_
                    refine g_bipush hΓ (by decide) dX3_partner_216 ?_
                    refine g_iload_n hΓ rfl dX3_partner_218 ?_
                    refine g_imul hΓ dX3_partner_219 ?_
                    refine g_iload hΓ rfl dX3_partner_220 ?_
                    refine g_iadd hΓ dX3_partner_222 ?_
                    refine m_ald hok hΓ 27 (by decide) rfl (n := 64) rfl (by omega) (by decide) dX3_partner_223 ?_
                    refine g_aload_n hΓ rfl dX3_partner_224 ?_
                    refine m_geta hok hΓ 0 (by decide) rfl rfl q1357 rfl dX3_partner_225 ?_
                    refine g_sipush hΓ (by decide) dX3_partner_228 ?_
                    refine m_ald hok hΓ 0 (by decide) rfl (n := 1048) rfl (by omega) (by decide) dX3_partner_231 ?_
                    refine g_topi ((τ10f 0 1045 (by decide))) ?_
                    refine g_iadd hΓ dX3_partner_232 ?_
                    refine g_aload_n hΓ rfl dX3_partner_233 ?_
                    refine m_geta hok hΓ 26 (by decide) rfl rfl q1383 rfl dX3_partner_234 ?_
                    refine g_bipush hΓ (by decide) dX3_partner_237 ?_
                    refine g_iload_n hΓ rfl dX3_partner_239 ?_
                    refine g_imul hΓ dX3_partner_240 ?_
                    refine g_iload hΓ rfl dX3_partner_241 ?_
                    refine g_iadd hΓ dX3_partner_243 ?_
                    refine m_ald hok hΓ 26 (by decide) rfl (n := 64) rfl (by omega) (by decide) dX3_partner_244 ?_
                    refine g_icmp_ge (tgt := 252) hΓ (by omega) (by omega) dX3_partner_245 (by decide) (fun c14 => ?_) (fun c14 => ?_)
                    · refine g_iconst hΓ dX3_partner_252 ?_
                      exact m_iret hΓ dX3_partner_253 ⟨ri (by rw [sp_partner, if_pos ⟨hx, hy, by omega, by omega, by omega⟩, ← hzp]; rw [if_neg (by omega), trn]; first | rw [if_pos (by omega)] | rw [if_neg (by omega)]), (fun _ => τ10h), (fun k j hk => (τ10f k j (fun e => hk ((show ∀ x ∈ [22, 23, 24, 25, 26, 27, 28, 29], x ∈ [22, 23, 24, 25, 26, 27, 28, 29] by decide) k e))))⟩
                    · refine g_iconst hΓ dX3_partner_248 ?_
                      refine g_goto (tgt := 253) hΓ dX3_partner_249 (by decide) ?_
                      exact m_iret hΓ dX3_partner_253 ⟨ri (by rw [sp_partner, if_pos ⟨hx, hy, by omega, by omega, by omega⟩, ← hzp]; rw [if_neg (by omega), trn]; first | rw [if_pos (by omega)] | rw [if_neg (by omega)]), (fun _ => τ10h), (fun k j hk => (τ10f k j (fun e => hk ((show ∀ x ∈ [22, 23, 24, 25, 26, 27, 28, 29], x ∈ [22, 23, 24, 25, 26, 27, 28, 29] by decide) k e))))⟩
                · refine g_iload hΓ rfl dX3_partner_203 ?_
                  exact m_iret hΓ dX3_partner_205 ⟨ri (by rw [sp_partner, if_pos ⟨hx, hy, by omega, by omega, by omega⟩, ← hzp]; rw [if_pos (by omega)]), (fun _ => τ10h), (fun k j hk => (τ10f k j (fun e => hk ((show ∀ x ∈ [22, 23, 24, 25, 26, 27, 28, 29], x ∈ [22, 23, 24, 25, 26, 27, 28, 29] by decide) k e))))⟩
              · refine g_iconst hΓ dX3_partner_65 ?_
                refine g_istore hΓ dX3_partner_66 rfl (Nat.le_of_ble_eq_true rfl) (lv' := [some (.ref h), some (.int (iI x)), some (.int (iI y)), some (.int (iI k)), some (.int (iI w)), some (.int (iI s)), some (.int (iI (-1))), some (.int (iI i)), none, none]) rfl ?_
                refine g_aload_n hΓ rfl dX3_partner_68 ?_
                refine m_geti hok hΓ 25 (by decide) rfl rfl q1382 rfl dX3_partner_69 ?_
                refine g_iconst hΓ dX3_partner_72 ?_
                refine g_isub hΓ dX3_partner_73 ?_
                obtain ⟨x15, ex15⟩ : ∃ z9 : Int, z9 = (τ10 25 0) - 1 := ⟨_, rfl⟩
                refine g_topi ex15.symm ?_
                refine g_istore hΓ dX3_partner_74 rfl (Nat.le_of_ble_eq_true rfl) (lv' := [some (.ref h), some (.int (iI x)), some (.int (iI y)), some (.int (iI k)), some (.int (iI w)), some (.int (iI s)), some (.int (iI (-1))), some (.int (iI i)), some (.int (iI x15)), none]) rfl ?_
                have loop2 : ∀ (fu : Nat) (v : Int) (j : Int), (j + 1).toNat < fu → (-1 ≤ j ∧ j < mnS σ y) → (-1 ≤ v ∧ v < mnS σ y) → (prF (prP (pcL σ x y) (σ 0 1044) (mnS σ y).toNat (mnS σ x).toNat i s.toNat) (j + 1).toNat v = prW (pcL σ x y) (σ 0 1044) (mnS σ y).toNat (mnS σ x).toNat i s.toNat) → gW Γ E (mM E h ad τ10) 0 0 76 [some (.ref h), some (.int (iI x)), some (.int (iI y)), some (.int (iI k)), some (.int (iI w)), some (.int (iI s)), some (.int (iI v)), some (.int (iI i)), some (.int (iI j)), none] [] := by
                  intro fu
                  induction fu with
                  | zero => intro v j hn; exact absurd hn (Nat.not_lt_zero _)
                  | succ fu ih_loop2 =>
                    intro v j hn hj hvr hv
                    refine g_iload hΓ rfl dX3_partner_76 ?_
                    refine g_if_lt (tgt := 173) hΓ (by omega) dX3_partner_78 (by decide) (fun c16 => ?_) (fun c16 => ?_)
                    · have hvw : v = prW (pcL σ x y) (σ 0 1044) (mnS σ y).toNat (mnS σ x).toNat i s.toNat := by rw [← hv, show (j + 1).toNat = 0 by omega, prF]
                      have hor0 : s.toNat ||| 0 = s.toNat := Nat.or_zero _
                      refine g_iload hΓ rfl dX3_partner_173 ?_
                      refine g_iload hΓ rfl dX3_partner_175 ?_
                      refine g_iconst hΓ dX3_partner_177 ?_
                      refine g_icmp_ne (tgt := 185) hΓ (by omega) (by omega) dX3_partner_178 (by decide) (fun c17 => ?_) (fun c17 => ?_)
                      · refine g_iconst hΓ dX3_partner_185 ?_
                        refine g_iload hΓ rfl dX3_partner_186 ?_
                        refine g_ishl (a := ((2 ^ v.toNat : Nat) : Int)) hΓ (sh_1 (by omega) (by omega)) dX3_partner_188 ?_
                        refine g_ior (a := ((s.toNat ||| 2 ^ v.toNat : Nat) : Int)) hΓ (or_I (by omega) _) dX3_partner_189 ?_
                        obtain ⟨x18, ex18⟩ : ∃ z9 : Int, z9 = ((s.toNat ||| 2 ^ v.toNat : Nat) : Int) := ⟨_, rfl⟩
                        refine g_topi ex18.symm ?_
                        refine g_istore hΓ dX3_partner_190 rfl (Nat.le_of_ble_eq_true rfl) (lv' := [some (.ref h), some (.int (iI x)), some (.int (iI y)), some (.int (iI k)), some (.int (iI w)), some (.int (iI x18)), some (.int (iI v)), some (.int (iI i)), some (.int (iI j)), none]) rfl ?_
                        obtain ⟨x19, ex19⟩ : ∃ z9 : Int, z9 = i + 1 := ⟨_, rfl⟩
                        refine g_iinc hΓ dX3_partner_192 rfl rfl (lv' := [some (.ref h), some (.int (iI x)), some (.int (iI y)), some (.int (iI k)), some (.int (iI w)), some (.int (iI x18)), some (.int (iI v)), some (.int (iI x19)), some (.int (iI j)), none]) (by rw [ex19]; rfl) ?_
                        refine g_goto (tgt := 59) hΓ dX3_partner_195 (by decide) ?_
                        refine g_lvw (lv' := [some (.ref h), some (.int (iI x)), some (.int (iI y)), some (.int (iI k)), some (.int (iI w)), some (.int (iI x18)), some (.int (iI v)), some (.int (iI x19)), none, none]) ⟨rfl, ⟨rfl, ⟨rfl, ⟨rfl, ⟨rfl, ⟨rfl, ⟨rfl, ⟨rfl, trivial⟩⟩⟩⟩⟩⟩⟩⟩ ?_
                        exact ih_loop x18 v x19 (by omega) (by omega) (by omega) (by rw [show x19.toNat = i.toNat + 1 by omega, prS, ← hs1, show ((i.toNat : Nat) : Int) = i by omega, ← hvw, prN]; first | (rw [if_pos (by omega)]; omega) | (rw [if_neg (by omega)]; omega)) (by have z := prN_r hs2 (w := v) (by omega) (by omega); rw [prN] at z; split at z <;> omega) (Or.inr (by rw [hvw, parO, show x19 - 1 = i by omega, ← hs1]))
                      · refine g_iconst hΓ dX3_partner_181 ?_
                        refine g_goto (tgt := 189) hΓ dX3_partner_182 (by decide) ?_
                        refine g_ior (a := ((s.toNat ||| 0 : Nat) : Int)) hΓ (or_I (by omega) 0) dX3_partner_189 ?_
                        obtain ⟨x20, ex20⟩ : ∃ z9 : Int, z9 = ((s.toNat ||| 0 : Nat) : Int) := ⟨_, rfl⟩
                        refine g_topi ex20.symm ?_
                        refine g_istore hΓ dX3_partner_190 rfl (Nat.le_of_ble_eq_true rfl) (lv' := [some (.ref h), some (.int (iI x)), some (.int (iI y)), some (.int (iI k)), some (.int (iI w)), some (.int (iI x20)), some (.int (iI v)), some (.int (iI i)), some (.int (iI j)), none]) rfl ?_
                        obtain ⟨x21, ex21⟩ : ∃ z9 : Int, z9 = i + 1 := ⟨_, rfl⟩
                        refine g_iinc hΓ dX3_partner_192 rfl rfl (lv' := [some (.ref h), some (.int (iI x)), some (.int (iI y)), some (.int (iI k)), some (.int (iI w)), some (.int (iI x20)), some (.int (iI v)), some (.int (iI x21)), some (.int (iI j)), none]) (by rw [ex21]; rfl) ?_
                        refine g_goto (tgt := 59) hΓ dX3_partner_195 (by decide) ?_
                        refine g_lvw (lv' := [some (.ref h), some (.int (iI x)), some (.int (iI y)), some (.int (iI k)), some (.int (iI w)), some (.int (iI x20)), some (.int (iI v)), some (.int (iI x21)), none, none]) ⟨rfl, ⟨rfl, ⟨rfl, ⟨rfl, ⟨rfl, ⟨rfl, ⟨rfl, ⟨rfl, trivial⟩⟩⟩⟩⟩⟩⟩⟩ ?_
                        exact ih_loop x20 v x21 (by omega) (by omega) (by omega) (by rw [show x21.toNat = i.toNat + 1 by omega, prS, ← hs1, show ((i.toNat : Nat) : Int) = i by omega, ← hvw, prN]; first | (rw [if_pos (by omega)]; omega) | (rw [if_neg (by omega)]; omega)) (by have z := prN_r hs2 (w := v) (by omega) (by omega); rw [prN] at z; split at z <;> omega) (Or.inr (by rw [hvw, parO, show x21 - 1 = i by omega, ← hs1]))
                    · refine g_iload hΓ rfl dX3_partner_81 ?_
                      refine g_iload hΓ rfl dX3_partner_83 ?_
                      refine g_ishr (a := s / 2 ^ j.toNat) hΓ (bsh (by omega) (by omega) (by omega)) dX3_partner_85 ?_
                      refine g_iconst hΓ dX3_partner_86 ?_
                      refine g_iand (a := if s.toNat.testBit j.toNat = true then 1 else 0) hΓ (an_tbI (by omega) _) dX3_partner_87 ?_
                      refine g_ifB_ne (tgt := 150) hΓ  dX3_partner_88 (by decide) (fun c22 => ?_) (fun c22 => ?_)
                      · refine g_iconst hΓ dX3_partner_150 ?_
                        refine g_istore hΓ dX3_partner_151 rfl (Nat.le_of_ble_eq_true rfl) (lv' := [some (.ref h), some (.int (iI x)), some (.int (iI y)), some (.int (iI k)), some (.int (iI w)), some (.int (iI s)), some (.int (iI v)), some (.int (iI i)), some (.int (iI j)), some (.int (iI 0))]) rfl ?_
                        refine g_iload hΓ rfl dX3_partner_153 ?_
                        refine g_if_eq (tgt := 163) hΓ (by omega) dX3_partner_155 (by decide) (fun c23 => ?_) (fun c23 => ?_)
                        · refine g_iload hΓ rfl dX3_partner_163 ?_
                          refine g_istore hΓ dX3_partner_165 rfl (Nat.le_of_ble_eq_true rfl) (lv' := [some (.ref h), some (.int (iI x)), some (.int (iI y)), some (.int (iI k)), some (.int (iI w)), some (.int (iI s)), some (.int (iI v)), some (.int (iI i)), some (.int (iI j)), some (.int (iI 0))]) rfl ?_
                          obtain ⟨x24, ex24⟩ : ∃ z9 : Int, z9 = j + (-1) := ⟨_, rfl⟩
                          refine g_iinc hΓ dX3_partner_167 rfl rfl (lv' := [some (.ref h), some (.int (iI x)), some (.int (iI y)), some (.int (iI k)), some (.int (iI w)), some (.int (iI s)), some (.int (iI v)), some (.int (iI i)), some (.int (iI x24)), some (.int (iI 0))]) (by rw [ex24]; rfl) ?_
                          refine g_goto (tgt := 76) hΓ dX3_partner_170 (by decide) ?_
                          refine g_lvw (lv' := [some (.ref h), some (.int (iI x)), some (.int (iI y)), some (.int (iI k)), some (.int (iI w)), some (.int (iI s)), some (.int (iI v)), some (.int (iI i)), some (.int (iI x24)), none]) ⟨rfl, ⟨rfl, ⟨rfl, ⟨rfl, ⟨rfl, ⟨rfl, ⟨rfl, ⟨rfl, ⟨rfl, trivial⟩⟩⟩⟩⟩⟩⟩⟩⟩ ?_
                          exact ih_loop2 v x24 (by omega) (by omega) (by omega) (by rw [← hv, show (j + 1).toNat = j.toNat + 1 by omega, prF, show ((j.toNat : Nat) : Int) = j by omega, if_neg (prP_f (by first | exact Or.inl (by assumption) | exact Or.inr (by omega))), show (x24 + 1).toNat = j.toNat by omega])
                        · exact absurd c23 (by decide)
                      · have ho := or_lt hs2 (show j.toNat < (mnS σ y).toNat by omega)
                        have k1 := hbs (i + 1) _ (by omega) (by omega) ho
                        have k2 := hbs i s.toNat (by omega) (by omega) hs2
                        rw [show ((s.toNat : Nat) : Int) = s by omega] at k2
                        have k3 := (hcs i j (by omega) (by omega) (by omega) (by omega)).1
                        have k4 := hbr ((((mnS σ x).toNat : Int) - (i + 1)).toNat) _ (by omega) ho
                        have k5 := hbr ((((mnS σ x).toNat : Int) - i).toNat) s.toNat (by omega) hs2
                        have k6 := pcL_r hr hx hy (i := i) (j := j) (by omega) (by omega) (by omega) (by omega)
                        refine g_aload_n hΓ rfl dX3_partner_91 ?_
                        refine g_iload hΓ rfl dX3_partner_92 ?_
                        refine g_iload hΓ rfl dX3_partner_94 ?_
                        refine g_aload_n hΓ rfl dX3_partner_96 ?_
                        refine m_geta hok hΓ 0 (by decide) rfl rfl q1357 rfl dX3_partner_97 ?_
                        refine g_sipush hΓ (by decide) dX3_partner_100 ?_
                        refine m_ald hok hΓ 0 (by decide) rfl (n := 1048) rfl (by omega) (by decide) dX3_partner_103 ?_
                        refine g_topi ((τ10f 0 1045 (by decide))) ?_
                        refine m_callV (As := [.int (iI i), .int (iI j), .int (iI (σ 0 1045))]) (rest := []) hok hΓ (m_costOf hok τ10 i j (σ 0 1045) (by first | assumption | omega) (by first | assumption | omega) (by first | assumption | omega) (by first | assumption | omega)) rfl q1769 q1771 qs100 q131 q1772 ndX3_costOf rfl (by decide) (by decide) rfl rfl (Nat.le_of_ble_eq_true rfl) dX3_partner_104 rfl (fun v25 τ25 τ25h => ?_)
                        obtain ⟨rfl, τ25h⟩ := τ25h
                        rw [τ25h]
                        clear τ25h
                        show gW Γ E (mM E h ad τ10) 0 0 _ _ (.int (iI (cs3 τ10 (σ 0 1045) i j)) :: _)
                        refine g_aload_n hΓ rfl dX3_partner_107 ?_
                        refine m_geta hok hΓ 29 (by decide) rfl rfl q1386 rfl dX3_partner_108 ?_
                        refine g_sipush hΓ (by decide) dX3_partner_111 ?_
                        refine g_iload hΓ rfl dX3_partner_114 ?_
                        refine g_iconst hΓ dX3_partner_116 ?_
                        refine g_iadd hΓ dX3_partner_117 ?_
                        refine g_imul hΓ dX3_partner_118 ?_
                        refine g_iload hΓ rfl dX3_partner_119 ?_
                        refine g_iconst hΓ dX3_partner_121 ?_
                        refine g_iload hΓ rfl dX3_partner_122 ?_
                        refine g_ishl (a := ((2 ^ j.toNat : Nat) : Int)) hΓ (sh_1 (by omega) (by omega)) dX3_partner_124 ?_
                        refine g_ior (a := ((s.toNat ||| 2 ^ j.toNat : Nat) : Int)) hΓ (or_I (by omega) _) dX3_partner_125 ?_
                        refine g_iadd hΓ dX3_partner_126 ?_
                        refine m_ald hok hΓ 29 (by decide) rfl (n := 2304) rfl (by omega) (by decide) dX3_partner_127 ?_
                        refine g_iadd hΓ dX3_partner_128 ?_
                        refine g_aload_n hΓ rfl dX3_partner_129 ?_
                        refine m_geta hok hΓ 29 (by decide) rfl rfl q1386 rfl dX3_partner_130 ?_
                        refine g_sipush hΓ (by decide) dX3_partner_133 ?_
                        refine g_iload hΓ rfl dX3_partner_136 ?_
                        refine g_imul hΓ dX3_partner_138 ?_
                        refine g_iload hΓ rfl dX3_partner_139 ?_
                        refine g_iadd hΓ dX3_partner_141 ?_
                        refine m_ald hok hΓ 29 (by decide) rfl (n := 2304) rfl (by omega) (by decide) dX3_partner_142 ?_
                        refine g_icmp_ne (tgt := 150) hΓ (by omega) (by omega) dX3_partner_143 (by decide) (fun c26 => ?_) (fun c26 => ?_)
                        · refine g_iconst hΓ dX3_partner_150 ?_
                          refine g_istore hΓ dX3_partner_151 rfl (Nat.le_of_ble_eq_true rfl) (lv' := [some (.ref h), some (.int (iI x)), some (.int (iI y)), some (.int (iI k)), some (.int (iI w)), some (.int (iI s)), some (.int (iI v)), some (.int (iI i)), some (.int (iI j)), some (.int (iI 0))]) rfl ?_
                          refine g_iload hΓ rfl dX3_partner_153 ?_
                          refine g_if_eq (tgt := 163) hΓ (by omega) dX3_partner_155 (by decide) (fun c27 => ?_) (fun c27 => ?_)
                          · refine g_iload hΓ rfl dX3_partner_163 ?_
                            refine g_istore hΓ dX3_partner_165 rfl (Nat.le_of_ble_eq_true rfl) (lv' := [some (.ref h), some (.int (iI x)), some (.int (iI y)), some (.int (iI k)), some (.int (iI w)), some (.int (iI s)), some (.int (iI v)), some (.int (iI i)), some (.int (iI j)), some (.int (iI 0))]) rfl ?_
                            obtain ⟨x28, ex28⟩ : ∃ z9 : Int, z9 = j + (-1) := ⟨_, rfl⟩
                            refine g_iinc hΓ dX3_partner_167 rfl rfl (lv' := [some (.ref h), some (.int (iI x)), some (.int (iI y)), some (.int (iI k)), some (.int (iI w)), some (.int (iI s)), some (.int (iI v)), some (.int (iI i)), some (.int (iI x28)), some (.int (iI 0))]) (by rw [ex28]; rfl) ?_
                            refine g_goto (tgt := 76) hΓ dX3_partner_170 (by decide) ?_
                            refine g_lvw (lv' := [some (.ref h), some (.int (iI x)), some (.int (iI y)), some (.int (iI k)), some (.int (iI w)), some (.int (iI s)), some (.int (iI v)), some (.int (iI i)), some (.int (iI x28)), none]) ⟨rfl, ⟨rfl, ⟨rfl, ⟨rfl, ⟨rfl, ⟨rfl, ⟨rfl, ⟨rfl, ⟨rfl, trivial⟩⟩⟩⟩⟩⟩⟩⟩⟩ ?_
                            exact ih_loop2 v x28 (by omega) (by omega) (by omega) (by rw [← hv, show (j + 1).toNat = j.toNat + 1 by omega, prF, show ((j.toNat : Nat) : Int) = j by omega, if_neg (prP_f (by first | exact Or.inl (by assumption) | exact Or.inr (by omega))), show (x28 + 1).toNat = j.toNat by omega])
                          · exact absurd c27 (by decide)
                        · refine g_iconst hΓ dX3_partner_146 ?_
                          refine g_goto (tgt := 151) hΓ dX3_partner_147 (by decide) ?_
                          refine g_istore hΓ dX3_partner_151 rfl (Nat.le_of_ble_eq_true rfl) (lv' := [some (.ref h), some (.int (iI x)), some (.int (iI y)), some (.int (iI k)), some (.int (iI w)), some (.int (iI s)), some (.int (iI v)), some (.int (iI i)), some (.int (iI j)), some (.int (iI 1))]) rfl ?_
                          refine g_iload hΓ rfl dX3_partner_153 ?_
                          refine g_if_eq (tgt := 163) hΓ (by omega) dX3_partner_155 (by decide) (fun c29 => ?_) (fun c29 => ?_)
                          · exact absurd c29 (by decide)
                          · refine g_iload hΓ rfl dX3_partner_158 ?_
                            refine g_goto (tgt := 165) hΓ dX3_partner_160 (by decide) ?_
                            refine g_istore hΓ dX3_partner_165 rfl (Nat.le_of_ble_eq_true rfl) (lv' := [some (.ref h), some (.int (iI x)), some (.int (iI y)), some (.int (iI k)), some (.int (iI w)), some (.int (iI s)), some (.int (iI j)), some (.int (iI i)), some (.int (iI j)), some (.int (iI 1))]) rfl ?_
                            obtain ⟨x30, ex30⟩ : ∃ z9 : Int, z9 = j + (-1) := ⟨_, rfl⟩
                            refine g_iinc hΓ dX3_partner_167 rfl rfl (lv' := [some (.ref h), some (.int (iI x)), some (.int (iI y)), some (.int (iI k)), some (.int (iI w)), some (.int (iI s)), some (.int (iI j)), some (.int (iI i)), some (.int (iI x30)), some (.int (iI 1))]) (by rw [ex30]; rfl) ?_
                            refine g_goto (tgt := 76) hΓ dX3_partner_170 (by decide) ?_
                            refine g_lvw (lv' := [some (.ref h), some (.int (iI x)), some (.int (iI y)), some (.int (iI k)), some (.int (iI w)), some (.int (iI s)), some (.int (iI j)), some (.int (iI i)), some (.int (iI x30)), none]) ⟨rfl, ⟨rfl, ⟨rfl, ⟨rfl, ⟨rfl, ⟨rfl, ⟨rfl, ⟨rfl, ⟨rfl, trivial⟩⟩⟩⟩⟩⟩⟩⟩⟩ ?_
                            exact ih_loop2 j x30 (by omega) (by omega) (by omega) (by rw [← hv, show (j + 1).toNat = j.toNat + 1 by omega, prF, show ((j.toNat : Nat) : Int) = j by omega, if_pos (prP_t (by assumption) (by omega)), show (x30 + 1).toNat = j.toNat by omega])
                exact loop2 9 (-1) x15 (by omega) (by omega) (by omega) (by rw [show (x15 + 1).toNat = (mnS σ y).toNat by omega]; rfl)
          exact loop 9 0 (-1) 0 (by omega) (by omega) (by omega) rfl hP0 (Or.inl ⟨rfl, rfl⟩)
        · refine g_iconst hΓ dX3_partner_41 ?_
          exact m_iret hΓ dX3_partner_42 ⟨ri (by rw [sp_partner, if_neg (by omega)]), (fun q => absurd q (by omega)), (fun k j hk => rfl)⟩
set_option maxHeartbeats 4000000 in
theorem m_worst {l : Launch} {E : gE} {h : Nat} {ad : Nat → Nat} (hok : mOK E h ad) (σ : mS)  (x : Int) (y : Int) (w : Int) (hx : r32 x) (hy : r32 y) (hw : r32 w) (hr : rowOK (σ 0)) : mC l E h ad yX3_worst cX3_worst 11 (some .int) 10 [.ref h, .int (iI x), .int (iI y), .int (iI w)] σ (fun rv σ' => rv = some (.int (iI (sp_worst σ x y w))) ∧ (True) ∧ ∀ (k : Nat) (j : Int), k ∉ [22, 23, 24, 25, 26, 27, 28, 29] → σ' k j = σ k j) := by
  refine mC.of (by decide) [some (.ref h), some (.int (iI x)), some (.int (iI y)), some (.int (iI w)), none, none, none, none, none, none, none] (Nat.le_of_ble_eq_true rfl) rfl rfl (fun Γ hΓ => ?_)
  obtain ⟨h1000, h1009, h1042, h1043, h1044, h1045, h1046, h1047, hms, hsi, hsm, hnm⟩ := id hr
  refine g_aload_n hΓ rfl dX3_worst_0 ?_
  refine g_iload_n hΓ rfl dX3_worst_1 ?_
  refine m_callV (As := [.int (iI x)]) (rest := []) hok hΓ (m_isLetter hok σ x (by first | assumption | omega) (by first | assumption | omega)) rfl q1602 q1604 qs77 q131 q1605 ndX3_isLetter rfl (by decide) (by decide) rfl rfl (Nat.le_of_ble_eq_true rfl) dX3_worst_2 rfl (fun v1 τ1 τ1h => ?_)
  obtain ⟨rfl, τ1h⟩ := τ1h
  rw [τ1h]
  clear τ1h
  show gW Γ E (mM E h ad σ) 0 0 _ _ (.int (iI (if x = -1 ∨ (0 ≤ x ∧ x < σ 0 1000) then 1 else 0)) :: _)
  refine g_ifB_eq (tgt := 25) hΓ  dX3_worst_5 (by decide) (fun c2 => ?_) (fun c2 => ?_)
  · refine g_iconst hΓ dX3_worst_25 ?_
    exact m_iret hΓ dX3_worst_26 ⟨ri (by rw [sp_worst, if_neg (by omega)]), trivial, (fun k j hk => rfl)⟩
  · refine g_aload_n hΓ rfl dX3_worst_8 ?_
    refine g_iload_n hΓ rfl dX3_worst_9 ?_
    refine m_callV (As := [.int (iI y)]) (rest := []) hok hΓ (m_isLetter hok σ y (by first | assumption | omega) (by first | assumption | omega)) rfl q1602 q1604 qs77 q131 q1605 ndX3_isLetter rfl (by decide) (by decide) rfl rfl (Nat.le_of_ble_eq_true rfl) dX3_worst_10 rfl (fun v3 τ3 τ3h => ?_)
    obtain ⟨rfl, τ3h⟩ := τ3h
    rw [τ3h]
    clear τ3h
    show gW Γ E (mM E h ad σ) 0 0 _ _ (.int (iI (if y = -1 ∨ (0 ≤ y ∧ y < σ 0 1000) then 1 else 0)) :: _)
    refine g_ifB_eq (tgt := 25) hΓ  dX3_worst_13 (by decide) (fun c4 => ?_) (fun c4 => ?_)
    · refine g_iconst hΓ dX3_worst_25 ?_
      exact m_iret hΓ dX3_worst_26 ⟨ri (by rw [sp_worst, if_neg (by omega)]), trivial, (fun k j hk => rfl)⟩
    · refine g_iload_n hΓ rfl dX3_worst_16 ?_
      refine g_iconst hΓ dX3_worst_17 ?_
      refine g_iconst hΓ dX3_worst_18 ?_
      refine m_callS (As := [.int (iI w), .int (iI 0), .int (iI 2)]) (rest := []) hok hΓ (m_isIn hok σ w 0 2 (by first | assumption | omega) (by first | assumption | omega) (by first | assumption | omega)) rfl q1549 q1550 q131 q1551 ndX3_isIn rfl (by decide) (by decide) rfl (Nat.le_of_ble_eq_true rfl) dX3_worst_19 rfl (fun v5 τ5 τ5h => ?_)
      obtain ⟨rfl, τ5h⟩ := τ5h
      rw [τ5h]
      clear τ5h
      show gW Γ E (mM E h ad σ) 0 0 _ _ (.int (iI (if 0 ≤ w ∧ w ≤ 2 then 1 else 0)) :: _)
      refine g_ifB_ne (tgt := 27) hΓ  dX3_worst_22 (by decide) (fun c6 => ?_) (fun c6 => ?_)
      · have hx : isL σ x := by omega
        have hy : isL σ y := by omega
        refine g_aload_n hΓ rfl dX3_worst_27 ?_
        refine g_iload_n hΓ rfl dX3_worst_28 ?_
        refine m_callV (As := [.int (iI x)]) (rest := []) hok hΓ (m_manyOf hok σ x (by first | assumption | omega) (by first | assumption | omega)) rfl q1606 q1608 qs78 q131 q1609 ndX3_manyOf rfl (by decide) (by decide) rfl rfl (Nat.le_of_ble_eq_true rfl) dX3_worst_29 rfl (fun v7 τ7 τ7h => ?_)
        obtain ⟨rfl, τ7h⟩ := τ7h
        rw [τ7h]
        clear τ7h
        show gW Γ E (mM E h ad σ) 0 0 _ _ (.int (iI (mnS σ x)) :: _)
        obtain ⟨x8, ex8⟩ : ∃ z9 : Int, z9 = mnS σ x := ⟨_, rfl⟩
        refine g_topi ex8.symm ?_
        refine g_istore hΓ dX3_worst_32 rfl (Nat.le_of_ble_eq_true rfl) (lv' := [some (.ref h), some (.int (iI x)), some (.int (iI y)), some (.int (iI w)), some (.int (iI x8)), none, none, none, none, none, none]) rfl ?_
        refine g_iload hΓ rfl dX3_worst_34 ?_
        refine g_aload_n hΓ rfl dX3_worst_36 ?_
        refine g_iload_n hΓ rfl dX3_worst_37 ?_
        refine m_callV (As := [.int (iI y)]) (rest := [.int (iI x8)]) hok hΓ (m_manyOf hok σ y (by first | assumption | omega) (by first | assumption | omega)) rfl q1606 q1608 qs78 q131 q1609 ndX3_manyOf rfl (by decide) (by decide) rfl rfl (Nat.le_of_ble_eq_true rfl) dX3_worst_38 rfl (fun v9 τ9 τ9h => ?_)
        obtain ⟨rfl, τ9h⟩ := τ9h
        rw [τ9h]
        clear τ9h
        show gW Γ E (mM E h ad σ) 0 0 _ _ (.int (iI (mnS σ y)) :: _)
        refine g_iadd hΓ dX3_worst_41 ?_
        obtain ⟨x10, ex10⟩ : ∃ z9 : Int, z9 = x8 + (mnS σ y) := ⟨_, rfl⟩
        refine g_topi ex10.symm ?_
        refine g_istore hΓ dX3_worst_42 rfl (Nat.le_of_ble_eq_true rfl) (lv' := [some (.ref h), some (.int (iI x)), some (.int (iI y)), some (.int (iI w)), some (.int (iI x8)), some (.int (iI x10)), none, none, none, none, none]) rfl ?_
        refine g_iconst hΓ dX3_worst_44 ?_
        refine g_istore hΓ dX3_worst_45 rfl (Nat.le_of_ble_eq_true rfl) (lv' := [some (.ref h), some (.int (iI x)), some (.int (iI y)), some (.int (iI w)), some (.int (iI x8)), some (.int (iI x10)), some (.int (iI (-1))), none, none, none, none]) rfl ?_
        refine g_iconst hΓ dX3_worst_47 ?_
        refine g_istore hΓ dX3_worst_48 rfl (Nat.le_of_ble_eq_true rfl) (lv' := [some (.ref h), some (.int (iI x)), some (.int (iI y)), some (.int (iI w)), some (.int (iI x8)), some (.int (iI x10)), some (.int (iI (-1))), some (.int (iI 0)), none, none, none]) rfl ?_
        refine g_iconst hΓ dX3_worst_50 ?_
        refine g_istore hΓ dX3_worst_51 rfl (Nat.le_of_ble_eq_true rfl) (lv' := [some (.ref h), some (.int (iI x)), some (.int (iI y)), some (.int (iI w)), some (.int (iI x8)), some (.int (iI x10)), some (.int (iI (-1))), some (.int (iI 0)), some (.int (iI 0)), none, none]) rfl ?_
        have mx := mnS_r hr hx
        have my := mnS_r hr hy
        have hnx : x8 = mnS σ x := ex8
        have loop : ∀ (fu : Nat) (u : Int) (s : Int) (z : Int) (i : Int) (t : mS), (mnS σ x - i).toNat < fu → (0 ≤ i ∧ i ≤ mnS σ x) → (((s, z), u) = wrF σ x y i.toNat) → (∀ (k : Nat) (j : Int), k ∉ [22, 23, 24, 25, 26, 27, 28, 29] → t k j = σ k j) → gW Γ E (mM E h ad t) 0 0 53 [some (.ref h), some (.int (iI x)), some (.int (iI y)), some (.int (iI w)), some (.int (iI x8)), some (.int (iI u)), some (.int (iI s)), some (.int (iI z)), some (.int (iI i)), none, none] [] := by
          intro fu
          induction fu with
          | zero => intro u s z i t hn; exact absurd hn (Nat.not_lt_zero _)
          | succ fu ih_loop =>
            intro u s z i t hn hi hW tf
            have t0 : t 0 = σ 0 := funext fun j => tf 0 j (by decide)
            have t7 : t 7 = σ 7 := funext fun j => tf 7 j (by decide)
            have t8 : t 8 = σ 8 := funext fun j => tf 8 j (by decide)
            have tO := sp_partner_same t0 t7 t8
            have tM := mnS_same t0
            have hr1 : rowOK (t 0) := by rw [t0]; exact hr
            have hwr := wrF_r hr hx hy i.toNat (by omega)
            rw [← hW] at hwr
            simp only at hwr
            refine g_iload hΓ rfl dX3_worst_53 ?_
            refine g_iload hΓ rfl dX3_worst_55 ?_
            refine g_icmp_ge (tgt := 149) hΓ (by omega) (by omega) dX3_worst_57 (by decide) (fun c11 => ?_) (fun c11 => ?_)
            · refine g_iload_n hΓ rfl dX3_worst_149 ?_
              refine g_if_ne (tgt := 158) hΓ (by omega) dX3_worst_150 (by decide) (fun c12 => ?_) (fun c12 => ?_)
              · refine g_iload_n hΓ rfl dX3_worst_158 ?_
                refine g_iconst hΓ dX3_worst_159 ?_
                refine g_icmp_ne (tgt := 168) hΓ (by omega) (by omega) dX3_worst_160 (by decide) (fun c13 => ?_) (fun c13 => ?_)
                · refine g_iload hΓ rfl dX3_worst_168 ?_
                  exact m_iret hΓ dX3_worst_170 ⟨ri (by rw [sp_worst, if_pos ⟨hx, hy, by omega, by omega⟩, show (mnS σ x).toNat = i.toNat by omega, ← hW]; simp only; (repeat' split) <;> first | rfl | omega), trivial, tf⟩
                · refine g_iload hΓ rfl dX3_worst_163 ?_
                  refine g_goto (tgt := 170) hΓ dX3_worst_165 (by decide) ?_
                  exact m_iret hΓ dX3_worst_170 ⟨ri (by rw [sp_worst, if_pos ⟨hx, hy, by omega, by omega⟩, show (mnS σ x).toNat = i.toNat by omega, ← hW]; simp only; (repeat' split) <;> first | rfl | omega), trivial, tf⟩
              · refine g_iload hΓ rfl dX3_worst_153 ?_
                refine g_goto (tgt := 170) hΓ dX3_worst_155 (by decide) ?_
                exact m_iret hΓ dX3_worst_170 ⟨ri (by rw [sp_worst, if_pos ⟨hx, hy, by omega, by omega⟩, show (mnS σ x).toNat = i.toNat by omega, ← hW]; simp only; (repeat' split) <;> first | rfl | omega), trivial, tf⟩
            · have hpn : sp_partner σ x y i 0 = pnr σ x y i := by rw [sp_partner, if_pos ⟨hx, hy, by omega, by omega, by omega⟩, if_pos rfl]
              have hpr := pnr_r hr (x := x) hy i
              have hcr := cof_r hr hx hy (i := i) (by omega) (by omega)
              refine g_aload_n hΓ rfl dX3_worst_60 ?_
              refine g_iload_n hΓ rfl dX3_worst_61 ?_
              refine g_iload_n hΓ rfl dX3_worst_62 ?_
              refine g_iload hΓ rfl dX3_worst_63 ?_
              refine g_iconst hΓ dX3_worst_65 ?_
              refine m_callV (As := [.int (iI x), .int (iI y), .int (iI i), .int (iI 0)]) (rest := []) hok hΓ (m_partner hok t x y i 0 (by first | assumption | omega) (by first | assumption | omega) (by first | assumption | omega) (by first | assumption | omega) (by first | assumption | omega)) rfl q1781 q1774 q1775 q131 q1776 ndX3_partner rfl (by decide) (by decide) rfl rfl (Nat.le_of_ble_eq_true rfl) dX3_worst_66 rfl (fun v14 τ14 τ14h => ?_)
              obtain ⟨rfl, τ14h, τ14f⟩ := τ14h
              show gW Γ E (mM E h ad τ14) 0 0 _ _ (.int (iI (sp_partner t x y i 0)) :: _)
              refine g_topi (show (sp_partner t x y i 0 : Int) = (sp_partner σ x y i 0) by simp only [tO]) ?_
              have τ14p := pairL_same t0 t7 t8 (τ14h (by rw [isPn, isL, isL, tM, t0]; exact ⟨hx, hy, by omega, by omega, by omega⟩))
              have τ140 : τ14 0 = σ 0 := funext fun j => ((τ14f 0 j (by decide)).trans (tf 0 j (by decide)))
              obtain ⟨htb, ⟨h24, h25⟩, hcs, -, -⟩ := pairL_use hr τ140 hx hy τ14p
              obtain ⟨x15, ex15⟩ : ∃ z9 : Int, z9 = sp_partner σ x y i 0 := ⟨_, rfl⟩
              refine g_topi ex15.symm ?_
              refine g_istore hΓ dX3_worst_69 rfl (Nat.le_of_ble_eq_true rfl) (lv' := [some (.ref h), some (.int (iI x)), some (.int (iI y)), some (.int (iI w)), some (.int (iI x8)), some (.int (iI u)), some (.int (iI s)), some (.int (iI z)), some (.int (iI i)), some (.int (iI x15)), none]) rfl ?_
              refine g_iload hΓ rfl dX3_worst_71 ?_
              refine g_iconst hΓ dX3_worst_73 ?_
              refine g_icmp_ne (tgt := 88) hΓ (by omega) (by omega) dX3_worst_74 (by decide) (fun c16 => ?_) (fun c16 => ?_)
              · have hc9 := (hcs i x15 (by omega) (by omega) (by omega) (by omega)).1
                refine g_aload_n hΓ rfl dX3_worst_88 ?_
                refine g_iload hΓ rfl dX3_worst_89 ?_
                refine g_iload hΓ rfl dX3_worst_91 ?_
                refine g_aload_n hΓ rfl dX3_worst_93 ?_
                refine m_geta hok hΓ 0 (by decide) rfl rfl q1357 rfl dX3_worst_94 ?_
                refine g_sipush hΓ (by decide) dX3_worst_97 ?_
                refine m_ald hok hΓ 0 (by decide) rfl (n := 1048) rfl (by omega) (by decide) dX3_worst_100 ?_
                refine g_topi (((τ14f 0 1045 (by decide)).trans (tf 0 1045 (by decide)))) ?_
                refine m_callV (As := [.int (iI i), .int (iI x15), .int (iI (σ 0 1045))]) (rest := []) hok hΓ (m_costOf hok τ14 i x15 (σ 0 1045) (by first | assumption | omega) (by first | assumption | omega) (by first | assumption | omega) (by first | assumption | omega)) rfl q1769 q1771 qs100 q131 q1772 ndX3_costOf rfl (by decide) (by decide) rfl rfl (Nat.le_of_ble_eq_true rfl) dX3_worst_101 rfl (fun v17 τ17 τ17h => ?_)
                obtain ⟨rfl, τ17h⟩ := τ17h
                rw [τ17h]
                clear τ17h
                show gW Γ E (mM E h ad τ14) 0 0 _ _ (.int (iI (cs3 τ14 (σ 0 1045) i x15)) :: _)
                obtain ⟨x18, ex18⟩ : ∃ z9 : Int, z9 = cs3 τ14 (σ 0 1045) i x15 := ⟨_, rfl⟩
                refine g_topi ex18.symm ?_
                refine g_istore hΓ dX3_worst_104 rfl (Nat.le_of_ble_eq_true rfl) (lv' := [some (.ref h), some (.int (iI x)), some (.int (iI y)), some (.int (iI w)), some (.int (iI x8)), some (.int (iI u)), some (.int (iI s)), some (.int (iI z)), some (.int (iI i)), some (.int (iI x15)), some (.int (iI x18))]) rfl ?_
                have hco : x18 = cof σ x y i := by
                  rw [cof, ← hpn, ← ex15]
                  first | (rw [if_pos (by omega)]; omega) | (rw [if_neg (by omega)]; omega)
                refine g_iload hΓ rfl dX3_worst_106 ?_
                refine g_iload hΓ rfl dX3_worst_108 ?_
                refine g_iconst hΓ dX3_worst_110 ?_
                refine g_icmp_ne (tgt := 118) hΓ (by omega) (by omega) dX3_worst_111 (by decide) (fun c19 => ?_) (fun c19 => ?_)
                · refine g_iconst hΓ dX3_worst_118 ?_
                  refine g_isub hΓ dX3_worst_119 ?_
                  obtain ⟨x20, ex20⟩ : ∃ z9 : Int, z9 = u - 2 := ⟨_, rfl⟩
                  refine g_topi ex20.symm ?_
                  refine g_istore hΓ dX3_worst_120 rfl (Nat.le_of_ble_eq_true rfl) (lv' := [some (.ref h), some (.int (iI x)), some (.int (iI y)), some (.int (iI w)), some (.int (iI x8)), some (.int (iI x20)), some (.int (iI s)), some (.int (iI z)), some (.int (iI i)), some (.int (iI x15)), some (.int (iI x18))]) rfl ?_
                  refine g_iload hΓ rfl dX3_worst_122 ?_
                  refine g_iconst hΓ dX3_worst_124 ?_
                  refine g_icmp_eq (tgt := 135) hΓ (by omega) (by omega) dX3_worst_125 (by decide) (fun c21 => ?_) (fun c21 => ?_)
                  · refine g_iload hΓ rfl dX3_worst_135 ?_
                    refine g_istore hΓ dX3_worst_137 rfl (Nat.le_of_ble_eq_true rfl) (lv' := [some (.ref h), some (.int (iI x)), some (.int (iI y)), some (.int (iI w)), some (.int (iI x8)), some (.int (iI x20)), some (.int (iI i)), some (.int (iI z)), some (.int (iI i)), some (.int (iI x15)), some (.int (iI x18))]) rfl ?_
                    refine g_iload hΓ rfl dX3_worst_139 ?_
                    refine g_istore hΓ dX3_worst_141 rfl (Nat.le_of_ble_eq_true rfl) (lv' := [some (.ref h), some (.int (iI x)), some (.int (iI y)), some (.int (iI w)), some (.int (iI x8)), some (.int (iI x20)), some (.int (iI i)), some (.int (iI x18)), some (.int (iI i)), some (.int (iI x15)), some (.int (iI x18))]) rfl ?_
                    obtain ⟨x22, ex22⟩ : ∃ z9 : Int, z9 = i + 1 := ⟨_, rfl⟩
                    refine g_iinc hΓ dX3_worst_143 rfl rfl (lv' := [some (.ref h), some (.int (iI x)), some (.int (iI y)), some (.int (iI w)), some (.int (iI x8)), some (.int (iI x20)), some (.int (iI i)), some (.int (iI x18)), some (.int (iI x22)), some (.int (iI x15)), some (.int (iI x18))]) (by rw [ex22]; rfl) ?_
                    refine g_goto (tgt := 53) hΓ dX3_worst_146 (by decide) ?_
                    refine g_lvw (lv' := [some (.ref h), some (.int (iI x)), some (.int (iI y)), some (.int (iI w)), some (.int (iI x8)), some (.int (iI x20)), some (.int (iI i)), some (.int (iI x18)), some (.int (iI x22)), none, none]) ⟨rfl, ⟨rfl, ⟨rfl, ⟨rfl, ⟨rfl, ⟨rfl, ⟨rfl, ⟨rfl, ⟨rfl, trivial⟩⟩⟩⟩⟩⟩⟩⟩⟩ ?_
                    exact ih_loop x20 i x18 x22 τ14 (by omega) (by omega) (by rw [show x22.toNat = i.toNat + 1 by omega, wrF, show ((i.toNat : Nat) : Int) = i by omega, ← hW]; simp only; rw [if_pos (by omega), ← hpn, ← ex15, ← hco]; first | (rw [if_pos (by omega), ex20]; done) | (rw [if_neg (by omega), ex20])) (fun k' j' hk' => (τ14f k' j' hk').trans (tf k' j' hk'))
                  · refine g_iload hΓ rfl dX3_worst_128 ?_
                    refine g_iload hΓ rfl dX3_worst_130 ?_
                    refine g_icmp_le (tgt := 143) hΓ (by omega) (by omega) dX3_worst_132 (by decide) (fun c23 => ?_) (fun c23 => ?_)
                    · obtain ⟨x24, ex24⟩ : ∃ z9 : Int, z9 = i + 1 := ⟨_, rfl⟩
                      refine g_iinc hΓ dX3_worst_143 rfl rfl (lv' := [some (.ref h), some (.int (iI x)), some (.int (iI y)), some (.int (iI w)), some (.int (iI x8)), some (.int (iI x20)), some (.int (iI s)), some (.int (iI z)), some (.int (iI x24)), some (.int (iI x15)), some (.int (iI x18))]) (by rw [ex24]; rfl) ?_
                      refine g_goto (tgt := 53) hΓ dX3_worst_146 (by decide) ?_
                      refine g_lvw (lv' := [some (.ref h), some (.int (iI x)), some (.int (iI y)), some (.int (iI w)), some (.int (iI x8)), some (.int (iI x20)), some (.int (iI s)), some (.int (iI z)), some (.int (iI x24)), none, none]) ⟨rfl, ⟨rfl, ⟨rfl, ⟨rfl, ⟨rfl, ⟨rfl, ⟨rfl, ⟨rfl, ⟨rfl, trivial⟩⟩⟩⟩⟩⟩⟩⟩⟩ ?_
                      exact ih_loop x20 s z x24 τ14 (by omega) (by omega) (by rw [show x24.toNat = i.toNat + 1 by omega, wrF, show ((i.toNat : Nat) : Int) = i by omega, ← hW]; simp only; rw [if_neg (by omega), ← hpn, ← ex15]; first | (rw [if_pos (by omega), ex20]; done) | (rw [if_neg (by omega), ex20])) (fun k' j' hk' => (τ14f k' j' hk').trans (tf k' j' hk'))
                    · refine g_iload hΓ rfl dX3_worst_135 ?_
                      refine g_istore hΓ dX3_worst_137 rfl (Nat.le_of_ble_eq_true rfl) (lv' := [some (.ref h), some (.int (iI x)), some (.int (iI y)), some (.int (iI w)), some (.int (iI x8)), some (.int (iI x20)), some (.int (iI i)), some (.int (iI z)), some (.int (iI i)), some (.int (iI x15)), some (.int (iI x18))]) rfl ?_
                      refine g_iload hΓ rfl dX3_worst_139 ?_
                      refine g_istore hΓ dX3_worst_141 rfl (Nat.le_of_ble_eq_true rfl) (lv' := [some (.ref h), some (.int (iI x)), some (.int (iI y)), some (.int (iI w)), some (.int (iI x8)), some (.int (iI x20)), some (.int (iI i)), some (.int (iI x18)), some (.int (iI i)), some (.int (iI x15)), some (.int (iI x18))]) rfl ?_
                      obtain ⟨x25, ex25⟩ : ∃ z9 : Int, z9 = i + 1 := ⟨_, rfl⟩
                      refine g_iinc hΓ dX3_worst_143 rfl rfl (lv' := [some (.ref h), some (.int (iI x)), some (.int (iI y)), some (.int (iI w)), some (.int (iI x8)), some (.int (iI x20)), some (.int (iI i)), some (.int (iI x18)), some (.int (iI x25)), some (.int (iI x15)), some (.int (iI x18))]) (by rw [ex25]; rfl) ?_
                      refine g_goto (tgt := 53) hΓ dX3_worst_146 (by decide) ?_
                      refine g_lvw (lv' := [some (.ref h), some (.int (iI x)), some (.int (iI y)), some (.int (iI w)), some (.int (iI x8)), some (.int (iI x20)), some (.int (iI i)), some (.int (iI x18)), some (.int (iI x25)), none, none]) ⟨rfl, ⟨rfl, ⟨rfl, ⟨rfl, ⟨rfl, ⟨rfl, ⟨rfl, ⟨rfl, ⟨rfl, trivial⟩⟩⟩⟩⟩⟩⟩⟩⟩ ?_
                      exact ih_loop x20 i x18 x25 τ14 (by omega) (by omega) (by rw [show x25.toNat = i.toNat + 1 by omega, wrF, show ((i.toNat : Nat) : Int) = i by omega, ← hW]; simp only; rw [if_pos (by omega), ← hpn, ← ex15, ← hco]; first | (rw [if_pos (by omega), ex20]; done) | (rw [if_neg (by omega), ex20])) (fun k' j' hk' => (τ14f k' j' hk').trans (tf k' j' hk'))
                · refine g_iconst hΓ dX3_worst_114 ?_
                  refine g_goto (tgt := 119) hΓ dX3_worst_115 (by decide) ?_
                  refine g_isub hΓ dX3_worst_119 ?_
                  obtain ⟨x26, ex26⟩ : ∃ z9 : Int, z9 = u - 0 := ⟨_, rfl⟩
                  refine g_topi ex26.symm ?_
                  refine g_istore hΓ dX3_worst_120 rfl (Nat.le_of_ble_eq_true rfl) (lv' := [some (.ref h), some (.int (iI x)), some (.int (iI y)), some (.int (iI w)), some (.int (iI x8)), some (.int (iI x26)), some (.int (iI s)), some (.int (iI z)), some (.int (iI i)), some (.int (iI x15)), some (.int (iI x18))]) rfl ?_
                  refine g_iload hΓ rfl dX3_worst_122 ?_
                  refine g_iconst hΓ dX3_worst_124 ?_
                  refine g_icmp_eq (tgt := 135) hΓ (by omega) (by omega) dX3_worst_125 (by decide) (fun c27 => ?_) (fun c27 => ?_)
                  · refine g_iload hΓ rfl dX3_worst_135 ?_
                    refine g_istore hΓ dX3_worst_137 rfl (Nat.le_of_ble_eq_true rfl) (lv' := [some (.ref h), some (.int (iI x)), some (.int (iI y)), some (.int (iI w)), some (.int (iI x8)), some (.int (iI x26)), some (.int (iI i)), some (.int (iI z)), some (.int (iI i)), some (.int (iI x15)), some (.int (iI x18))]) rfl ?_
                    refine g_iload hΓ rfl dX3_worst_139 ?_
                    refine g_istore hΓ dX3_worst_141 rfl (Nat.le_of_ble_eq_true rfl) (lv' := [some (.ref h), some (.int (iI x)), some (.int (iI y)), some (.int (iI w)), some (.int (iI x8)), some (.int (iI x26)), some (.int (iI i)), some (.int (iI x18)), some (.int (iI i)), some (.int (iI x15)), some (.int (iI x18))]) rfl ?_
                    obtain ⟨x28, ex28⟩ : ∃ z9 : Int, z9 = i + 1 := ⟨_, rfl⟩
                    refine g_iinc hΓ dX3_worst_143 rfl rfl (lv' := [some (.ref h), some (.int (iI x)), some (.int (iI y)), some (.int (iI w)), some (.int (iI x8)), some (.int (iI x26)), some (.int (iI i)), some (.int (iI x18)), some (.int (iI x28)), some (.int (iI x15)), some (.int (iI x18))]) (by rw [ex28]; rfl) ?_
                    refine g_goto (tgt := 53) hΓ dX3_worst_146 (by decide) ?_
                    refine g_lvw (lv' := [some (.ref h), some (.int (iI x)), some (.int (iI y)), some (.int (iI w)), some (.int (iI x8)), some (.int (iI x26)), some (.int (iI i)), some (.int (iI x18)), some (.int (iI x28)), none, none]) ⟨rfl, ⟨rfl, ⟨rfl, ⟨rfl, ⟨rfl, ⟨rfl, ⟨rfl, ⟨rfl, ⟨rfl, trivial⟩⟩⟩⟩⟩⟩⟩⟩⟩ ?_
                    exact ih_loop x26 i x18 x28 τ14 (by omega) (by omega) (by rw [show x28.toNat = i.toNat + 1 by omega, wrF, show ((i.toNat : Nat) : Int) = i by omega, ← hW]; simp only; rw [if_pos (by omega), ← hpn, ← ex15, ← hco]; first | (rw [if_pos (by omega), ex26]; done) | (rw [if_neg (by omega), ex26])) (fun k' j' hk' => (τ14f k' j' hk').trans (tf k' j' hk'))
                  · refine g_iload hΓ rfl dX3_worst_128 ?_
                    refine g_iload hΓ rfl dX3_worst_130 ?_
                    refine g_icmp_le (tgt := 143) hΓ (by omega) (by omega) dX3_worst_132 (by decide) (fun c29 => ?_) (fun c29 => ?_)
                    · obtain ⟨x30, ex30⟩ : ∃ z9 : Int, z9 = i + 1 := ⟨_, rfl⟩
                      refine g_iinc hΓ dX3_worst_143 rfl rfl (lv' := [some (.ref h), some (.int (iI x)), some (.int (iI y)), some (.int (iI w)), some (.int (iI x8)), some (.int (iI x26)), some (.int (iI s)), some (.int (iI z)), some (.int (iI x30)), some (.int (iI x15)), some (.int (iI x18))]) (by rw [ex30]; rfl) ?_
                      refine g_goto (tgt := 53) hΓ dX3_worst_146 (by decide) ?_
                      refine g_lvw (lv' := [some (.ref h), some (.int (iI x)), some (.int (iI y)), some (.int (iI w)), some (.int (iI x8)), some (.int (iI x26)), some (.int (iI s)), some (.int (iI z)), some (.int (iI x30)), none, none]) ⟨rfl, ⟨rfl, ⟨rfl, ⟨rfl, ⟨rfl, ⟨rfl, ⟨rfl, ⟨rfl, ⟨rfl, trivial⟩⟩⟩⟩⟩⟩⟩⟩⟩ ?_
                      exact ih_loop x26 s z x30 τ14 (by omega) (by omega) (by rw [show x30.toNat = i.toNat + 1 by omega, wrF, show ((i.toNat : Nat) : Int) = i by omega, ← hW]; simp only; rw [if_neg (by omega), ← hpn, ← ex15]; first | (rw [if_pos (by omega), ex26]; done) | (rw [if_neg (by omega), ex26])) (fun k' j' hk' => (τ14f k' j' hk').trans (tf k' j' hk'))
                    · refine g_iload hΓ rfl dX3_worst_135 ?_
                      refine g_istore hΓ dX3_worst_137 rfl (Nat.le_of_ble_eq_true rfl) (lv' := [some (.ref h), some (.int (iI x)), some (.int (iI y)), some (.int (iI w)), some (.int (iI x8)), some (.int (iI x26)), some (.int (iI i)), some (.int (iI z)), some (.int (iI i)), some (.int (iI x15)), some (.int (iI x18))]) rfl ?_
                      refine g_iload hΓ rfl dX3_worst_139 ?_
                      refine g_istore hΓ dX3_worst_141 rfl (Nat.le_of_ble_eq_true rfl) (lv' := [some (.ref h), some (.int (iI x)), some (.int (iI y)), some (.int (iI w)), some (.int (iI x8)), some (.int (iI x26)), some (.int (iI i)), some (.int (iI x18)), some (.int (iI i)), some (.int (iI x15)), some (.int (iI x18))]) rfl ?_
                      obtain ⟨x31, ex31⟩ : ∃ z9 : Int, z9 = i + 1 := ⟨_, rfl⟩
                      refine g_iinc hΓ dX3_worst_143 rfl rfl (lv' := [some (.ref h), some (.int (iI x)), some (.int (iI y)), some (.int (iI w)), some (.int (iI x8)), some (.int (iI x26)), some (.int (iI i)), some (.int (iI x18)), some (.int (iI x31)), some (.int (iI x15)), some (.int (iI x18))]) (by rw [ex31]; rfl) ?_
                      refine g_goto (tgt := 53) hΓ dX3_worst_146 (by decide) ?_
                      refine g_lvw (lv' := [some (.ref h), some (.int (iI x)), some (.int (iI y)), some (.int (iI w)), some (.int (iI x8)), some (.int (iI x26)), some (.int (iI i)), some (.int (iI x18)), some (.int (iI x31)), none, none]) ⟨rfl, ⟨rfl, ⟨rfl, ⟨rfl, ⟨rfl, ⟨rfl, ⟨rfl, ⟨rfl, ⟨rfl, trivial⟩⟩⟩⟩⟩⟩⟩⟩⟩ ?_
                      exact ih_loop x26 i x18 x31 τ14 (by omega) (by omega) (by rw [show x31.toNat = i.toNat + 1 by omega, wrF, show ((i.toNat : Nat) : Int) = i by omega, ← hW]; simp only; rw [if_pos (by omega), ← hpn, ← ex15, ← hco]; first | (rw [if_pos (by omega), ex26]; done) | (rw [if_neg (by omega), ex26])) (fun k' j' hk' => (τ14f k' j' hk').trans (tf k' j' hk'))
              · refine g_aload_n hΓ rfl dX3_worst_77 ?_
                refine m_geta hok hΓ 0 (by decide) rfl rfl q1357 rfl dX3_worst_78 ?_
                refine g_sipush hΓ (by decide) dX3_worst_81 ?_
                refine m_ald hok hΓ 0 (by decide) rfl (n := 1048) rfl (by omega) (by decide) dX3_worst_84 ?_
                refine g_topi (((τ14f 0 1044 (by decide)).trans (tf 0 1044 (by decide)))) ?_
                refine g_goto (tgt := 104) hΓ dX3_worst_85 (by decide) ?_
                obtain ⟨x32, ex32⟩ : ∃ z9 : Int, z9 = σ 0 1044 := ⟨_, rfl⟩
                refine g_topi ex32.symm ?_
                refine g_istore hΓ dX3_worst_104 rfl (Nat.le_of_ble_eq_true rfl) (lv' := [some (.ref h), some (.int (iI x)), some (.int (iI y)), some (.int (iI w)), some (.int (iI x8)), some (.int (iI u)), some (.int (iI s)), some (.int (iI z)), some (.int (iI i)), some (.int (iI x15)), some (.int (iI x32))]) rfl ?_
                have hco : x32 = cof σ x y i := by
                  rw [cof, ← hpn, ← ex15]
                  first | (rw [if_pos (by omega)]; omega) | (rw [if_neg (by omega)]; omega)
                refine g_iload hΓ rfl dX3_worst_106 ?_
                refine g_iload hΓ rfl dX3_worst_108 ?_
                refine g_iconst hΓ dX3_worst_110 ?_
                refine g_icmp_ne (tgt := 118) hΓ (by omega) (by omega) dX3_worst_111 (by decide) (fun c33 => ?_) (fun c33 => ?_)
                · refine g_iconst hΓ dX3_worst_118 ?_
                  refine g_isub hΓ dX3_worst_119 ?_
                  obtain ⟨x34, ex34⟩ : ∃ z9 : Int, z9 = u - 2 := ⟨_, rfl⟩
                  refine g_topi ex34.symm ?_
                  refine g_istore hΓ dX3_worst_120 rfl (Nat.le_of_ble_eq_true rfl) (lv' := [some (.ref h), some (.int (iI x)), some (.int (iI y)), some (.int (iI w)), some (.int (iI x8)), some (.int (iI x34)), some (.int (iI s)), some (.int (iI z)), some (.int (iI i)), some (.int (iI x15)), some (.int (iI x32))]) rfl ?_
                  refine g_iload hΓ rfl dX3_worst_122 ?_
                  refine g_iconst hΓ dX3_worst_124 ?_
                  refine g_icmp_eq (tgt := 135) hΓ (by omega) (by omega) dX3_worst_125 (by decide) (fun c35 => ?_) (fun c35 => ?_)
                  · refine g_iload hΓ rfl dX3_worst_135 ?_
                    refine g_istore hΓ dX3_worst_137 rfl (Nat.le_of_ble_eq_true rfl) (lv' := [some (.ref h), some (.int (iI x)), some (.int (iI y)), some (.int (iI w)), some (.int (iI x8)), some (.int (iI x34)), some (.int (iI i)), some (.int (iI z)), some (.int (iI i)), some (.int (iI x15)), some (.int (iI x32))]) rfl ?_
                    refine g_iload hΓ rfl dX3_worst_139 ?_
                    refine g_istore hΓ dX3_worst_141 rfl (Nat.le_of_ble_eq_true rfl) (lv' := [some (.ref h), some (.int (iI x)), some (.int (iI y)), some (.int (iI w)), some (.int (iI x8)), some (.int (iI x34)), some (.int (iI i)), some (.int (iI x32)), some (.int (iI i)), some (.int (iI x15)), some (.int (iI x32))]) rfl ?_
                    obtain ⟨x36, ex36⟩ : ∃ z9 : Int, z9 = i + 1 := ⟨_, rfl⟩
                    refine g_iinc hΓ dX3_worst_143 rfl rfl (lv' := [some (.ref h), some (.int (iI x)), some (.int (iI y)), some (.int (iI w)), some (.int (iI x8)), some (.int (iI x34)), some (.int (iI i)), some (.int (iI x32)), some (.int (iI x36)), some (.int (iI x15)), some (.int (iI x32))]) (by rw [ex36]; rfl) ?_
                    refine g_goto (tgt := 53) hΓ dX3_worst_146 (by decide) ?_
                    refine g_lvw (lv' := [some (.ref h), some (.int (iI x)), some (.int (iI y)), some (.int (iI w)), some (.int (iI x8)), some (.int (iI x34)), some (.int (iI i)), some (.int (iI x32)), some (.int (iI x36)), none, none]) ⟨rfl, ⟨rfl, ⟨rfl, ⟨rfl, ⟨rfl, ⟨rfl, ⟨rfl, ⟨rfl, ⟨rfl, trivial⟩⟩⟩⟩⟩⟩⟩⟩⟩ ?_
                    exact ih_loop x34 i x32 x36 τ14 (by omega) (by omega) (by rw [show x36.toNat = i.toNat + 1 by omega, wrF, show ((i.toNat : Nat) : Int) = i by omega, ← hW]; simp only; rw [if_pos (by omega), ← hpn, ← ex15, ← hco]; first | (rw [if_pos (by omega), ex34]; done) | (rw [if_neg (by omega), ex34])) (fun k' j' hk' => (τ14f k' j' hk').trans (tf k' j' hk'))
                  · refine g_iload hΓ rfl dX3_worst_128 ?_
                    refine g_iload hΓ rfl dX3_worst_130 ?_
                    refine g_icmp_le (tgt := 143) hΓ (by omega) (by omega) dX3_worst_132 (by decide) (fun c37 => ?_) (fun c37 => ?_)
                    · obtain ⟨x38, ex38⟩ : ∃ z9 : Int, z9 = i + 1 := ⟨_, rfl⟩
                      refine g_iinc hΓ dX3_worst_143 rfl rfl (lv' := [some (.ref h), some (.int (iI x)), some (.int (iI y)), some (.int (iI w)), some (.int (iI x8)), some (.int (iI x34)), some (.int (iI s)), some (.int (iI z)), some (.int (iI x38)), some (.int (iI x15)), some (.int (iI x32))]) (by rw [ex38]; rfl) ?_
                      refine g_goto (tgt := 53) hΓ dX3_worst_146 (by decide) ?_
                      refine g_lvw (lv' := [some (.ref h), some (.int (iI x)), some (.int (iI y)), some (.int (iI w)), some (.int (iI x8)), some (.int (iI x34)), some (.int (iI s)), some (.int (iI z)), some (.int (iI x38)), none, none]) ⟨rfl, ⟨rfl, ⟨rfl, ⟨rfl, ⟨rfl, ⟨rfl, ⟨rfl, ⟨rfl, ⟨rfl, trivial⟩⟩⟩⟩⟩⟩⟩⟩⟩ ?_
                      exact ih_loop x34 s z x38 τ14 (by omega) (by omega) (by rw [show x38.toNat = i.toNat + 1 by omega, wrF, show ((i.toNat : Nat) : Int) = i by omega, ← hW]; simp only; rw [if_neg (by omega), ← hpn, ← ex15]; first | (rw [if_pos (by omega), ex34]; done) | (rw [if_neg (by omega), ex34])) (fun k' j' hk' => (τ14f k' j' hk').trans (tf k' j' hk'))
                    · refine g_iload hΓ rfl dX3_worst_135 ?_
                      refine g_istore hΓ dX3_worst_137 rfl (Nat.le_of_ble_eq_true rfl) (lv' := [some (.ref h), some (.int (iI x)), some (.int (iI y)), some (.int (iI w)), some (.int (iI x8)), some (.int (iI x34)), some (.int (iI i)), some (.int (iI z)), some (.int (iI i)), some (.int (iI x15)), some (.int (iI x32))]) rfl ?_
                      refine g_iload hΓ rfl dX3_worst_139 ?_
                      refine g_istore hΓ dX3_worst_141 rfl (Nat.le_of_ble_eq_true rfl) (lv' := [some (.ref h), some (.int (iI x)), some (.int (iI y)), some (.int (iI w)), some (.int (iI x8)), some (.int (iI x34)), some (.int (iI i)), some (.int (iI x32)), some (.int (iI i)), some (.int (iI x15)), some (.int (iI x32))]) rfl ?_
                      obtain ⟨x39, ex39⟩ : ∃ z9 : Int, z9 = i + 1 := ⟨_, rfl⟩
                      refine g_iinc hΓ dX3_worst_143 rfl rfl (lv' := [some (.ref h), some (.int (iI x)), some (.int (iI y)), some (.int (iI w)), some (.int (iI x8)), some (.int (iI x34)), some (.int (iI i)), some (.int (iI x32)), some (.int (iI x39)), some (.int (iI x15)), some (.int (iI x32))]) (by rw [ex39]; rfl) ?_
                      refine g_goto (tgt := 53) hΓ dX3_worst_146 (by decide) ?_
                      refine g_lvw (lv' := [some (.ref h), some (.int (iI x)), some (.int (iI y)), some (.int (iI w)), some (.int (iI x8)), some (.int (iI x34)), some (.int (iI i)), some (.int (iI x32)), some (.int (iI x39)), none, none]) ⟨rfl, ⟨rfl, ⟨rfl, ⟨rfl, ⟨rfl, ⟨rfl, ⟨rfl, ⟨rfl, ⟨rfl, trivial⟩⟩⟩⟩⟩⟩⟩⟩⟩ ?_
                      exact ih_loop x34 i x32 x39 τ14 (by omega) (by omega) (by rw [show x39.toNat = i.toNat + 1 by omega, wrF, show ((i.toNat : Nat) : Int) = i by omega, ← hW]; simp only; rw [if_pos (by omega), ← hpn, ← ex15, ← hco]; first | (rw [if_pos (by omega), ex34]; done) | (rw [if_neg (by omega), ex34])) (fun k' j' hk' => (τ14f k' j' hk').trans (tf k' j' hk'))
                · refine g_iconst hΓ dX3_worst_114 ?_
                  refine g_goto (tgt := 119) hΓ dX3_worst_115 (by decide) ?_
                  refine g_isub hΓ dX3_worst_119 ?_
                  obtain ⟨x40, ex40⟩ : ∃ z9 : Int, z9 = u - 0 := ⟨_, rfl⟩
                  refine g_topi ex40.symm ?_
                  refine g_istore hΓ dX3_worst_120 rfl (Nat.le_of_ble_eq_true rfl) (lv' := [some (.ref h), some (.int (iI x)), some (.int (iI y)), some (.int (iI w)), some (.int (iI x8)), some (.int (iI x40)), some (.int (iI s)), some (.int (iI z)), some (.int (iI i)), some (.int (iI x15)), some (.int (iI x32))]) rfl ?_
                  refine g_iload hΓ rfl dX3_worst_122 ?_
                  refine g_iconst hΓ dX3_worst_124 ?_
                  refine g_icmp_eq (tgt := 135) hΓ (by omega) (by omega) dX3_worst_125 (by decide) (fun c41 => ?_) (fun c41 => ?_)
                  · refine g_iload hΓ rfl dX3_worst_135 ?_
                    refine g_istore hΓ dX3_worst_137 rfl (Nat.le_of_ble_eq_true rfl) (lv' := [some (.ref h), some (.int (iI x)), some (.int (iI y)), some (.int (iI w)), some (.int (iI x8)), some (.int (iI x40)), some (.int (iI i)), some (.int (iI z)), some (.int (iI i)), some (.int (iI x15)), some (.int (iI x32))]) rfl ?_
                    refine g_iload hΓ rfl dX3_worst_139 ?_
                    refine g_istore hΓ dX3_worst_141 rfl (Nat.le_of_ble_eq_true rfl) (lv' := [some (.ref h), some (.int (iI x)), some (.int (iI y)), some (.int (iI w)), some (.int (iI x8)), some (.int (iI x40)), some (.int (iI i)), some (.int (iI x32)), some (.int (iI i)), some (.int (iI x15)), some (.int (iI x32))]) rfl ?_
                    obtain ⟨x42, ex42⟩ : ∃ z9 : Int, z9 = i + 1 := ⟨_, rfl⟩
                    refine g_iinc hΓ dX3_worst_143 rfl rfl (lv' := [some (.ref h), some (.int (iI x)), some (.int (iI y)), some (.int (iI w)), some (.int (iI x8)), some (.int (iI x40)), some (.int (iI i)), some (.int (iI x32)), some (.int (iI x42)), some (.int (iI x15)), some (.int (iI x32))]) (by rw [ex42]; rfl) ?_
                    refine g_goto (tgt := 53) hΓ dX3_worst_146 (by decide) ?_
                    refine g_lvw (lv' := [some (.ref h), some (.int (iI x)), some (.int (iI y)), some (.int (iI w)), some (.int (iI x8)), some (.int (iI x40)), some (.int (iI i)), some (.int (iI x32)), some (.int (iI x42)), none, none]) ⟨rfl, ⟨rfl, ⟨rfl, ⟨rfl, ⟨rfl, ⟨rfl, ⟨rfl, ⟨rfl, ⟨rfl, trivial⟩⟩⟩⟩⟩⟩⟩⟩⟩ ?_
                    exact ih_loop x40 i x32 x42 τ14 (by omega) (by omega) (by rw [show x42.toNat = i.toNat + 1 by omega, wrF, show ((i.toNat : Nat) : Int) = i by omega, ← hW]; simp only; rw [if_pos (by omega), ← hpn, ← ex15, ← hco]; first | (rw [if_pos (by omega), ex40]; done) | (rw [if_neg (by omega), ex40])) (fun k' j' hk' => (τ14f k' j' hk').trans (tf k' j' hk'))
                  · refine g_iload hΓ rfl dX3_worst_128 ?_
                    refine g_iload hΓ rfl dX3_worst_130 ?_
                    refine g_icmp_le (tgt := 143) hΓ (by omega) (by omega) dX3_worst_132 (by decide) (fun c43 => ?_) (fun c43 => ?_)
                    · obtain ⟨x44, ex44⟩ : ∃ z9 : Int, z9 = i + 1 := ⟨_, rfl⟩
                      refine g_iinc hΓ dX3_worst_143 rfl rfl (lv' := [some (.ref h), some (.int (iI x)), some (.int (iI y)), some (.int (iI w)), some (.int (iI x8)), some (.int (iI x40)), some (.int (iI s)), some (.int (iI z)), some (.int (iI x44)), some (.int (iI x15)), some (.int (iI x32))]) (by rw [ex44]; rfl) ?_
                      refine g_goto (tgt := 53) hΓ dX3_worst_146 (by decide) ?_
                      refine g_lvw (lv' := [some (.ref h), some (.int (iI x)), some (.int (iI y)), some (.int (iI w)), some (.int (iI x8)), some (.int (iI x40)), some (.int (iI s)), some (.int (iI z)), some (.int (iI x44)), none, none]) ⟨rfl, ⟨rfl, ⟨rfl, ⟨rfl, ⟨rfl, ⟨rfl, ⟨rfl, ⟨rfl, ⟨rfl, trivial⟩⟩⟩⟩⟩⟩⟩⟩⟩ ?_
                      exact ih_loop x40 s z x44 τ14 (by omega) (by omega) (by rw [show x44.toNat = i.toNat + 1 by omega, wrF, show ((i.toNat : Nat) : Int) = i by omega, ← hW]; simp only; rw [if_neg (by omega), ← hpn, ← ex15]; first | (rw [if_pos (by omega), ex40]; done) | (rw [if_neg (by omega), ex40])) (fun k' j' hk' => (τ14f k' j' hk').trans (tf k' j' hk'))
                    · refine g_iload hΓ rfl dX3_worst_135 ?_
                      refine g_istore hΓ dX3_worst_137 rfl (Nat.le_of_ble_eq_true rfl) (lv' := [some (.ref h), some (.int (iI x)), some (.int (iI y)), some (.int (iI w)), some (.int (iI x8)), some (.int (iI x40)), some (.int (iI i)), some (.int (iI z)), some (.int (iI i)), some (.int (iI x15)), some (.int (iI x32))]) rfl ?_
                      refine g_iload hΓ rfl dX3_worst_139 ?_
                      refine g_istore hΓ dX3_worst_141 rfl (Nat.le_of_ble_eq_true rfl) (lv' := [some (.ref h), some (.int (iI x)), some (.int (iI y)), some (.int (iI w)), some (.int (iI x8)), some (.int (iI x40)), some (.int (iI i)), some (.int (iI x32)), some (.int (iI i)), some (.int (iI x15)), some (.int (iI x32))]) rfl ?_
                      obtain ⟨x45, ex45⟩ : ∃ z9 : Int, z9 = i + 1 := ⟨_, rfl⟩
                      refine g_iinc hΓ dX3_worst_143 rfl rfl (lv' := [some (.ref h), some (.int (iI x)), some (.int (iI y)), some (.int (iI w)), some (.int (iI x8)), some (.int (iI x40)), some (.int (iI i)), some (.int (iI x32)), some (.int (iI x45)), some (.int (iI x15)), some (.int (iI x32))]) (by rw [ex45]; rfl) ?_
                      refine g_goto (tgt := 53) hΓ dX3_worst_146 (by decide) ?_
                      refine g_lvw (lv' := [some (.ref h), some (.int (iI x)), some (.int (iI y)), some (.int (iI w)), some (.int (iI x8)), some (.int (iI x40)), some (.int (iI i)), some (.int (iI x32)), some (.int (iI x45)), none, none]) ⟨rfl, ⟨rfl, ⟨rfl, ⟨rfl, ⟨rfl, ⟨rfl, ⟨rfl, ⟨rfl, ⟨rfl, trivial⟩⟩⟩⟩⟩⟩⟩⟩⟩ ?_
                      exact ih_loop x40 i x32 x45 τ14 (by omega) (by omega) (by rw [show x45.toNat = i.toNat + 1 by omega, wrF, show ((i.toNat : Nat) : Int) = i by omega, ← hW]; simp only; rw [if_pos (by omega), ← hpn, ← ex15, ← hco]; first | (rw [if_pos (by omega), ex40]; done) | (rw [if_neg (by omega), ex40])) (fun k' j' hk' => (τ14f k' j' hk').trans (tf k' j' hk'))
        exact loop 9 x10 (-1) 0 0 σ (by omega) (by omega) (by rw [ex10, ex8]; rfl) (fun k j _ => rfl)
      · refine g_iconst hΓ dX3_worst_25 ?_
        exact m_iret hΓ dX3_worst_26 ⟨ri (by rw [sp_worst, if_neg (by omega)]), trivial, (fun k j hk => rfl)⟩
