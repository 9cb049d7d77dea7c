set_option maxRecDepth 100000
set_option maxHeartbeats 4000000 in
theorem m_laysPlain0 {l : Launch} {E : gE} {h : Nat} {ad : Nat → Nat} (hok : mOK E h ad) (σ : mS)    : mC l E h ad yX3_laysPlain cX3_laysPlain 2 none 0 [.ref (ad 0)] σ (fun rv σ' => rv = none ∧ (σ' 0 = plR (σ 0)) ∧ ∀ (k : Nat) (j : Int), k ∉ [0] → σ' k j = σ k j) := by
  refine mC.of (by decide) [some (.ref (ad 0)), none] (Nat.le_of_ble_eq_true rfl) rfl rfl (fun Γ hΓ => ?_)
  refine g_iconst hΓ dX3_laysPlain_0 ?_
  refine g_istore_n hΓ dX3_laysPlain_1 rfl (Nat.le_of_ble_eq_true rfl) (lv' := [some (.ref (ad 0)), some (.int (iI 0))]) rfl ?_
  have loop : ∀ (fu : Nat) (i : Int) (t : mS), (1048 - i).toNat < fu → (0 ≤ i ∧ i ≤ 1048) → (∀ j, t 0 j = if 0 ≤ j ∧ j < i then 0 else σ 0 j) → (∀ (k : Nat) (j : Int), k ∉ [0] → t k j = σ k j) → gW Γ E (mM E h ad t) 0 0 2 [some (.ref (ad 0)), some (.int (iI i))] [] := by
    intro fu
    induction fu with
    | zero => intro i t hn; exact absurd hn (Nat.not_lt_zero _)
    | succ fu ih_loop =>
      intro i t hn hi hA tf
      refine g_iload_n hΓ rfl dX3_laysPlain_2 ?_
      refine g_sipush hΓ (by decide) dX3_laysPlain_3 ?_
      refine g_icmp_ge (tgt := 19) hΓ (by omega) (by omega) dX3_laysPlain_6 (by decide) (fun c1 => ?_) (fun c1 => ?_)
      · refine g_aload_n hΓ rfl dX3_laysPlain_19 ?_
        refine g_sipush hΓ (by decide) dX3_laysPlain_20 ?_
        refine g_bipush hΓ (by decide) dX3_laysPlain_23 ?_
        refine m_ast hok hΓ 0 (by decide) rfl (n := 1048) rfl (by omega) (by decide) dX3_laysPlain_25 (fun τ2 τ2e => ?_)
        have τ2r : τ2 0 1042 = 8 := by rw [τ2e]; exact us_s _ _ _ _
        have τ2f : ∀ (k9 : Nat) (j9 : Int), (k9 ≠ 0 ∨ j9 ≠ 1042) → τ2 k9 j9 = t k9 j9 := fun k9 j9 hh => by rw [τ2e]; exact us_n hh
        refine g_aload_n hΓ rfl dX3_laysPlain_26 ?_
        refine g_sipush hΓ (by decide) dX3_laysPlain_27 ?_
        refine g_bipush hΓ (by decide) dX3_laysPlain_30 ?_
        refine m_ast hok hΓ 0 (by decide) rfl (n := 1048) rfl (by omega) (by decide) dX3_laysPlain_32 (fun τ3 τ3e => ?_)
        have τ3r : τ3 0 1043 = 16 := by rw [τ3e]; exact us_s _ _ _ _
        have τ3f : ∀ (k9 : Nat) (j9 : Int), (k9 ≠ 0 ∨ j9 ≠ 1043) → τ3 k9 j9 = τ2 k9 j9 := fun k9 j9 hh => by rw [τ3e]; exact us_n hh
        refine g_aload_n hΓ rfl dX3_laysPlain_33 ?_
        refine g_sipush hΓ (by decide) dX3_laysPlain_34 ?_
        refine g_bipush hΓ (by decide) dX3_laysPlain_37 ?_
        refine m_ast hok hΓ 0 (by decide) rfl (n := 1048) rfl (by omega) (by decide) dX3_laysPlain_39 (fun τ4 τ4e => ?_)
        have τ4r : τ4 0 1044 = 20 := by rw [τ4e]; exact us_s _ _ _ _
        have τ4f : ∀ (k9 : Nat) (j9 : Int), (k9 ≠ 0 ∨ j9 ≠ 1044) → τ4 k9 j9 = τ3 k9 j9 := fun k9 j9 hh => by rw [τ4e]; exact us_n hh
        refine g_aload_n hΓ rfl dX3_laysPlain_40 ?_
        refine g_sipush hΓ (by decide) dX3_laysPlain_41 ?_
        refine g_bipush hΓ (by decide) dX3_laysPlain_44 ?_
        refine m_ast hok hΓ 0 (by decide) rfl (n := 1048) rfl (by omega) (by decide) dX3_laysPlain_46 (fun τ5 τ5e => ?_)
        have τ5r : τ5 0 1045 = 6 := by rw [τ5e]; exact us_s _ _ _ _
        have τ5f : ∀ (k9 : Nat) (j9 : Int), (k9 ≠ 0 ∨ j9 ≠ 1045) → τ5 k9 j9 = τ4 k9 j9 := fun k9 j9 hh => by rw [τ5e]; exact us_n hh
        refine g_aload_n hΓ rfl dX3_laysPlain_47 ?_
        refine g_sipush hΓ (by decide) dX3_laysPlain_48 ?_
        refine g_iconst hΓ dX3_laysPlain_51 ?_
        refine m_ast hok hΓ 0 (by decide) rfl (n := 1048) rfl (by omega) (by decide) dX3_laysPlain_52 (fun τ6 τ6e => ?_)
        have τ6r : τ6 0 1046 = 4 := by rw [τ6e]; exact us_s _ _ _ _
        have τ6f : ∀ (k9 : Nat) (j9 : Int), (k9 ≠ 0 ∨ j9 ≠ 1046) → τ6 k9 j9 = τ5 k9 j9 := fun k9 j9 hh => by rw [τ6e]; exact us_n hh
        exact m_vret hΓ dX3_laysPlain_53 ⟨rfl, (funext fun j => by
            by_cases y4 : j = 1046
            · rw [y4, τ6r]; rfl
            by_cases y3 : j = 1045
            · rw [y3, τ6f 0 _ (Or.inr (by omega)), τ5r]; rfl
            by_cases y2 : j = 1044
            · rw [y2, τ6f 0 _ (Or.inr (by omega)), τ5f 0 _ (Or.inr (by omega)), τ4r]; rfl
            by_cases y1 : j = 1043
            · rw [y1, τ6f 0 _ (Or.inr (by omega)), τ5f 0 _ (Or.inr (by omega)), τ4f 0 _ (Or.inr (by omega)), τ3r]; rfl
            by_cases y0 : j = 1042
            · rw [y0, τ6f 0 _ (Or.inr (by omega)), τ5f 0 _ (Or.inr (by omega)), τ4f 0 _ (Or.inr (by omega)), τ3f 0 _ (Or.inr (by omega)), τ2r]; rfl
            rw [τ6f 0 j (Or.inr y4), τ5f 0 j (Or.inr y3), τ4f 0 j (Or.inr y2), τ3f 0 j (Or.inr y1), τ2f 0 j (Or.inr y0), hA j, plR, if_neg y0, if_neg y1, if_neg y2, if_neg y3, if_neg y4, show i = 1048 by omega]), (fun k j hk => ((((((τ6f k j (Or.inl (fun e => hk (by rw [e]; decide)))).trans (τ5f k j (Or.inl (fun e => hk (by rw [e]; decide))))).trans (τ4f k j (Or.inl (fun e => hk (by rw [e]; decide))))).trans (τ3f k j (Or.inl (fun e => hk (by rw [e]; decide))))).trans (τ2f k j (Or.inl (fun e => hk (by rw [e]; decide))))).trans (tf k j (fun e => hk ((show ∀ x ∈ [0], x ∈ [0] by decide) k e)))))⟩
      · refine g_aload_n hΓ rfl dX3_laysPlain_9 ?_
        refine g_iload_n hΓ rfl dX3_laysPlain_10 ?_
        refine g_iconst hΓ dX3_laysPlain_11 ?_
        refine m_ast hok hΓ 0 (by decide) rfl (n := 1048) rfl (by omega) (by decide) dX3_laysPlain_12 (fun τ7 τ7e => ?_)
        have τ7r : τ7 0 i = 0 := by rw [τ7e]; exact us_s _ _ _ _
        have τ7f : ∀ (k9 : Nat) (j9 : Int), (k9 ≠ 0 ∨ j9 ≠ i) → τ7 k9 j9 = t k9 j9 := fun k9 j9 hh => by rw [τ7e]; exact us_n hh
        obtain ⟨x8, ex8⟩ : ∃ z9 : Int, z9 = i + 1 := ⟨_, rfl⟩
        refine g_iinc hΓ dX3_laysPlain_13 rfl rfl (lv' := [some (.ref (ad 0)), some (.int (iI x8))]) (by rw [ex8]; rfl) ?_
        refine g_goto (tgt := 2) hΓ dX3_laysPlain_16 (by decide) ?_
        exact ih_loop x8 τ7 (by omega) (by omega) (fun j => by
            by_cases z : j = i
            · rw [z, τ7r, if_pos (by omega)]
            · rw [τ7f 0 j (Or.inr z), hA j]
              by_cases y : 0 ≤ j ∧ j < i
              · rw [if_pos y, if_pos (by omega)]
              · rw [if_neg y, if_neg (show ¬ (0 ≤ j ∧ j < x8) by omega)]) (fun k j hk => (τ7f k j (Or.inl (fun e => hk (by rw [e]; decide)))).trans (tf k j hk))
  exact loop 1049 0 σ (by omega) (by omega) (fun j => by rw [if_neg (by omega)]) (fun k j _ => rfl)
set_option maxHeartbeats 4000000 in
theorem m_laysPlain1 {l : Launch} {E : gE} {h : Nat} {ad : Nat → Nat} (hok : mOK E h ad) (σ : mS)    : mC l E h ad yX3_laysPlain cX3_laysPlain 2 none 0 [.ref (ad 1)] σ (fun rv σ' => rv = none ∧ (σ' 1 = plR (σ 1)) ∧ ∀ (k : Nat) (j : Int), k ∉ [1] → σ' k j = σ k j) := by
  refine mC.of (by decide) [some (.ref (ad 1)), none] (Nat.le_of_ble_eq_true rfl) rfl rfl (fun Γ hΓ => ?_)
  refine g_iconst hΓ dX3_laysPlain_0 ?_
  refine g_istore_n hΓ dX3_laysPlain_1 rfl (Nat.le_of_ble_eq_true rfl) (lv' := [some (.ref (ad 1)), some (.int (iI 0))]) rfl ?_
  have loop : ∀ (fu : Nat) (i : Int) (t : mS), (1048 - i).toNat < fu → (0 ≤ i ∧ i ≤ 1048) → (∀ j, t 1 j = if 0 ≤ j ∧ j < i then 0 else σ 1 j) → (∀ (k : Nat) (j : Int), k ∉ [1] → t k j = σ k j) → gW Γ E (mM E h ad t) 0 0 2 [some (.ref (ad 1)), some (.int (iI i))] [] := by
    intro fu
    induction fu with
    | zero => intro i t hn; exact absurd hn (Nat.not_lt_zero _)
    | succ fu ih_loop =>
      intro i t hn hi hA tf
      refine g_iload_n hΓ rfl dX3_laysPlain_2 ?_
      refine g_sipush hΓ (by decide) dX3_laysPlain_3 ?_
      refine g_icmp_ge (tgt := 19) hΓ (by omega) (by omega) dX3_laysPlain_6 (by decide) (fun c1 => ?_) (fun c1 => ?_)
      · refine g_aload_n hΓ rfl dX3_laysPlain_19 ?_
        refine g_sipush hΓ (by decide) dX3_laysPlain_20 ?_
        refine g_bipush hΓ (by decide) dX3_laysPlain_23 ?_
        refine m_ast hok hΓ 1 (by decide) rfl (n := 1048) rfl (by omega) (by decide) dX3_laysPlain_25 (fun τ2 τ2e => ?_)
        have τ2r : τ2 1 1042 = 8 := by rw [τ2e]; exact us_s _ _ _ _
        have τ2f : ∀ (k9 : Nat) (j9 : Int), (k9 ≠ 1 ∨ j9 ≠ 1042) → τ2 k9 j9 = t k9 j9 := fun k9 j9 hh => by rw [τ2e]; exact us_n hh
        refine g_aload_n hΓ rfl dX3_laysPlain_26 ?_
        refine g_sipush hΓ (by decide) dX3_laysPlain_27 ?_
        refine g_bipush hΓ (by decide) dX3_laysPlain_30 ?_
        refine m_ast hok hΓ 1 (by decide) rfl (n := 1048) rfl (by omega) (by decide) dX3_laysPlain_32 (fun τ3 τ3e => ?_)
        have τ3r : τ3 1 1043 = 16 := by rw [τ3e]; exact us_s _ _ _ _
        have τ3f : ∀ (k9 : Nat) (j9 : Int), (k9 ≠ 1 ∨ j9 ≠ 1043) → τ3 k9 j9 = τ2 k9 j9 := fun k9 j9 hh => by rw [τ3e]; exact us_n hh
        refine g_aload_n hΓ rfl dX3_laysPlain_33 ?_
        refine g_sipush hΓ (by decide) dX3_laysPlain_34 ?_
        refine g_bipush hΓ (by decide) dX3_laysPlain_37 ?_
        refine m_ast hok hΓ 1 (by decide) rfl (n := 1048) rfl (by omega) (by decide) dX3_laysPlain_39 (fun τ4 τ4e => ?_)
        have τ4r : τ4 1 1044 = 20 := by rw [τ4e]; exact us_s _ _ _ _
        have τ4f : ∀ (k9 : Nat) (j9 : Int), (k9 ≠ 1 ∨ j9 ≠ 1044) → τ4 k9 j9 = τ3 k9 j9 := fun k9 j9 hh => by rw [τ4e]; exact us_n hh
        refine g_aload_n hΓ rfl dX3_laysPlain_40 ?_
        refine g_sipush hΓ (by decide) dX3_laysPlain_41 ?_
        refine g_bipush hΓ (by decide) dX3_laysPlain_44 ?_
        refine m_ast hok hΓ 1 (by decide) rfl (n := 1048) rfl (by omega) (by decide) dX3_laysPlain_46 (fun τ5 τ5e => ?_)
        have τ5r : τ5 1 1045 = 6 := by rw [τ5e]; exact us_s _ _ _ _
        have τ5f : ∀ (k9 : Nat) (j9 : Int), (k9 ≠ 1 ∨ j9 ≠ 1045) → τ5 k9 j9 = τ4 k9 j9 := fun k9 j9 hh => by rw [τ5e]; exact us_n hh
        refine g_aload_n hΓ rfl dX3_laysPlain_47 ?_
        refine g_sipush hΓ (by decide) dX3_laysPlain_48 ?_
        refine g_iconst hΓ dX3_laysPlain_51 ?_
        refine m_ast hok hΓ 1 (by decide) rfl (n := 1048) rfl (by omega) (by decide) dX3_laysPlain_52 (fun τ6 τ6e => ?_)
        have τ6r : τ6 1 1046 = 4 := by rw [τ6e]; exact us_s _ _ _ _
        have τ6f : ∀ (k9 : Nat) (j9 : Int), (k9 ≠ 1 ∨ j9 ≠ 1046) → τ6 k9 j9 = τ5 k9 j9 := fun k9 j9 hh => by rw [τ6e]; exact us_n hh
        exact m_vret hΓ dX3_laysPlain_53 ⟨rfl, (funext fun j => by
            by_cases y4 : j = 1046
            · rw [y4, τ6r]; rfl
            by_cases y3 : j = 1045
            · rw [y3, τ6f 1 _ (Or.inr (by omega)), τ5r]; rfl
            by_cases y2 : j = 1044
            · rw [y2, τ6f 1 _ (Or.inr (by omega)), τ5f 1 _ (Or.inr (by omega)), τ4r]; rfl
            by_cases y1 : j = 1043
            · rw [y1, τ6f 1 _ (Or.inr (by omega)), τ5f 1 _ (Or.inr (by omega)), τ4f 1 _ (Or.inr (by omega)), τ3r]; rfl
            by_cases y0 : j = 1042
            · rw [y0, τ6f 1 _ (Or.inr (by omega)), τ5f 1 _ (Or.inr (by omega)), τ4f 1 _ (Or.inr (by omega)), τ3f 1 _ (Or.inr (by omega)), τ2r]; rfl
            rw [τ6f 1 j (Or.inr y4), τ5f 1 j (Or.inr y3), τ4f 1 j (Or.inr y2), τ3f 1 j (Or.inr y1), τ2f 1 j (Or.inr y0), hA j, plR, if_neg y0, if_neg y1, if_neg y2, if_neg y3, if_neg y4, show i = 1048 by omega]), (fun k j hk => ((((((τ6f k j (Or.inl (fun e => hk (by rw [e]; decide)))).trans (τ5f k j (Or.inl (fun e => hk (by rw [e]; decide))))).trans (τ4f k j (Or.inl (fun e => hk (by rw [e]; decide))))).trans (τ3f k j (Or.inl (fun e => hk (by rw [e]; decide))))).trans (τ2f k j (Or.inl (fun e => hk (by rw [e]; decide))))).trans (tf k j (fun e => hk ((show ∀ x ∈ [1], x ∈ [1] by decide) k e)))))⟩
      · refine g_aload_n hΓ rfl dX3_laysPlain_9 ?_
        refine g_iload_n hΓ rfl dX3_laysPlain_10 ?_
        refine g_iconst hΓ dX3_laysPlain_11 ?_
        refine m_ast hok hΓ 1 (by decide) rfl (n := 1048) rfl (by omega) (by decide) dX3_laysPlain_12 (fun τ7 τ7e => ?_)
        have τ7r : τ7 1 i = 0 := by rw [τ7e]; exact us_s _ _ _ _
        have τ7f : ∀ (k9 : Nat) (j9 : Int), (k9 ≠ 1 ∨ j9 ≠ i) → τ7 k9 j9 = t k9 j9 := fun k9 j9 hh => by rw [τ7e]; exact us_n hh
        obtain ⟨x8, ex8⟩ : ∃ z9 : Int, z9 = i + 1 := ⟨_, rfl⟩
        refine g_iinc hΓ dX3_laysPlain_13 rfl rfl (lv' := [some (.ref (ad 1)), some (.int (iI x8))]) (by rw [ex8]; rfl) ?_
        refine g_goto (tgt := 2) hΓ dX3_laysPlain_16 (by decide) ?_
        exact ih_loop x8 τ7 (by omega) (by omega) (fun j => by
            by_cases z : j = i
            · rw [z, τ7r, if_pos (by omega)]
            · rw [τ7f 1 j (Or.inr z), hA j]
              by_cases y : 0 ≤ j ∧ j < i
              · rw [if_pos y, if_pos (by omega)]
              · rw [if_neg y, if_neg (show ¬ (0 ≤ j ∧ j < x8) by omega)]) (fun k j hk => (τ7f k j (Or.inl (fun e => hk (by rw [e]; decide)))).trans (tf k j hk))
  exact loop 1049 0 σ (by omega) (by omega) (fun j => by rw [if_neg (by omega)]) (fun k j _ => rfl)
