set_option maxRecDepth 100000
set_option maxHeartbeats 4000000 in
theorem x_X8_laid {l : Launch} {E : gE} {X : State → Prop} {Z : Nat → Nat} {Y : Nat → Option Nat} (hE : E.2.1 = clsX) (hX : xOK l E X Z Y) (S : xS) (D : xD) (R : xR) (s : Nat) (e : Int) (hs : (S s).1 = 8) (hG : GS S D R) (he : 4 ≤ e ∧ e ≤ 16) (hAw : ∀ q, wk (S q).1 = true → E.2.2 q) : xC l E X yX8_laid cX8_laid 5 (some (.object "LetterPen$Stroke")) 2 0 0 [.ref s, .int (iI e)] S D R (fun rv S' D' R' => rv = some (.ref s) ∧ (GS S D' R ∧ D' s 3 = e ∧ caOK D' R s (strN S R s) e ∧ ∀ q, (S q).1 = 8 → q ≠ s → D' q 3 = D q 3) ∧ S' = S ∧ fr S D D' [8003, 42, 43, 44] ∧ R' = R) := by
  refine xC.of hX.1 (by decide) [some (.ref s), some (.int (iI e)), none, none, none] (Nat.le_of_ble_eq_true rfl) rfl rfl (fun Γ hΓ => ?_)
  have hB := (hG s hs).1
  have h03 : 0 ≤ D s 3 ∧ D s 3 ≤ 16 := by
    rcases (hG s hs).2 with h | h
    · omega
    · have := h.1; omega
  obtain ⟨hsf1, hsk1, hsp1, hsl1⟩ := id hB
  have kd2 : (S (rf R s 4)).1 = 42 := by rw [hsf1.2.2.2.2.2.2.2.1]
  have ln2 : (S (rf R s 4)).2.1 = 34 := by rw [hsf1.2.2.2.2.2.2.2.1]
  have kd3 : (S (rf R s 5)).1 = 43 := by rw [hsf1.2.2.2.2.2.2.2.2.2.1]
  have ln3 : (S (rf R s 5)).2.1 = 16 := by rw [hsf1.2.2.2.2.2.2.2.2.2.1]
  have kd4 : (S (rf R s 6)).1 = 44 := by rw [hsf1.2.2.2.2.2.2.2.2.2.2.2]
  have ln4 : (S (rf R s 6)).2.1 = 16 := by rw [hsf1.2.2.2.2.2.2.2.2.2.2.2]
  have hsn1 := hsf1.2.2.1
  have hsm1 := hsf1.2.2.2.2.2.1
  have hs11 := hsk1.1
  have hs21 := hsk1.2.1
  have hsmL := skL_k hsf1
  have l3 : ∀ (fu : Nat) (t : xD) (k : Int), (e - k).toNat < fu → (agr D t s (skL R s)) → (t s 3 = e) → (0 ≤ k ∧ k ≤ e) → (∀ k' ax, 0 ≤ k' → k' < e + 1 → (ax = 0 ∨ ax = 1) → t (rf R s 4) (2 * k' + ax) = smp (strN S R s) (D (rf R s 0)) e k' ax) → (∀ k', 0 ≤ k' → k' < e → t (rf R s 5) k' = cdk (strN S R s) (D (rf R s 0)) e k') → (∀ k', 0 ≤ k' → k' < k → t (rf R s 6) k' = (cdk (strN S R s) (D (rf R s 0)) e (e - 1 - k') + 4) % 8) → gW Γ E (xM E S t R) 0 0 132 [some (.ref s), some (.int (iI e)), some (.int (iI k)), none, none] [] := by
    intro fu
    induction fu with
    | zero => intro t k hn; exact absurd hn (Nat.not_lt_zero _)
    | succ fu ih_l3 =>
      intro t k hn ha h3 hk hsm hcd hbk
      refine g_iload_n hΓ rfl dX8_laid_132 ?_
      refine g_iload_n hΓ rfl dX8_laid_133 ?_
      refine g_icmp_ge (tgt := 164) hΓ (by omega) (by omega) dX8_laid_134 (by decide) (fun c5 => ?_) (fun c5 => ?_)
      · refine g_aload_n hΓ rfl dX8_laid_164 ?_
        have e0 : t (rf R s 0) = D (rf R s 0) := agr_row ha (ne_k hsf1.2.1 hs (by decide)) (fun e9 => by have := hsf1.2.1; simp only [List.mem_cons, List.not_mem_nil, or_false] at e9; (try rcases e9 with e9 | e9) <;> (try rcases e9 with e9 | e9) <;> rw [e9] at this <;> omega)
        have hca : caOK t R s (strN S R s) e := ⟨he, fun k ax h1 h2 h3 => by rw [e0]; exact hsm k ax h1 (by omega) h3, fun k h1 h2 => by rw [e0]; exact hcd k h1 h2, fun k h1 h2 => by rw [e0]; exact hbk k h1 (by omega)⟩
        exact x_aret hΓ (Or.inl ⟨_, rfl⟩) (Or.inr ⟨_, rfl⟩) dX8_laid_165 (Nat.zero_le _) (Nat.zero_le _) ⟨rfl, ⟨agr_GS hs hG ha h3 hca, h3, hca, fun q h1 h2 => ha q 3 (Or.inl h2) (fun e9 => by rcases skL_k hsf1 q e9 with z | z | z <;> omega)⟩, rfl, agr_fr hs hsf1 ha, rfl⟩
      · refine g_aload_n hΓ rfl dX8_laid_137 ?_
        refine x_geta (r := some (rf R s 6)) (c := 8) hE hΓ in_X8 rfl hs ⟨by decide, rfl⟩ 6 (ji := 6) rfl (by decide) (by decide) rfl q812 rfl rfl hsf1.2.2.2.2.2.2.2.2.2.2.1 dX8_laid_138 ?_
        show gW Γ E (xM E S t R) 0 0 _ _ (.ref (rf R s 6) :: _)
        refine g_iload_n hΓ rfl dX8_laid_141 ?_
        refine g_aload_n hΓ rfl dX8_laid_142 ?_
        refine x_geta (r := some (rf R s 5)) (c := 8) hE hΓ in_X8 rfl hs ⟨by decide, rfl⟩ 5 (ji := 5) rfl (by decide) (by decide) rfl q810 rfl rfl hsf1.2.2.2.2.2.2.2.2.1 dX8_laid_143 ?_
        show gW Γ E (xM E S t R) 0 0 _ _ (.ref (rf R s 5) :: _)
        refine g_iload_n hΓ rfl dX8_laid_146 ?_
        refine g_iconst hΓ dX8_laid_147 ?_
        refine g_isub hΓ dX8_laid_148 ?_
        refine g_iload_n hΓ rfl dX8_laid_149 ?_
        refine g_isub hΓ dX8_laid_150 ?_
        refine x_iald hΓ kd3 ln3 ⟨by decide, rfl⟩ (by omega) (by omega) dX8_laid_151 ?_
        refine g_iconst hΓ dX8_laid_152 ?_
        refine g_iadd hΓ dX8_laid_153 ?_
        refine g_bipush hΓ (by decide) dX8_laid_154 ?_
        have hcr := cdk_r (strN S R s) (D (rf R s 0)) e (e - 1 - k)
        have hc9 := hcd (e - 1 - k) (by omega) (by omega)
        refine g_iremN hΓ (by omega) (by omega) (by omega) dX8_laid_156 ?_
        refine x_iast hΓ kd4 ln4 ⟨by decide, rfl⟩ (hAw _ (by rw [kd4]; rfl)) (by omega) (by omega) dX8_laid_157 (fun τ6 τ6e => ?_)
        have τ6r : τ6 (rf R s 6) k = ((t (rf R s 5) ((e - 1) - k)) + 4) % 8 := by rw [τ6e]; exact us_s _ _ _ _
        have τ6f : ∀ (q9 : Nat) (j9 : Int), (q9 ≠ (rf R s 6) ∨ j9 ≠ k) → τ6 q9 j9 = t q9 j9 := fun q9 j9 hh => by rw [τ6e]; exact us_n hh
        obtain ⟨x7, ex7⟩ : ∃ z9 : Int, z9 = k + 1 := ⟨_, rfl⟩
        refine g_iinc hΓ dX8_laid_158 rfl rfl (lv' := [some (.ref s), some (.int (iI e)), some (.int (iI x7)), none, none]) (by rw [ex7]; rfl) ?_
        refine g_goto (tgt := 132) hΓ dX8_laid_161 (by decide) ?_
        exact ih_l3 τ6 x7 (by omega) (fun q j h hn => (τ6f q j (Or.inl (fun e9 => hn (by rw [e9]; simp)))).trans (ha q j h hn)) ((τ6f _ _ (Or.inl (ne_k hs kd4 (by decide)))).trans h3) (by omega) (fun k' ax a b c => (τ6f _ _ (Or.inl (ne_k kd2 kd4 (by decide)))).trans (hsm k' ax a b c)) (fun k' a b => (τ6f _ _ (Or.inl (ne_k kd3 kd4 (by decide)))).trans (hcd k' a b)) (fun k' a b => by
          by_cases c9 : k' = k
          · rw [c9, τ6r]; rw [hcd _ (by omega) (by omega)]
          · exact (τ6f _ _ (Or.inr c9)).trans (hbk k' a (by omega)))
  have l2 : ∀ (fu : Nat) (t : xD) (k : Int), (e - k).toNat < fu → (agr D t s [(rf R s 4), (rf R s 5)]) → (t s 3 = e) → (0 ≤ k ∧ k ≤ e) → (∀ k' ax, 0 ≤ k' → k' < e + 1 → (ax = 0 ∨ ax = 1) → t (rf R s 4) (2 * k' + ax) = smp (strN S R s) (D (rf R s 0)) e k' ax) → (∀ k', 0 ≤ k' → k' < k → t (rf R s 5) k' = cdk (strN S R s) (D (rf R s 0)) e k') → gW Γ E (xM E S t R) 0 0 36 [some (.ref s), some (.int (iI e)), some (.int (iI k)), none, none] [] := by
    intro fu
    induction fu with
    | zero => intro t k hn; exact absurd hn (Nat.not_lt_zero _)
    | succ fu ih_l2 =>
      intro t k hn ha h3 hk hsm hcd
      have sr := fun k ax (h1 : 0 ≤ k ∧ k ≤ e) (h2 : ax = 0 ∨ ax = 1) => smp_r hsk1 he h1 h2
      refine g_iload_n hΓ rfl dX8_laid_36 ?_
      refine g_iload_n hΓ rfl dX8_laid_37 ?_
      refine g_icmp_ge (tgt := 130) hΓ (by omega) (by omega) dX8_laid_38 (by decide) (fun c8 => ?_) (fun c8 => ?_)
      · refine g_iconst hΓ dX8_laid_130 ?_
        refine g_istore_n hΓ dX8_laid_131 rfl (Nat.le_of_ble_eq_true rfl) (lv' := [some (.ref s), some (.int (iI e)), some (.int (iI 0)), none, none]) rfl ?_
        exact l3 17 t 0 (by omega) (agr_w ha (by simp)) h3 (by omega) hsm (fun k' a b => hcd k' a (by omega)) (fun k' a b => absurd a (by omega))
      · have hx0 : t (rf R s 4) (2 * k) = smp (strN S R s) (D (rf R s 0)) e k 0 := by have h9 := hsm k 0 (by omega) (by omega) (by omega); rwa [show (2 * k + 0 : Int) = 2 * k by omega] at h9
        have hy0 := sr k 0 (by omega) (by omega)
        have hx1 : t (rf R s 4) (2 * k + 1) = smp (strN S R s) (D (rf R s 0)) e k 1 := by have h9 := hsm k 1 (by omega) (by omega) (by omega); rwa [show (2 * k + 1 : Int) = 2 * k + 1 by omega] at h9
        have hy1 := sr k 1 (by omega) (by omega)
        have hx2 : t (rf R s 4) (2 * k + 2) = smp (strN S R s) (D (rf R s 0)) e (k + 1) 0 := by have h9 := hsm (k + 1) 0 (by omega) (by omega) (by omega); rwa [show (2 * (k + 1) + 0 : Int) = 2 * k + 2 by omega] at h9
        have hy2 := sr (k + 1) 0 (by omega) (by omega)
        have hx3 : t (rf R s 4) (2 * k + 3) = smp (strN S R s) (D (rf R s 0)) e (k + 1) 1 := by have h9 := hsm (k + 1) 1 (by omega) (by omega) (by omega); rwa [show (2 * (k + 1) + 1 : Int) = 2 * k + 3 by omega] at h9
        have hy3 := sr (k + 1) 1 (by omega) (by omega)
        refine g_aload_n hΓ rfl dX8_laid_41 ?_
        refine x_geta (r := some (rf R s 4)) (c := 8) hE hΓ in_X8 rfl hs ⟨by decide, rfl⟩ 4 (ji := 4) rfl (by decide) (by decide) rfl q808 rfl rfl hsf1.2.2.2.2.2.2.1 dX8_laid_42 ?_
        show gW Γ E (xM E S t R) 0 0 _ _ (.ref (rf R s 4) :: _)
        refine g_iconst hΓ dX8_laid_45 ?_
        refine g_iload_n hΓ rfl dX8_laid_46 ?_
        refine g_imul hΓ dX8_laid_47 ?_
        refine g_iconst hΓ dX8_laid_48 ?_
        refine g_iadd hΓ dX8_laid_49 ?_
        refine x_iald hΓ kd2 ln2 ⟨by decide, rfl⟩ (by omega) (by omega) dX8_laid_50 ?_
        refine g_aload_n hΓ rfl dX8_laid_51 ?_
        refine x_geta (r := some (rf R s 4)) (c := 8) hE hΓ in_X8 rfl hs ⟨by decide, rfl⟩ 4 (ji := 4) rfl (by decide) (by decide) rfl q808 rfl rfl hsf1.2.2.2.2.2.2.1 dX8_laid_52 ?_
        show gW Γ E (xM E S t R) 0 0 _ _ (.ref (rf R s 4) :: _)
        refine g_iconst hΓ dX8_laid_55 ?_
        refine g_iload_n hΓ rfl dX8_laid_56 ?_
        refine g_imul hΓ dX8_laid_57 ?_
        refine x_iald hΓ kd2 ln2 ⟨by decide, rfl⟩ (by omega) (by omega) dX8_laid_58 ?_
        refine g_isub hΓ dX8_laid_59 ?_
        obtain ⟨x9, ex9⟩ : ∃ z9 : Int, z9 = (t (rf R s 4) ((2 * k) + 2)) - (t (rf R s 4) (2 * k)) := ⟨_, rfl⟩
        refine g_topi ex9.symm ?_
        refine g_istore_n hΓ dX8_laid_60 rfl (Nat.le_of_ble_eq_true rfl) (lv' := [some (.ref s), some (.int (iI e)), some (.int (iI k)), some (.int (iI x9)), none]) rfl ?_
        refine g_aload_n hΓ rfl dX8_laid_61 ?_
        refine x_geta (r := some (rf R s 4)) (c := 8) hE hΓ in_X8 rfl hs ⟨by decide, rfl⟩ 4 (ji := 4) rfl (by decide) (by decide) rfl q808 rfl rfl hsf1.2.2.2.2.2.2.1 dX8_laid_62 ?_
        show gW Γ E (xM E S t R) 0 0 _ _ (.ref (rf R s 4) :: _)
        refine g_iconst hΓ dX8_laid_65 ?_
        refine g_iload_n hΓ rfl dX8_laid_66 ?_
        refine g_imul hΓ dX8_laid_67 ?_
        refine g_iconst hΓ dX8_laid_68 ?_
        refine g_iadd hΓ dX8_laid_69 ?_
        refine x_iald hΓ kd2 ln2 ⟨by decide, rfl⟩ (by omega) (by omega) dX8_laid_70 ?_
        refine g_aload_n hΓ rfl dX8_laid_71 ?_
        refine x_geta (r := some (rf R s 4)) (c := 8) hE hΓ in_X8 rfl hs ⟨by decide, rfl⟩ 4 (ji := 4) rfl (by decide) (by decide) rfl q808 rfl rfl hsf1.2.2.2.2.2.2.1 dX8_laid_72 ?_
        show gW Γ E (xM E S t R) 0 0 _ _ (.ref (rf R s 4) :: _)
        refine g_iconst hΓ dX8_laid_75 ?_
        refine g_iload_n hΓ rfl dX8_laid_76 ?_
        refine g_imul hΓ dX8_laid_77 ?_
        refine g_iconst hΓ dX8_laid_78 ?_
        refine g_iadd hΓ dX8_laid_79 ?_
        refine x_iald hΓ kd2 ln2 ⟨by decide, rfl⟩ (by omega) (by omega) dX8_laid_80 ?_
        refine g_isub hΓ dX8_laid_81 ?_
        obtain ⟨x10, ex10⟩ : ∃ z9 : Int, z9 = (t (rf R s 4) ((2 * k) + 3)) - (t (rf R s 4) ((2 * k) + 1)) := ⟨_, rfl⟩
        refine g_topi ex10.symm ?_
        refine g_istore hΓ dX8_laid_82 rfl (Nat.le_of_ble_eq_true rfl) (lv' := [some (.ref s), some (.int (iI e)), some (.int (iI k)), some (.int (iI x9)), some (.int (iI x10))]) rfl ?_
        refine g_aload_n hΓ rfl dX8_laid_84 ?_
        refine x_geta (r := some (rf R s 5)) (c := 8) hE hΓ in_X8 rfl hs ⟨by decide, rfl⟩ 5 (ji := 5) rfl (by decide) (by decide) rfl q810 rfl rfl hsf1.2.2.2.2.2.2.2.2.1 dX8_laid_85 ?_
        show gW Γ E (xM E S t R) 0 0 _ _ (.ref (rf R s 5) :: _)
        refine g_iload_n hΓ rfl dX8_laid_88 ?_
        refine g_iload_n hΓ rfl dX8_laid_89 ?_
        refine g_if_ne (tgt := 117) hΓ (by omega) dX8_laid_90 (by decide) (fun c11 => ?_) (fun c11 => ?_)
        · refine g_iload_n hΓ rfl dX8_laid_117 ?_
          refine g_iload hΓ rfl dX8_laid_118 ?_
          refine x_callS (As := [.int (iI x9), .int (iI x10)]) (rest := [.int (iI k), .ref (rf R s 5)]) hΓ (x_X8_codeOf hE hX S t R x9 x10 (by first | assumption | omega) (by first | assumption | omega) (by first | assumption | omega)) rfl q925 q926 q144 q927 ndX8_codeOf rfl (by decide) (by decide) (Nat.zero_le _) (Nat.zero_le _) rfl (Nat.le_of_ble_eq_true rfl) dX8_laid_120 rfl (fun v12 S12 τ12 ρ12 h12 => ?_)
          obtain ⟨rfl, S12e, τ12e, ρ12e⟩ := h12
          have S12e := S12e.symm; subst S12e
          have τ12e := τ12e.symm; subst τ12e
          have ρ12e := ρ12e.symm; subst ρ12e
          show gW Γ E (xM E S t R) _ _ _ _ (.int (iI (cdv x9 x10 0)) :: _)
          refine x_iast hΓ kd3 ln3 ⟨by decide, rfl⟩ (hAw _ (by rw [kd3]; rfl)) (by omega) (by omega) dX8_laid_123 (fun τ13 τ13e => ?_)
          have τ13r : τ13 (rf R s 5) k = cdv x9 x10 0 := by rw [τ13e]; exact us_s _ _ _ _
          have τ13f : ∀ (q9 : Nat) (j9 : Int), (q9 ≠ (rf R s 5) ∨ j9 ≠ k) → τ13 q9 j9 = t q9 j9 := fun q9 j9 hh => by rw [τ13e]; exact us_n hh
          obtain ⟨x14, ex14⟩ : ∃ z9 : Int, z9 = k + 1 := ⟨_, rfl⟩
          refine g_iinc hΓ dX8_laid_124 rfl rfl (lv' := [some (.ref s), some (.int (iI e)), some (.int (iI x14)), some (.int (iI x9)), some (.int (iI x10))]) (by rw [ex14]; rfl) ?_
          refine g_goto (tgt := 36) hΓ dX8_laid_127 (by decide) ?_
          have hdx : smp (strN S R s) (D (rf R s 0)) e (k + 1) 0 - smp (strN S R s) (D (rf R s 0)) e k 0 = x9 := by rw [ex9, hx2, hx0]
          have hdy : smp (strN S R s) (D (rf R s 0)) e (k + 1) 1 - smp (strN S R s) (D (rf R s 0)) e k 1 = x10 := by rw [ex10, hx3, hx1]
          have hv : cdv x9 x10 0 = cdk (strN S R s) (D (rf R s 0)) e k := by
            rw [cdk_v _ _ _ (by omega), hdx, hdy]
            first | exact (cdv_n (by omega)).symm | (rw [cdv_z (by omega), if_pos (by omega)]; done) | (rw [cdv_z (by omega), if_neg (by omega)]; exact hcd (k - 1) (by omega) (by omega))
          refine g_lvw (lv' := [some (.ref s), some (.int (iI e)), some (.int (iI x14)), none, none]) ⟨rfl, ⟨rfl, ⟨rfl, trivial⟩⟩⟩ ?_
          exact ih_l2 τ13 x14 (by omega) (fun q j h hn => (τ13f q j (Or.inl (fun e9 => hn (by rw [e9]; simp)))).trans (ha q j h hn)) ((τ13f _ _ (Or.inl (ne_k hs kd3 (by decide)))).trans h3) (by omega) (fun k' ax a b c => (τ13f _ _ (Or.inl (ne_k kd2 kd3 (by decide)))).trans (hsm k' ax a b c)) (fun k' a b => by
            by_cases c9 : k' = k
            · rw [c9, τ13r]; exact hv
            · exact (τ13f _ _ (Or.inr c9)).trans (hcd k' a (by omega)))
        · refine g_iload hΓ rfl dX8_laid_93 ?_
          refine g_if_ne (tgt := 117) hΓ (by omega) dX8_laid_95 (by decide) (fun c15 => ?_) (fun c15 => ?_)
          · refine g_iload_n hΓ rfl dX8_laid_117 ?_
            refine g_iload hΓ rfl dX8_laid_118 ?_
            refine x_callS (As := [.int (iI x9), .int (iI x10)]) (rest := [.int (iI k), .ref (rf R s 5)]) hΓ (x_X8_codeOf hE hX S t R x9 x10 (by first | assumption | omega) (by first | assumption | omega) (by first | assumption | omega)) rfl q925 q926 q144 q927 ndX8_codeOf rfl (by decide) (by decide) (Nat.zero_le _) (Nat.zero_le _) rfl (Nat.le_of_ble_eq_true rfl) dX8_laid_120 rfl (fun v16 S16 τ16 ρ16 h16 => ?_)
            obtain ⟨rfl, S16e, τ16e, ρ16e⟩ := h16
            have S16e := S16e.symm; subst S16e
            have τ16e := τ16e.symm; subst τ16e
            have ρ16e := ρ16e.symm; subst ρ16e
            show gW Γ E (xM E S t R) _ _ _ _ (.int (iI (cdv x9 x10 0)) :: _)
            refine x_iast hΓ kd3 ln3 ⟨by decide, rfl⟩ (hAw _ (by rw [kd3]; rfl)) (by omega) (by omega) dX8_laid_123 (fun τ17 τ17e => ?_)
            have τ17r : τ17 (rf R s 5) k = cdv x9 x10 0 := by rw [τ17e]; exact us_s _ _ _ _
            have τ17f : ∀ (q9 : Nat) (j9 : Int), (q9 ≠ (rf R s 5) ∨ j9 ≠ k) → τ17 q9 j9 = t q9 j9 := fun q9 j9 hh => by rw [τ17e]; exact us_n hh
            obtain ⟨x18, ex18⟩ : ∃ z9 : Int, z9 = k + 1 := ⟨_, rfl⟩
            refine g_iinc hΓ dX8_laid_124 rfl rfl (lv' := [some (.ref s), some (.int (iI e)), some (.int (iI x18)), some (.int (iI x9)), some (.int (iI x10))]) (by rw [ex18]; rfl) ?_
            refine g_goto (tgt := 36) hΓ dX8_laid_127 (by decide) ?_
            have hdx : smp (strN S R s) (D (rf R s 0)) e (k + 1) 0 - smp (strN S R s) (D (rf R s 0)) e k 0 = x9 := by rw [ex9, hx2, hx0]
            have hdy : smp (strN S R s) (D (rf R s 0)) e (k + 1) 1 - smp (strN S R s) (D (rf R s 0)) e k 1 = x10 := by rw [ex10, hx3, hx1]
            have hv : cdv x9 x10 0 = cdk (strN S R s) (D (rf R s 0)) e k := by
              rw [cdk_v _ _ _ (by omega), hdx, hdy]
              first | exact (cdv_n (by omega)).symm | (rw [cdv_z (by omega), if_pos (by omega)]; done) | (rw [cdv_z (by omega), if_neg (by omega)]; exact hcd (k - 1) (by omega) (by omega))
            refine g_lvw (lv' := [some (.ref s), some (.int (iI e)), some (.int (iI x18)), none, none]) ⟨rfl, ⟨rfl, ⟨rfl, trivial⟩⟩⟩ ?_
            exact ih_l2 τ17 x18 (by omega) (fun q j h hn => (τ17f q j (Or.inl (fun e9 => hn (by rw [e9]; simp)))).trans (ha q j h hn)) ((τ17f _ _ (Or.inl (ne_k hs kd3 (by decide)))).trans h3) (by omega) (fun k' ax a b c => (τ17f _ _ (Or.inl (ne_k kd2 kd3 (by decide)))).trans (hsm k' ax a b c)) (fun k' a b => by
              by_cases c9 : k' = k
              · rw [c9, τ17r]; exact hv
              · exact (τ17f _ _ (Or.inr c9)).trans (hcd k' a (by omega)))
          · refine g_iload_n hΓ rfl dX8_laid_98 ?_
            refine g_if_ne (tgt := 106) hΓ (by omega) dX8_laid_99 (by decide) (fun c19 => ?_) (fun c19 => ?_)
            · refine g_aload_n hΓ rfl dX8_laid_106 ?_
              refine x_geta (r := some (rf R s 5)) (c := 8) hE hΓ in_X8 rfl hs ⟨by decide, rfl⟩ 5 (ji := 5) rfl (by decide) (by decide) rfl q810 rfl rfl hsf1.2.2.2.2.2.2.2.2.1 dX8_laid_107 ?_
              show gW Γ E (xM E S t R) 0 0 _ _ (.ref (rf R s 5) :: _)
              refine g_iload_n hΓ rfl dX8_laid_110 ?_
              refine g_iconst hΓ dX8_laid_111 ?_
              refine g_isub hΓ dX8_laid_112 ?_
              refine x_iald hΓ kd3 ln3 ⟨by decide, rfl⟩ (by omega) (by omega) dX8_laid_113 ?_
              refine g_goto (tgt := 123) hΓ dX8_laid_114 (by decide) ?_
              refine x_iast hΓ kd3 ln3 ⟨by decide, rfl⟩ (hAw _ (by rw [kd3]; rfl)) (by omega) (by omega) dX8_laid_123 (fun τ20 τ20e => ?_)
              have τ20r : τ20 (rf R s 5) k = t (rf R s 5) (k - 1) := by rw [τ20e]; exact us_s _ _ _ _
              have τ20f : ∀ (q9 : Nat) (j9 : Int), (q9 ≠ (rf R s 5) ∨ j9 ≠ k) → τ20 q9 j9 = t q9 j9 := fun q9 j9 hh => by rw [τ20e]; exact us_n hh
              obtain ⟨x21, ex21⟩ : ∃ z9 : Int, z9 = k + 1 := ⟨_, rfl⟩
              refine g_iinc hΓ dX8_laid_124 rfl rfl (lv' := [some (.ref s), some (.int (iI e)), some (.int (iI x21)), some (.int (iI x9)), some (.int (iI x10))]) (by rw [ex21]; rfl) ?_
              refine g_goto (tgt := 36) hΓ dX8_laid_127 (by decide) ?_
              have hdx : smp (strN S R s) (D (rf R s 0)) e (k + 1) 0 - smp (strN S R s) (D (rf R s 0)) e k 0 = x9 := by rw [ex9, hx2, hx0]
              have hdy : smp (strN S R s) (D (rf R s 0)) e (k + 1) 1 - smp (strN S R s) (D (rf R s 0)) e k 1 = x10 := by rw [ex10, hx3, hx1]
              have hv : t (rf R s 5) (k - 1) = cdk (strN S R s) (D (rf R s 0)) e k := by
                rw [cdk_v _ _ _ (by omega), hdx, hdy]
                first | exact (cdv_n (by omega)).symm | (rw [cdv_z (by omega), if_pos (by omega)]; done) | (rw [cdv_z (by omega), if_neg (by omega)]; exact hcd (k - 1) (by omega) (by omega))
              refine g_lvw (lv' := [some (.ref s), some (.int (iI e)), some (.int (iI x21)), none, none]) ⟨rfl, ⟨rfl, ⟨rfl, trivial⟩⟩⟩ ?_
              exact ih_l2 τ20 x21 (by omega) (fun q j h hn => (τ20f q j (Or.inl (fun e9 => hn (by rw [e9]; simp)))).trans (ha q j h hn)) ((τ20f _ _ (Or.inl (ne_k hs kd3 (by decide)))).trans h3) (by omega) (fun k' ax a b c => (τ20f _ _ (Or.inl (ne_k kd2 kd3 (by decide)))).trans (hsm k' ax a b c)) (fun k' a b => by
                by_cases c9 : k' = k
                · rw [c9, τ20r]; exact hv
                · exact (τ20f _ _ (Or.inr c9)).trans (hcd k' a (by omega)))
            · refine g_iconst hΓ dX8_laid_102 ?_
              refine g_goto (tgt := 123) hΓ dX8_laid_103 (by decide) ?_
              refine x_iast hΓ kd3 ln3 ⟨by decide, rfl⟩ (hAw _ (by rw [kd3]; rfl)) (by omega) (by omega) dX8_laid_123 (fun τ22 τ22e => ?_)
              have τ22r : τ22 (rf R s 5) k = 0 := by rw [τ22e]; exact us_s _ _ _ _
              have τ22f : ∀ (q9 : Nat) (j9 : Int), (q9 ≠ (rf R s 5) ∨ j9 ≠ k) → τ22 q9 j9 = t q9 j9 := fun q9 j9 hh => by rw [τ22e]; exact us_n hh
              obtain ⟨x23, ex23⟩ : ∃ z9 : Int, z9 = k + 1 := ⟨_, rfl⟩
              refine g_iinc hΓ dX8_laid_124 rfl rfl (lv' := [some (.ref s), some (.int (iI e)), some (.int (iI x23)), some (.int (iI x9)), some (.int (iI x10))]) (by rw [ex23]; rfl) ?_
              refine g_goto (tgt := 36) hΓ dX8_laid_127 (by decide) ?_
              have hdx : smp (strN S R s) (D (rf R s 0)) e (k + 1) 0 - smp (strN S R s) (D (rf R s 0)) e k 0 = x9 := by rw [ex9, hx2, hx0]
              have hdy : smp (strN S R s) (D (rf R s 0)) e (k + 1) 1 - smp (strN S R s) (D (rf R s 0)) e k 1 = x10 := by rw [ex10, hx3, hx1]
              have hv : 0 = cdk (strN S R s) (D (rf R s 0)) e k := by
                rw [cdk_v _ _ _ (by omega), hdx, hdy]
                first | exact (cdv_n (by omega)).symm | (rw [cdv_z (by omega), if_pos (by omega)]; done) | (rw [cdv_z (by omega), if_neg (by omega)]; exact hcd (k - 1) (by omega) (by omega))
              refine g_lvw (lv' := [some (.ref s), some (.int (iI e)), some (.int (iI x23)), none, none]) ⟨rfl, ⟨rfl, ⟨rfl, trivial⟩⟩⟩ ?_
              exact ih_l2 τ22 x23 (by omega) (fun q j h hn => (τ22f q j (Or.inl (fun e9 => hn (by rw [e9]; simp)))).trans (ha q j h hn)) ((τ22f _ _ (Or.inl (ne_k hs kd3 (by decide)))).trans h3) (by omega) (fun k' ax a b c => (τ22f _ _ (Or.inl (ne_k kd2 kd3 (by decide)))).trans (hsm k' ax a b c)) (fun k' a b => by
                by_cases c9 : k' = k
                · rw [c9, τ22r]; exact hv
                · exact (τ22f _ _ (Or.inr c9)).trans (hcd k' a (by omega)))
  have l1 : ∀ (fu : Nat) (t : xD) (k : Int), (e + 1 - k).toNat < fu → (agr D t s [(rf R s 4)]) → (t s 3 = e) → (0 ≤ k ∧ k ≤ e + 1) → (∀ k' ax, 0 ≤ k' → k' < k → (ax = 0 ∨ ax = 1) → t (rf R s 4) (2 * k' + ax) = smp (strN S R s) (D (rf R s 0)) e k' ax) → gW Γ E (xM E S t R) 0 0 17 [some (.ref s), some (.int (iI e)), some (.int (iI k)), none, none] [] := by
    intro fu
    induction fu with
    | zero => intro t k hn; exact absurd hn (Nat.not_lt_zero _)
    | succ fu ih_l1 =>
      intro t k hn ha h3 hk hsm
      refine g_iload_n hΓ rfl dX8_laid_17 ?_
      refine g_iload_n hΓ rfl dX8_laid_18 ?_
      refine g_icmp_gt (tgt := 34) hΓ (by omega) (by omega) dX8_laid_19 (by decide) (fun c24 => ?_) (fun c24 => ?_)
      · refine g_iconst hΓ dX8_laid_34 ?_
        refine g_istore_n hΓ dX8_laid_35 rfl (Nat.le_of_ble_eq_true rfl) (lv' := [some (.ref s), some (.int (iI e)), some (.int (iI 0)), none, none]) rfl ?_
        exact l2 17 t 0 (by omega) (agr_w ha (by simp)) h3 (by omega) (fun k' ax a b c => hsm k' ax a (by omega) c) (fun k' a b => absurd a (by omega))
      · refine g_aload_n hΓ rfl dX8_laid_22 ?_
        refine g_iload_n hΓ rfl dX8_laid_23 ?_
        refine g_iload_n hΓ rfl dX8_laid_24 ?_
        refine x_callV (As := [.int (iI k), .int (iI e)]) (rest := []) (c := 8) hE hΓ (x_X8_laysSample hE hX S t R s k e hs (strB_agr hB hs hs ha (fun q hq => hsmL q (by simp only [List.mem_cons, List.not_mem_nil, or_false] at hq; rw [hq]; simp))) (by omega) (by omega) hAw ) hs ⟨by decide, rfl⟩ rfl rfl q920 q922 qs26 q144 q923 ndX8_laysSample rfl (by decide) (by decide) (Nat.zero_le _) (Nat.zero_le _) rfl (Nat.le_of_ble_eq_true rfl) dX8_laid_25 rfl (fun v25 S25 τ25 ρ25 h25 => ?_)
        obtain ⟨rfl, h25, S25e, τ25f, ρ25e⟩ := h25
        have S25e := S25e.symm; subst S25e
        have ρ25e := ρ25e.symm; subst ρ25e
        obtain ⟨x26, ex26⟩ : ∃ z9 : Int, z9 = k + 1 := ⟨_, rfl⟩
        refine g_iinc hΓ dX8_laid_28 rfl rfl (lv' := [some (.ref s), some (.int (iI e)), some (.int (iI x26)), none, none]) (by rw [ex26]; rfl) ?_
        refine g_goto (tgt := 17) hΓ dX8_laid_31 (by decide) ?_
        have e0 : t (rf R s 0) = D (rf R s 0) := agr_row ha (ne_k hsf1.2.1 hs (by decide)) (fun e9 => by have := hsf1.2.1; simp only [List.mem_cons, List.not_mem_nil, or_false] at e9; (try rcases e9 with e9 | e9) <;> (try rcases e9 with e9 | e9) <;> rw [e9] at this <;> omega)
        rw [e0] at h25
        exact ih_l1 τ25 x26 (by omega) (fun q j h9 hn => (h25.2 q j (Or.inl (by simpa using hn))).trans (ha q j h9 hn)) ((h25.2 s 3 (Or.inl (ne_k hs kd2 (by decide)))).trans h3) (by omega) (fun k' ax a b c => by
          by_cases c9 : k' = k
          · rw [c9]; rcases c with rfl | rfl; exact h25.1.1; exact h25.1.2
          · exact (h25.2 _ _ (Or.inr (by omega))).trans (hsm k' ax a (by omega) c))
  refine g_aload_n hΓ rfl dX8_laid_0 ?_
  refine x_geti (c := 8) hE hΓ in_X8 rfl hs ⟨by decide, rfl⟩ 3 (ji := 3) rfl (by decide) (by decide) rfl q807 rfl rfl dX8_laid_1 ?_
  refine g_iload_n hΓ rfl dX8_laid_4 ?_
  refine g_icmp_ne (tgt := 10) hΓ (by omega) (by omega) dX8_laid_5 (by decide) (fun c27 => ?_) (fun c27 => ?_)
  · refine g_aload_n hΓ rfl dX8_laid_10 ?_
    refine g_iload_n hΓ rfl dX8_laid_11 ?_
    refine x_puti (c := 8) hE hΓ in_X8 rfl hs ⟨by decide, rfl⟩ tyX8 tyX8_ok nmX8 (hAw _ (by rw [hs]; rfl)) 3 (ji := 3) rfl (by decide) (by decide) rfl q807 rfl rfl rfl rfl rfl rfl dX8_laid_12 (fun τ28 τ28e => ?_)
    have τ28r : τ28 s 3 = e := by rw [τ28e]; exact us_s _ _ _ _
    have τ28f : ∀ (q9 : Nat) (j9 : Int), (q9 ≠ s ∨ j9 ≠ 3) → τ28 q9 j9 = D q9 j9 := fun q9 j9 hh => by rw [τ28e]; exact us_n hh
    refine g_iconst hΓ dX8_laid_15 ?_
    refine g_istore_n hΓ dX8_laid_16 rfl (Nat.le_of_ble_eq_true rfl) (lv' := [some (.ref s), some (.int (iI e)), some (.int (iI 0)), none, none]) rfl ?_
    exact l1 18 τ28 0 (by omega) (fun q j h hn => τ28f q j h) τ28r (by omega) (fun k' ax a b c => absurd a (by omega))
  · refine g_aload_n hΓ rfl dX8_laid_8 ?_
    exact x_aret hΓ (Or.inl ⟨_, rfl⟩) (Or.inr ⟨_, rfl⟩) dX8_laid_9 (Nat.zero_le _) (Nat.zero_le _) ⟨rfl, ⟨hG, by omega, by rcases (hG s hs).2 with h9 | h9; exact absurd h9 (by omega); rwa [show D s 3 = e by omega] at h9, fun _ _ _ => rfl⟩, rfl, fr_rfl, rfl⟩
set_option maxHeartbeats 4000000 in
theorem x_X8_turns {l : Launch} {E : gE} {X : State → Prop} {Z : Nat → Nat} {Y : Nat → Option Nat} (hE : E.2.1 = clsX) (hX : xOK l E X Z Y) (S : xS) (D : xD) (R : xR) (s : Nat) (e : Int) (hs : (S s).1 = 8) (hG : GS S D R) (he : 4 ≤ e ∧ e ≤ 16) (hAw : ∀ q, wk (S q).1 = true → E.2.2 q) : xC l E X yX8_turns cX8_turns 4 (some .int) 3 0 0 [.ref s, .int (iI e)] S D R (fun rv S' D' R' => rv = some (.int (iI (bndF (cdk (strN S R s) (D (rf R s 0)) e) (e - 1).toNat))) ∧ (GS S D' R) ∧ S' = S ∧ fr S D D' [8003, 42, 43, 44] ∧ R' = R) := by
  refine xC.of hX.1 (by decide) [some (.ref s), some (.int (iI e)), none, none] (Nat.le_of_ble_eq_true rfl) rfl rfl (fun Γ hΓ => ?_)
  refine g_aload_n hΓ rfl dX8_turns_0 ?_
  refine g_iload_n hΓ rfl dX8_turns_1 ?_
  refine x_callV (As := [.int (iI e)]) (rest := []) (c := 8) hE hΓ (x_X8_laid hE hX S D R s e hs hG (by omega) hAw ) hs ⟨by decide, rfl⟩ rfl rfl q984 q917 q918 q144 q919 ndX8_laid rfl (by decide) (by decide) (Nat.zero_le _) (Nat.zero_le _) rfl (Nat.le_of_ble_eq_true rfl) dX8_turns_2 rfl (fun v1 S1 τ1 ρ1 h1 => ?_)
  obtain ⟨rfl, h1, S1e, τ1f, ρ1e⟩ := h1
  have S1e := S1e.symm; subst S1e
  have ρ1e := ρ1e.symm; subst ρ1e
  show gW Γ E (xM E S τ1 R) _ _ _ _ (.ref s :: _)
  refine g_pop hΓ rfl dX8_turns_5 ?_
  obtain ⟨hsf2, hsk2, hsp2, hsl2⟩ := id ((h1.1 s hs).1)
  have kd3 : (S (rf R s 4)).1 = 42 := by rw [hsf2.2.2.2.2.2.2.2.1]
  have ln3 : (S (rf R s 4)).2.1 = 34 := by rw [hsf2.2.2.2.2.2.2.2.1]
  have kd4 : (S (rf R s 5)).1 = 43 := by rw [hsf2.2.2.2.2.2.2.2.2.2.1]
  have ln4 : (S (rf R s 5)).2.1 = 16 := by rw [hsf2.2.2.2.2.2.2.2.2.2.1]
  have kd5 : (S (rf R s 6)).1 = 44 := by rw [hsf2.2.2.2.2.2.2.2.2.2.2.2]
  have ln5 : (S (rf R s 6)).2.1 = 16 := by rw [hsf2.2.2.2.2.2.2.2.2.2.2.2]
  have hsn2 := hsf2.2.2.1
  have hsm2 := hsf2.2.2.2.2.2.1
  have hs12 := hsk2.1
  have hs22 := hsk2.2.1
  have e0 : τ1 (rf R s 0) = D (rf R s 0) := fr_row τ1f (by have h9 := (hG s hs).1.1.2.1; exact h9) (by decide) (by decide)
  have hcd : ∀ k, 0 ≤ k → k < e → τ1 (rf R s 5) k = cdk (strN S R s) (D (rf R s 0)) e k := fun k a b => by have h9 := h1.2.2.1.2.2.1 k a b; rw [e0] at h9; exact h9
  have loop : ∀ (fu : Nat) (u : Int) (k : Int), (e - k).toNat < fu → (1 ≤ k ∧ k ≤ e) → (u = bndF (cdk (strN S R s) (D (rf R s 0)) e) (k - 1).toNat) → (0 ≤ u ∧ u ≤ 4 * (k - 1)) → gW Γ E (xM E S τ1 R) 0 0 10 [some (.ref s), some (.int (iI e)), some (.int (iI u)), some (.int (iI k))] [] := by
    intro fu
    induction fu with
    | zero => intro u k hn; exact absurd hn (Nat.not_lt_zero _)
    | succ fu ih_loop =>
      intro u k hn hk hu hur
      refine g_iload_n hΓ rfl dX8_turns_10 ?_
      refine g_iload_n hΓ rfl dX8_turns_11 ?_
      refine g_icmp_ge (tgt := 41) hΓ (by omega) (by omega) dX8_turns_12 (by decide) (fun c6 => ?_) (fun c6 => ?_)
      · refine g_iload_n hΓ rfl dX8_turns_41 ?_
        exact x_iret hΓ dX8_turns_42 (Nat.zero_le _) (Nat.zero_le _) ⟨ri (by rw [hu, show (e - 1).toNat = (k - 1).toNat by omega]), h1.1, rfl, τ1f, rfl⟩
      · refine g_iload_n hΓ rfl dX8_turns_15 ?_
        refine g_aload_n hΓ rfl dX8_turns_16 ?_
        refine x_geta (r := some (rf R s 5)) (c := 8) hE hΓ in_X8 rfl hs ⟨by decide, rfl⟩ 5 (ji := 5) rfl (by decide) (by decide) rfl q810 rfl rfl hsf2.2.2.2.2.2.2.2.2.1 dX8_turns_17 ?_
        show gW Γ E (xM E S τ1 R) 0 0 _ _ (.ref (rf R s 5) :: _)
        refine g_iload_n hΓ rfl dX8_turns_20 ?_
        refine g_iconst hΓ dX8_turns_21 ?_
        refine g_isub hΓ dX8_turns_22 ?_
        refine x_iald hΓ kd4 ln4 ⟨by decide, rfl⟩ (by omega) (by omega) dX8_turns_23 ?_
        refine g_aload_n hΓ rfl dX8_turns_24 ?_
        refine x_geta (r := some (rf R s 5)) (c := 8) hE hΓ in_X8 rfl hs ⟨by decide, rfl⟩ 5 (ji := 5) rfl (by decide) (by decide) rfl q810 rfl rfl hsf2.2.2.2.2.2.2.2.2.1 dX8_turns_25 ?_
        show gW Γ E (xM E S τ1 R) 0 0 _ _ (.ref (rf R s 5) :: _)
        refine g_iload_n hΓ rfl dX8_turns_28 ?_
        refine x_iald hΓ kd4 ln4 ⟨by decide, rfl⟩ (by omega) (by omega) dX8_turns_29 ?_
        have hc1 := hcd (k - 1) (by omega) (by omega)
        have hc2 := hcd k (by omega) (by omega)
        have hr1 := cdk_r (strN S R s) (D (rf R s 0)) e (k - 1)
        have hr2 := cdk_r (strN S R s) (D (rf R s 0)) e k
        have hr3 := apt_r hr1 hr2
        rw [← hc1, ← hc2] at hr3
        refine x_callSN (As := [.int (iI (τ1 (rf R s 5) (k - 1))), .int (iI (τ1 (rf R s 5) k))]) (rest := [.int (iI u)]) hΓ (x_X0_apart hE hX S τ1 R (τ1 (rf R s 5) (k - 1)) (τ1 (rf R s 5) k) (by first | assumption | omega) (by first | assumption | omega)) rfl (xn_985 hX) q217 q123 q218 ndX0_apart rfl (by decide) (by decide) (Nat.zero_le _) (Nat.zero_le _) rfl (Nat.le_of_ble_eq_true rfl) dX8_turns_30 rfl (fun v7 S7 τ7 ρ7 h7 => ?_)
        obtain ⟨rfl, S7e, τ7e, ρ7e⟩ := h7
        have S7e := S7e.symm; subst S7e
        have τ7e := τ7e.symm; subst τ7e
        have ρ7e := ρ7e.symm; subst ρ7e
        show gW Γ E (xM E S τ1 R) _ _ _ _ (.int (iI (apt (τ1 (rf R s 5) (k - 1)) (τ1 (rf R s 5) k))) :: _)
        refine g_iadd hΓ dX8_turns_33 ?_
        obtain ⟨x8, ex8⟩ : ∃ z9 : Int, z9 = u + (apt (τ1 (rf R s 5) (k - 1)) (τ1 (rf R s 5) k)) := ⟨_, rfl⟩
        refine g_topi ex8.symm ?_
        refine g_istore_n hΓ dX8_turns_34 rfl (Nat.le_of_ble_eq_true rfl) (lv' := [some (.ref s), some (.int (iI e)), some (.int (iI x8)), some (.int (iI k))]) rfl ?_
        obtain ⟨x9, ex9⟩ : ∃ z9 : Int, z9 = k + 1 := ⟨_, rfl⟩
        refine g_iinc hΓ dX8_turns_35 rfl rfl (lv' := [some (.ref s), some (.int (iI e)), some (.int (iI x8)), some (.int (iI x9))]) (by rw [ex9]; rfl) ?_
        refine g_goto (tgt := 10) hΓ dX8_turns_38 (by decide) ?_
        exact ih_loop x8 x9 (by omega) (by omega) (by rw [show (x9 - 1).toNat = (k - 1).toNat + 1 by omega, bndF, ← hu, show (((k - 1).toNat : Nat) : Int) = k - 1 by omega, show k - 1 + 1 = k by omega]; exact ex8.trans (by rw [hc1, hc2])) (by omega)
  refine g_iconst hΓ dX8_turns_6 ?_
  refine g_istore_n hΓ dX8_turns_7 rfl (Nat.le_of_ble_eq_true rfl) (lv' := [some (.ref s), some (.int (iI e)), some (.int (iI 0)), none]) rfl ?_
  refine g_iconst hΓ dX8_turns_8 ?_
  refine g_istore_n hΓ dX8_turns_9 rfl (Nat.le_of_ble_eq_true rfl) (lv' := [some (.ref s), some (.int (iI e)), some (.int (iI 0)), some (.int (iI 1))]) rfl ?_
  exact loop 17 0 1 (by omega) (by omega) rfl (by omega)
