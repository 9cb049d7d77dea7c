set_option maxRecDepth 100000
set_option maxHeartbeats 4000000 in
theorem x_X0_lambda_new_0 {l : Launch} {E : gE} {X : State → Prop} {Z : Nat → Nat} {Y : Nat → Option Nat} (hE : E.2.1 = clsX) (hX : xOK l E X Z Y) (S : xS) (D : xD) (R : xR) (x ra rb kb : Nat) (i j : Int) (hxk : (S x).1 = 1) (hA : R x 9 = some ra ∧ (S ra).1 = 43 ∧ (S ra).2.1 = 16) (hB : R x 10 = some rb ∧ (S rb).1 = kb ∧ (S rb).2.1 = 16) (hkb : 43 ≤ kb ∧ kb ≤ 44) (hi : 0 ≤ i ∧ i < 16) (hj : 0 ≤ j ∧ j < 16) (hc : (0 ≤ D ra i ∧ D ra i ≤ 7) ∧ (0 ≤ D rb j ∧ D rb j ≤ 7)) : xC l E X yX0_lambda_new_0 cX0_lambda_new_0 3 (some .int) 2 0 0 [.ref x, .int (iI i), .int (iI j)] S D R (fun rv S' D' R' => rv = some (.int (iI (apt (D ra i) (D rb j)))) ∧ S' = S ∧ D' = D ∧ R' = R) := by
  refine xC.of hX.1 (by decide) [some (.ref x), some (.int (iI i)), some (.int (iI j))] (Nat.le_of_ble_eq_true rfl) rfl rfl (fun Γ hΓ => ?_)
  refine g_aload_n hΓ rfl dX0_lambda_new_0_0 ?_
  refine x_geta (r := some ra) (c := 0) hE hΓ in_X0 rfl hxk ⟨by decide, rfl⟩ 9 (ji := 9) rfl (by decide) (by decide) rfl q255 rfl rfl hA.1 dX0_lambda_new_0_1 ?_
  show gW Γ E (xM E S D R) 0 0 _ _ (.ref ra :: _)
  refine g_iload_n hΓ rfl dX0_lambda_new_0_4 ?_
  refine x_iald hΓ hA.2.1 hA.2.2 ⟨by decide, rfl⟩ (by omega) (by omega) dX0_lambda_new_0_5 ?_
  refine g_aload_n hΓ rfl dX0_lambda_new_0_6 ?_
  refine x_geta (r := some rb) (c := 0) hE hΓ in_X0 rfl hxk ⟨by decide, rfl⟩ 10 (ji := 10) rfl (by decide) (by decide) rfl q256 rfl rfl hB.1 dX0_lambda_new_0_7 ?_
  show gW Γ E (xM E S D R) 0 0 _ _ (.ref rb :: _)
  refine g_iload_n hΓ rfl dX0_lambda_new_0_10 ?_
  refine x_iald hΓ hB.2.1 hB.2.2 (ks_43_44 hkb) (by omega) (by omega) dX0_lambda_new_0_11 ?_
  refine x_callS (As := [.int (iI (D ra i)), .int (iI (D rb j))]) (rest := []) hΓ (x_X0_apart hE hX S D R (D ra i) (D rb j) (by first | assumption | omega) (by first | assumption | omega)) rfl q216 q217 q123 q218 ndX0_apart rfl (by decide) (by decide) (Nat.zero_le _) (Nat.zero_le _) rfl (Nat.le_of_ble_eq_true rfl) dX0_lambda_new_0_12 rfl (fun v1 S1 τ1 ρ1 h1 => ?_)
  obtain ⟨rfl, S1e, τ1e, ρ1e⟩ := h1
  have S1e := S1e.symm; subst S1e
  have τ1e := τ1e.symm; subst τ1e
  have ρ1e := ρ1e.symm; subst ρ1e
  show gW Γ E (xM E S D R) _ _ _ _ (.int (iI (apt (D ra i) (D rb j))) :: _)
  exact x_iret hΓ dX0_lambda_new_0_15 (Nat.zero_le _) (Nat.zero_le _) ⟨rfl, rfl, rfl, rfl⟩
set_option maxHeartbeats 4000000 in
theorem x_X0_elasticBy {l : Launch} {E : gE} {X : State → Prop} {Z : Nat → Nat} {Y : Nat → Option Nat} (hE : E.2.1 = clsX) (hX : xOK l E X Z Y) (hL : xLam l E X (Z 20) (Z 21)) (S : xS) (D : xD) (R : xR) (P : xPk) (ra rb kb : Nat) (n w : Int) (hp : penOK Z S R P) (hA : R P.1 9 = some ra ∧ (S ra).1 = 43 ∧ (S ra).2.1 = 16) (hB : R P.1 10 = some rb ∧ (S rb).1 = kb ∧ (S rb).2.1 = 16) (hkb : 43 ≤ kb ∧ kb ≤ 44) (hn4 : 4 ≤ n ∧ n ≤ 16) (hw : 0 ≤ w ∧ w ≤ 16) (hc : ∀ k, 0 ≤ k → k < n → (0 ≤ D ra k ∧ D ra k ≤ 7) ∧ (0 ≤ D rb k ∧ D rb k ≤ 7)) (f : Int → Int → Int) (hf : ∀ i j, 0 ≤ i → i < n → 0 ≤ j → j < n → f i j = apt (D ra i) (D rb j)) (hfr : ∀ i j, 0 ≤ f i j ∧ f i j ≤ 4) (hAw : ∀ q, wk (S q).1 = true → E.2.2 q) : xC l E X yX0_elasticBy cX0_elasticBy 7 (some .int) 5 0 0 [.ref (P.1), .ref (Z 20), .int (iI n), .int (iI w)] S D R (fun rv S' D' R' => rv = some (.int (iI (fa (elT f n w 0 0)))) ∧ (∀ i j, 0 ≤ i → i < n → 0 ≤ j → j < n → D' (P.2.2 12 i) j = fa (elT f n w i j)) ∧ S' = S ∧ fr S D D' [112] ∧ R' = R) := by
  refine xC.of hX.1 (by decide) [some (.ref (P.1)), some (.ref (Z 20)), some (.int (iI n)), some (.int (iI w)), none, none, none] (Nat.le_of_ble_eq_true rfl) rfl rfl (fun Γ hΓ => ?_)
  have hz : P.1 = Z 21 := hp.2.2.2.2.2.2
  have out : ∀ (fu : Nat) (t : xD) (i : Int), (i + 1).toNat < fu → (-1 ≤ i ∧ i < n) → (fr S D t [112]) → (∀ i' j', (i < i' ∧ i' < n) → 0 ≤ j' → j' < n → t (P.2.2 12 i') j' = fa (elT f n w i' j')) → gW Γ E (xM E S t R) 0 0 5 [some (.ref (P.1)), some (.ref (Z 20)), some (.int (iI n)), some (.int (iI w)), some (.int (iI i)), none, none] [] := by
    intro fu
    induction fu with
    | zero => intro t i hn; exact absurd hn (Nat.not_lt_zero _)
    | succ fu ih_out =>
      intro t i hn hi ht hdn
      refine g_iload hΓ rfl dX0_elasticBy_5 ?_
      refine g_if_lt (tgt := 190) hΓ (by omega) dX0_elasticBy_7 (by decide) (fun c1 => ?_) (fun c1 => ?_)
      · refine g_aload_n hΓ rfl dX0_elasticBy_190 ?_
        refine x_geta (r := some (P.2.1 12)) (c := 0) hE hΓ in_X0 rfl hp.1 ⟨by decide, rfl⟩ 12 (ji := 12) rfl (by decide) (by decide) rfl q258 rfl rfl (pA_r hp 12 rfl rfl) dX0_elasticBy_191 ?_
        show gW Γ E (xM E S t R) 0 0 _ _ (.ref (P.2.1 12) :: _)
        refine g_iconst hΓ dX0_elasticBy_194 ?_
        refine x_aaldG (r := some (P.2.2 12 0)) hΓ (pA_k hp 12 rfl (n := 62) rfl) (pA_n hp 12 rfl (n := 16) rfl) ⟨by decide, rfl⟩ (by omega) (by omega) (pG_r hp 12 rfl (n := 16) rfl (i := 0) (by omega)) dX0_elasticBy_195 ?_
        show gW Γ E (xM E S t R) 0 0 _ _ (.ref (P.2.2 12 0) :: _)
        refine g_iconst hΓ dX0_elasticBy_196 ?_
        refine x_iald hΓ (pG_k hp 12 rfl (n := 16) rfl (i := 0) (by omega) (m := 112) rfl) (pG_n hp 12 rfl (n := 16) rfl (i := 0) (by omega) (m := 16) rfl) ⟨by decide, rfl⟩ (by omega) (by omega) dX0_elasticBy_197 ?_
        exact x_iret hΓ dX0_elasticBy_198 (Nat.zero_le _) (Nat.zero_le _) ⟨ri (hdn 0 0 (by omega) (by omega) (by omega)), (fun i' j' a b c d => hdn i' j' (by omega) c d), rfl, ht, rfl⟩
      · have inn : ∀ (fu : Nat) (t : xD) (j : Int), (j + 1).toNat < fu → (-1 ≤ j ∧ j < n) → (fr S D t [112]) → (∀ i' j', (i < i' ∧ i' < n) → 0 ≤ j' → j' < n → t (P.2.2 12 i') j' = fa (elT f n w i' j')) → (∀ j', j < j' → j' < n → t (P.2.2 12 i) j' = fa (elT f n w i j')) → gW Γ E (xM E S t R) 0 0 15 [some (.ref (P.1)), some (.ref (Z 20)), some (.int (iI n)), some (.int (iI w)), some (.int (iI i)), some (.int (iI j)), none] [] := by
          intro fu
          induction fu with
          | zero => intro t j hn; exact absurd hn (Nat.not_lt_zero _)
          | succ fu ih_inn =>
            intro t j hn hj ht hdn hdr
            have era : t ra = D ra := fr_row ht hA.2.1 (by decide) (by decide)
            have erb : t rb = D rb := fr_row ht hB.2.1 (by omega) (by intro h9; simp at h9; omega)
            refine g_iload hΓ rfl dX0_elasticBy_15 ?_
            refine g_if_lt (tgt := 184) hΓ (by omega) dX0_elasticBy_17 (by decide) (fun c2 => ?_) (fun c2 => ?_)
            · obtain ⟨x3, ex3⟩ : ∃ z9 : Int, z9 = i + (-1) := ⟨_, rfl⟩
              refine g_iinc hΓ dX0_elasticBy_184 rfl rfl (lv' := [some (.ref (P.1)), some (.ref (Z 20)), some (.int (iI n)), some (.int (iI w)), some (.int (iI x3)), some (.int (iI j)), none]) (by rw [ex3]; rfl) ?_
              refine g_goto (tgt := 5) hΓ dX0_elasticBy_187 (by decide) ?_
              refine g_lvw (lv' := [some (.ref (P.1)), some (.ref (Z 20)), some (.int (iI n)), some (.int (iI w)), some (.int (iI x3)), none, none]) ⟨rfl, ⟨rfl, ⟨rfl, ⟨rfl, ⟨rfl, trivial⟩⟩⟩⟩⟩ ?_
              exact ih_out t x3 (by omega) (by omega) ht (fun i' j' a b c => by
                by_cases c9 : i' = i
                · rw [c9]; exact hdr j' (by omega) c
                · exact hdn i' j' (by omega) b c)
            · have er := el_r (w := w) hfr hn4.2 (i := i) (j := j) (by omega) (by omega)
              have j131 : ∀ (r : Int), (r = el3 f n w i j) → gW Γ E (xM E S t R) 0 0 131 [some (.ref (P.1)), some (.ref (Z 20)), some (.int (iI n)), some (.int (iI w)), some (.int (iI i)), some (.int (iI j)), some (.int (iI r))] [] := by
                intro r hr
                have hfij := hfr i j
                rw [← hr] at er
                refine g_aload_n hΓ rfl dX0_elasticBy_131 ?_
                refine x_geta (r := some (P.2.1 12)) (c := 0) hE hΓ in_X0 rfl hp.1 ⟨by decide, rfl⟩ 12 (ji := 12) rfl (by decide) (by decide) rfl q258 rfl rfl (pA_r hp 12 rfl rfl) dX0_elasticBy_132 ?_
                show gW Γ E (xM E S t R) 0 0 _ _ (.ref (P.2.1 12) :: _)
                refine g_iload hΓ rfl dX0_elasticBy_135 ?_
                refine x_aaldG (r := some (P.2.2 12 i)) hΓ (pA_k hp 12 rfl (n := 62) rfl) (pA_n hp 12 rfl (n := 16) rfl) ⟨by decide, rfl⟩ (by omega) (by omega) (pG_r hp 12 rfl (n := 16) rfl (i := i) (by omega)) dX0_elasticBy_137 ?_
                show gW Γ E (xM E S t R) 0 0 _ _ (.ref (P.2.2 12 i) :: _)
                refine g_iload hΓ rfl dX0_elasticBy_138 ?_
                refine g_iload hΓ rfl dX0_elasticBy_140 ?_
                refine g_iload hΓ rfl dX0_elasticBy_142 ?_
                refine g_isub hΓ dX0_elasticBy_144 ?_
                refine x_callS (As := [.int (iI (i - j))]) (rest := [.int (iI j), .ref (P.2.2 12 i)]) hΓ (x_J3_abs hE hX S t R (i - j) (by first | assumption | omega)) rfl q219 q220 q129 q221 ndJ3_abs rfl (by decide) (by decide) (Nat.zero_le _) (Nat.zero_le _) rfl (Nat.le_of_ble_eq_true rfl) dX0_elasticBy_145 rfl (fun v4 S4 τ4 ρ4 h4 => ?_)
                obtain ⟨rfl, S4e, τ4e, ρ4e⟩ := h4
                have S4e := S4e.symm; subst S4e
                have τ4e := τ4e.symm; subst τ4e
                have ρ4e := ρ4e.symm; subst ρ4e
                show gW Γ E (xM E S t R) _ _ _ _ (.int (iI (if (i - j) < 0 then -(i - j) else (i - j))) :: _)
                refine g_iload_n hΓ rfl dX0_elasticBy_148 ?_
                refine g_icmp_le (tgt := 158) hΓ (by omega) (by omega) dX0_elasticBy_149 (by decide) (fun c5 => ?_) (fun c5 => ?_)
                · refine g_ldcw (n := 100000) hΓ rfl q1002 (by decide) dX0_elasticBy_158 ?_
                  refine g_iload hΓ rfl dX0_elasticBy_161 ?_
                  refine g_aload_n hΓ rfl dX0_elasticBy_163 ?_
                  refine g_iload hΓ rfl dX0_elasticBy_164 ?_
                  refine g_iload hΓ rfl dX0_elasticBy_166 ?_
                  refine hL Γ _ _ _ _ _ _ _ _ _ _ _ _ _ [.int (iI r), .int (iI 100000), .int (iI j), .ref (P.2.2 12 i)] _ _ _ _ hΓ rfl (x_X0_lambda_new_0 hE hX S t R (Z 21) ra rb kb i j (by rw [← hz]; exact hp.1) (by rw [← hz]; exact hA) (by rw [← hz]; exact hB) hkb (by omega) (by omega) (by rw [era, erb]; exact ⟨(hc i (by omega) (by omega)).1, (hc j (by omega) (by omega)).2⟩)) (by decide) rfl (Nat.le_of_ble_eq_true rfl) dX0_elasticBy_168 (fun v6 M6 h6 => ?_)
                  obtain ⟨S6, τ6, ρ6, M6e, rfl, S6e, τ6e, ρ6e⟩ := h6
                  rw [M6e, S6e, τ6e, ρ6e]
                  clear M6e S6e τ6e ρ6e
                  show gW Γ E (xM E S t R) _ _ _ _ (.int (iI (apt (t ra i) (t rb j))) :: _)
                  refine g_topi (show apt (t ra i) (t rb j) = f i j by rw [era, erb]; exact (hf _ _ (by omega) (by omega) (by omega) (by omega)).symm) ?_
                  refine g_iadd hΓ dX0_elasticBy_173 ?_
                  refine x_callS (As := [.int (iI 100000), .int (iI (r + (f i j)))]) (rest := [.int (iI j), .ref (P.2.2 12 i)]) hΓ (x_J3_min hE hX S t R 100000 (r + (f i j)) (by first | assumption | omega) (by first | assumption | omega)) rfl q222 q223 q129 q224 ndJ3_min rfl (by decide) (by decide) (Nat.zero_le _) (Nat.zero_le _) rfl (Nat.le_of_ble_eq_true rfl) dX0_elasticBy_174 rfl (fun v7 S7 τ7 ρ7 h7 => ?_)
                  obtain ⟨rfl, S7e, τ7e, ρ7e⟩ := h7
                  have S7e := S7e.symm; subst S7e
                  have τ7e := τ7e.symm; subst τ7e
                  have ρ7e := ρ7e.symm; subst ρ7e
                  show gW Γ E (xM E S t R) _ _ _ _ (.int (iI (min 100000 (r + (f i j)))) :: _)
                  refine x_iast hΓ (pG_k hp 12 rfl (n := 16) rfl (i := i) (by omega) (m := 112) rfl) (pG_n hp 12 rfl (n := 16) rfl (i := i) (by omega) (m := 16) rfl) ⟨by decide, rfl⟩ (hAw _ (by rw [(pG_k hp 12 rfl (n := 16) rfl (i := i) (by omega) (m := 112) rfl)]; rfl)) (by omega) (by omega) dX0_elasticBy_177 (fun τ8 τ8e => ?_)
                  have τ8r : τ8 (P.2.2 12 i) j = min 100000 (r + (f i j)) := by rw [τ8e]; exact us_s _ _ _ _
                  have τ8f : ∀ (q9 : Nat) (j9 : Int), (q9 ≠ (P.2.2 12 i) ∨ j9 ≠ j) → τ8 q9 j9 = t q9 j9 := fun q9 j9 hh => by rw [τ8e]; exact us_n hh
                  obtain ⟨x9, ex9⟩ : ∃ z9 : Int, z9 = j + (-1) := ⟨_, rfl⟩
                  refine g_iinc hΓ dX0_elasticBy_178 rfl rfl (lv' := [some (.ref (P.1)), some (.ref (Z 20)), some (.int (iI n)), some (.int (iI w)), some (.int (iI i)), some (.int (iI x9)), some (.int (iI r))]) (by rw [ex9]; rfl) ?_
                  refine g_goto (tgt := 15) hΓ dX0_elasticBy_181 (by decide) ?_
                  have hv : min 100000 (r + (f i j)) = fa (elT f n w i j) := by
                    rw [← el_end hfr hn4.2 (by omega) (by omega)]
                    first | (rw [if_pos (by omega)]; done) | (rw [if_neg (by omega), ← hr]; done)
                  refine g_lvw (lv' := [some (.ref (P.1)), some (.ref (Z 20)), some (.int (iI n)), some (.int (iI w)), some (.int (iI i)), some (.int (iI x9)), none]) ⟨rfl, ⟨rfl, ⟨rfl, ⟨rfl, ⟨rfl, ⟨rfl, trivial⟩⟩⟩⟩⟩⟩ ?_
                  exact ih_inn τ8 x9 (by omega) (by omega) (fun q9 j9 hk9 => (τ8f q9 j9 (Or.inl (fun e9 => hk9 (by rw [e9, pG_k hp 12 rfl (n := 16) rfl (i := i) (by omega) (m := 112) rfl, mdN _ (by decide)]; decide)))).trans (ht q9 j9 hk9)) (fun i' j' a b c => (τ8f _ _ (Or.inl (pG_i hp 12 rfl (n := 16) rfl (by omega) (by omega) (by omega)))).trans (hdn i' j' a b c)) (fun j' a b => by
                    by_cases c9 : j' = j
                    · rw [c9, τ8r]; exact hv
                    · exact (τ8f _ _ (Or.inr c9)).trans (hdr j' (by omega) b))
                · refine g_ldcw (n := 100000) hΓ rfl q1002 (by decide) dX0_elasticBy_152 ?_
                  refine g_goto (tgt := 177) hΓ dX0_elasticBy_155 (by decide) ?_
                  refine x_iast hΓ (pG_k hp 12 rfl (n := 16) rfl (i := i) (by omega) (m := 112) rfl) (pG_n hp 12 rfl (n := 16) rfl (i := i) (by omega) (m := 16) rfl) ⟨by decide, rfl⟩ (hAw _ (by rw [(pG_k hp 12 rfl (n := 16) rfl (i := i) (by omega) (m := 112) rfl)]; rfl)) (by omega) (by omega) dX0_elasticBy_177 (fun τ10 τ10e => ?_)
                  have τ10r : τ10 (P.2.2 12 i) j = 100000 := by rw [τ10e]; exact us_s _ _ _ _
                  have τ10f : ∀ (q9 : Nat) (j9 : Int), (q9 ≠ (P.2.2 12 i) ∨ j9 ≠ j) → τ10 q9 j9 = t q9 j9 := fun q9 j9 hh => by rw [τ10e]; exact us_n hh
                  obtain ⟨x11, ex11⟩ : ∃ z9 : Int, z9 = j + (-1) := ⟨_, rfl⟩
                  refine g_iinc hΓ dX0_elasticBy_178 rfl rfl (lv' := [some (.ref (P.1)), some (.ref (Z 20)), some (.int (iI n)), some (.int (iI w)), some (.int (iI i)), some (.int (iI x11)), some (.int (iI r))]) (by rw [ex11]; rfl) ?_
                  refine g_goto (tgt := 15) hΓ dX0_elasticBy_181 (by decide) ?_
                  have hv : 100000 = fa (elT f n w i j) := by
                    rw [← el_end hfr hn4.2 (by omega) (by omega)]
                    first | (rw [if_pos (by omega)]; done) | (rw [if_neg (by omega), ← hr]; done)
                  refine g_lvw (lv' := [some (.ref (P.1)), some (.ref (Z 20)), some (.int (iI n)), some (.int (iI w)), some (.int (iI i)), some (.int (iI x11)), none]) ⟨rfl, ⟨rfl, ⟨rfl, ⟨rfl, ⟨rfl, ⟨rfl, trivial⟩⟩⟩⟩⟩⟩ ?_
                  exact ih_inn τ10 x11 (by omega) (by omega) (fun q9 j9 hk9 => (τ10f q9 j9 (Or.inl (fun e9 => hk9 (by rw [e9, pG_k hp 12 rfl (n := 16) rfl (i := i) (by omega) (m := 112) rfl, mdN _ (by decide)]; decide)))).trans (ht q9 j9 hk9)) (fun i' j' a b c => (τ10f _ _ (Or.inl (pG_i hp 12 rfl (n := 16) rfl (by omega) (by omega) (by omega)))).trans (hdn i' j' a b c)) (fun j' a b => by
                    by_cases c9 : j' = j
                    · rw [c9, τ10r]; exact hv
                    · exact (τ10f _ _ (Or.inr c9)).trans (hdr j' (by omega) b))
              have j104 : ∀ (r : Int), (r = el2 f n w i j) → gW Γ E (xM E S t R) 0 0 104 [some (.ref (P.1)), some (.ref (Z 20)), some (.int (iI n)), some (.int (iI w)), some (.int (iI i)), some (.int (iI j)), some (.int (iI r))] [] := by
                intro r hr
                rw [← hr] at er
                have efa := fun (h9 : j < n - 1) => fa_r (elT_ok (w := w) hfr hn4.2 (i := i) (j := j + 1) (by omega) (by omega))
                refine g_iload hΓ rfl dX0_elasticBy_104 ?_
                refine g_iload_n hΓ rfl dX0_elasticBy_106 ?_
                refine g_iconst hΓ dX0_elasticBy_107 ?_
                refine g_isub hΓ dX0_elasticBy_108 ?_
                refine g_icmp_ge (tgt := 131) hΓ (by omega) (by omega) dX0_elasticBy_109 (by decide) (fun c12 => ?_) (fun c12 => ?_)
                · exact j131 r (by rw [el3]; first | (rw [if_pos (by omega), ← hr]; exact er) | (rw [if_neg (by omega)]; exact hr))
                · refine g_iload hΓ rfl dX0_elasticBy_112 ?_
                  refine g_aload_n hΓ rfl dX0_elasticBy_114 ?_
                  refine x_geta (r := some (P.2.1 12)) (c := 0) hE hΓ in_X0 rfl hp.1 ⟨by decide, rfl⟩ 12 (ji := 12) rfl (by decide) (by decide) rfl q258 rfl rfl (pA_r hp 12 rfl rfl) dX0_elasticBy_115 ?_
                  show gW Γ E (xM E S t R) 0 0 _ _ (.ref (P.2.1 12) :: _)
                  refine g_iload hΓ rfl dX0_elasticBy_118 ?_
                  refine x_aaldG (r := some (P.2.2 12 i)) hΓ (pA_k hp 12 rfl (n := 62) rfl) (pA_n hp 12 rfl (n := 16) rfl) ⟨by decide, rfl⟩ (by omega) (by omega) (pG_r hp 12 rfl (n := 16) rfl (i := i) (by omega)) dX0_elasticBy_120 ?_
                  show gW Γ E (xM E S t R) 0 0 _ _ (.ref (P.2.2 12 i) :: _)
                  refine g_iload hΓ rfl dX0_elasticBy_121 ?_
                  refine g_iconst hΓ dX0_elasticBy_123 ?_
                  refine g_iadd hΓ dX0_elasticBy_124 ?_
                  refine x_iald hΓ (pG_k hp 12 rfl (n := 16) rfl (i := i) (by omega) (m := 112) rfl) (pG_n hp 12 rfl (n := 16) rfl (i := i) (by omega) (m := 16) rfl) ⟨by decide, rfl⟩ (by omega) (by omega) dX0_elasticBy_125 ?_
                  refine g_topi ((hdr (j + 1) (by omega) (by omega))) ?_
                  refine x_callS (As := [.int (iI r), .int (iI (fa (elT f n w i (j + 1))))]) (rest := []) hΓ (x_J3_min hE hX S t R r (fa (elT f n w i (j + 1))) (by first | assumption | omega) (by first | assumption | omega)) rfl q222 q223 q129 q224 ndJ3_min rfl (by decide) (by decide) (Nat.zero_le _) (Nat.zero_le _) rfl (Nat.le_of_ble_eq_true rfl) dX0_elasticBy_126 rfl (fun v13 S13 τ13 ρ13 h13 => ?_)
                  obtain ⟨rfl, S13e, τ13e, ρ13e⟩ := h13
                  have S13e := S13e.symm; subst S13e
                  have τ13e := τ13e.symm; subst τ13e
                  have ρ13e := ρ13e.symm; subst ρ13e
                  show gW Γ E (xM E S t R) _ _ _ _ (.int (iI (min r (fa (elT f n w i (j + 1))))) :: _)
                  obtain ⟨x14, ex14⟩ : ∃ z9 : Int, z9 = min r (fa (elT f n w i (j + 1))) := ⟨_, rfl⟩
                  refine g_topi ex14.symm ?_
                  refine g_istore hΓ dX0_elasticBy_129 rfl (Nat.le_of_ble_eq_true rfl) (lv' := [some (.ref (P.1)), some (.ref (Z 20)), some (.int (iI n)), some (.int (iI w)), some (.int (iI i)), some (.int (iI j)), some (.int (iI x14))]) rfl ?_
                  exact j131 x14 (by rw [el3]; first | (rw [if_pos (by omega), ← hr]; exact ex14) | (rw [if_neg (by omega)]; exact hr))
              have j77 : ∀ (r : Int), (r = el1 f n w i j) → gW Γ E (xM E S t R) 0 0 77 [some (.ref (P.1)), some (.ref (Z 20)), some (.int (iI n)), some (.int (iI w)), some (.int (iI i)), some (.int (iI j)), some (.int (iI r))] [] := by
                intro r hr
                rw [← hr] at er
                have efa := fun (h9 : i < n - 1) => fa_r (elT_ok (w := w) hfr hn4.2 (i := i + 1) (j := j) (by omega) (by omega))
                refine g_iload hΓ rfl dX0_elasticBy_77 ?_
                refine g_iload_n hΓ rfl dX0_elasticBy_79 ?_
                refine g_iconst hΓ dX0_elasticBy_80 ?_
                refine g_isub hΓ dX0_elasticBy_81 ?_
                refine g_icmp_ge (tgt := 104) hΓ (by omega) (by omega) dX0_elasticBy_82 (by decide) (fun c15 => ?_) (fun c15 => ?_)
                · exact j104 r (by rw [el2]; first | (rw [if_pos (by omega), ← hr]; exact er) | (rw [if_neg (by omega)]; exact hr))
                · refine g_iload hΓ rfl dX0_elasticBy_85 ?_
                  refine g_aload_n hΓ rfl dX0_elasticBy_87 ?_
                  refine x_geta (r := some (P.2.1 12)) (c := 0) hE hΓ in_X0 rfl hp.1 ⟨by decide, rfl⟩ 12 (ji := 12) rfl (by decide) (by decide) rfl q258 rfl rfl (pA_r hp 12 rfl rfl) dX0_elasticBy_88 ?_
                  show gW Γ E (xM E S t R) 0 0 _ _ (.ref (P.2.1 12) :: _)
                  refine g_iload hΓ rfl dX0_elasticBy_91 ?_
                  refine g_iconst hΓ dX0_elasticBy_93 ?_
                  refine g_iadd hΓ dX0_elasticBy_94 ?_
                  refine x_aaldG (r := some (P.2.2 12 (i + 1))) hΓ (pA_k hp 12 rfl (n := 62) rfl) (pA_n hp 12 rfl (n := 16) rfl) ⟨by decide, rfl⟩ (by omega) (by omega) (pG_r hp 12 rfl (n := 16) rfl (i := i + 1) (by omega)) dX0_elasticBy_95 ?_
                  show gW Γ E (xM E S t R) 0 0 _ _ (.ref (P.2.2 12 (i + 1)) :: _)
                  refine g_iload hΓ rfl dX0_elasticBy_96 ?_
                  refine x_iald hΓ (pG_k hp 12 rfl (n := 16) rfl (i := (i + 1)) (by omega) (m := 112) rfl) (pG_n hp 12 rfl (n := 16) rfl (i := (i + 1)) (by omega) (m := 16) rfl) ⟨by decide, rfl⟩ (by omega) (by omega) dX0_elasticBy_98 ?_
                  refine g_topi ((hdn (i + 1) j (by omega) (by omega) (by omega))) ?_
                  refine x_callS (As := [.int (iI r), .int (iI (fa (elT f n w (i + 1) j)))]) (rest := []) hΓ (x_J3_min hE hX S t R r (fa (elT f n w (i + 1) j)) (by first | assumption | omega) (by first | assumption | omega)) rfl q222 q223 q129 q224 ndJ3_min rfl (by decide) (by decide) (Nat.zero_le _) (Nat.zero_le _) rfl (Nat.le_of_ble_eq_true rfl) dX0_elasticBy_99 rfl (fun v16 S16 τ16 ρ16 h16 => ?_)
                  obtain ⟨rfl, S16e, τ16e, ρ16e⟩ := h16
                  have S16e := S16e.symm; subst S16e
                  have τ16e := τ16e.symm; subst τ16e
                  have ρ16e := ρ16e.symm; subst ρ16e
                  show gW Γ E (xM E S t R) _ _ _ _ (.int (iI (min r (fa (elT f n w (i + 1) j)))) :: _)
                  obtain ⟨x17, ex17⟩ : ∃ z9 : Int, z9 = min r (fa (elT f n w (i + 1) j)) := ⟨_, rfl⟩
                  refine g_topi ex17.symm ?_
                  refine g_istore hΓ dX0_elasticBy_102 rfl (Nat.le_of_ble_eq_true rfl) (lv' := [some (.ref (P.1)), some (.ref (Z 20)), some (.int (iI n)), some (.int (iI w)), some (.int (iI i)), some (.int (iI j)), some (.int (iI x17))]) rfl ?_
                  exact j104 x17 (by rw [el2]; first | (rw [if_pos (by omega), ← hr]; exact ex17) | (rw [if_neg (by omega)]; exact hr))
              have j45 : ∀ (r : Int), (r = el0 n i j) → gW Γ E (xM E S t R) 0 0 45 [some (.ref (P.1)), some (.ref (Z 20)), some (.int (iI n)), some (.int (iI w)), some (.int (iI i)), some (.int (iI j)), some (.int (iI r))] [] := by
                intro r hr
                refine g_iload hΓ rfl dX0_elasticBy_45 ?_
                refine g_iload_n hΓ rfl dX0_elasticBy_47 ?_
                refine g_iconst hΓ dX0_elasticBy_48 ?_
                refine g_isub hΓ dX0_elasticBy_49 ?_
                refine g_icmp_ge (tgt := 77) hΓ (by omega) (by omega) dX0_elasticBy_50 (by decide) (fun c18 => ?_) (fun c18 => ?_)
                · exact j77 r (by rw [el1]; first | (rw [if_pos (by omega)]; exact er) | (rw [if_neg (by omega)]; exact hr))
                · refine g_iload hΓ rfl dX0_elasticBy_53 ?_
                  refine g_iload_n hΓ rfl dX0_elasticBy_55 ?_
                  refine g_iconst hΓ dX0_elasticBy_56 ?_
                  refine g_isub hΓ dX0_elasticBy_57 ?_
                  refine g_icmp_ge (tgt := 77) hΓ (by omega) (by omega) dX0_elasticBy_58 (by decide) (fun c19 => ?_) (fun c19 => ?_)
                  · exact j77 r (by rw [el1]; first | (rw [if_pos (by omega)]; exact er) | (rw [if_neg (by omega)]; exact hr))
                  · refine g_aload_n hΓ rfl dX0_elasticBy_61 ?_
                    refine x_geta (r := some (P.2.1 12)) (c := 0) hE hΓ in_X0 rfl hp.1 ⟨by decide, rfl⟩ 12 (ji := 12) rfl (by decide) (by decide) rfl q258 rfl rfl (pA_r hp 12 rfl rfl) dX0_elasticBy_62 ?_
                    show gW Γ E (xM E S t R) 0 0 _ _ (.ref (P.2.1 12) :: _)
                    refine g_iload hΓ rfl dX0_elasticBy_65 ?_
                    refine g_iconst hΓ dX0_elasticBy_67 ?_
                    refine g_iadd hΓ dX0_elasticBy_68 ?_
                    refine x_aaldG (r := some (P.2.2 12 (i + 1))) hΓ (pA_k hp 12 rfl (n := 62) rfl) (pA_n hp 12 rfl (n := 16) rfl) ⟨by decide, rfl⟩ (by omega) (by omega) (pG_r hp 12 rfl (n := 16) rfl (i := i + 1) (by omega)) dX0_elasticBy_69 ?_
                    show gW Γ E (xM E S t R) 0 0 _ _ (.ref (P.2.2 12 (i + 1)) :: _)
                    refine g_iload hΓ rfl dX0_elasticBy_70 ?_
                    refine g_iconst hΓ dX0_elasticBy_72 ?_
                    refine g_iadd hΓ dX0_elasticBy_73 ?_
                    refine x_iald hΓ (pG_k hp 12 rfl (n := 16) rfl (i := (i + 1)) (by omega) (m := 112) rfl) (pG_n hp 12 rfl (n := 16) rfl (i := (i + 1)) (by omega) (m := 16) rfl) ⟨by decide, rfl⟩ (by omega) (by omega) dX0_elasticBy_74 ?_
                    refine g_topi ((hdn (i + 1) (j + 1) (by omega) (by omega) (by omega))) ?_
                    obtain ⟨x20, ex20⟩ : ∃ z9 : Int, z9 = fa (elT f n w (i + 1) (j + 1)) := ⟨_, rfl⟩
                    refine g_topi ex20.symm ?_
                    refine g_istore hΓ dX0_elasticBy_75 rfl (Nat.le_of_ble_eq_true rfl) (lv' := [some (.ref (P.1)), some (.ref (Z 20)), some (.int (iI n)), some (.int (iI w)), some (.int (iI i)), some (.int (iI j)), some (.int (iI x20))]) rfl ?_
                    exact j77 x20 (by rw [el1]; first | (rw [if_pos (by omega)]; exact ex20) | (rw [if_neg (by omega)]; exact hr))
              refine g_iload hΓ rfl dX0_elasticBy_20 ?_
              refine g_iload_n hΓ rfl dX0_elasticBy_22 ?_
              refine g_iconst hΓ dX0_elasticBy_23 ?_
              refine g_isub hΓ dX0_elasticBy_24 ?_
              refine g_icmp_ne (tgt := 40) hΓ (by omega) (by omega) dX0_elasticBy_25 (by decide) (fun c21 => ?_) (fun c21 => ?_)
              · refine g_ldcw (n := 100000) hΓ rfl q1002 (by decide) dX0_elasticBy_40 ?_
                refine g_istore hΓ dX0_elasticBy_43 rfl (Nat.le_of_ble_eq_true rfl) (lv' := [some (.ref (P.1)), some (.ref (Z 20)), some (.int (iI n)), some (.int (iI w)), some (.int (iI i)), some (.int (iI j)), some (.int (iI 100000))]) rfl ?_
                exact j45 100000 (by rw [el0]; first | (rw [if_pos (by omega)]; done) | (rw [if_neg (by omega)]; done))
              · refine g_iload hΓ rfl dX0_elasticBy_28 ?_
                refine g_iload_n hΓ rfl dX0_elasticBy_30 ?_
                refine g_iconst hΓ dX0_elasticBy_31 ?_
                refine g_isub hΓ dX0_elasticBy_32 ?_
                refine g_icmp_ne (tgt := 40) hΓ (by omega) (by omega) dX0_elasticBy_33 (by decide) (fun c22 => ?_) (fun c22 => ?_)
                · refine g_ldcw (n := 100000) hΓ rfl q1002 (by decide) dX0_elasticBy_40 ?_
                  refine g_istore hΓ dX0_elasticBy_43 rfl (Nat.le_of_ble_eq_true rfl) (lv' := [some (.ref (P.1)), some (.ref (Z 20)), some (.int (iI n)), some (.int (iI w)), some (.int (iI i)), some (.int (iI j)), some (.int (iI 100000))]) rfl ?_
                  exact j45 100000 (by rw [el0]; first | (rw [if_pos (by omega)]; done) | (rw [if_neg (by omega)]; done))
                · refine g_iconst hΓ dX0_elasticBy_36 ?_
                  refine g_goto (tgt := 43) hΓ dX0_elasticBy_37 (by decide) ?_
                  refine g_istore hΓ dX0_elasticBy_43 rfl (Nat.le_of_ble_eq_true rfl) (lv' := [some (.ref (P.1)), some (.ref (Z 20)), some (.int (iI n)), some (.int (iI w)), some (.int (iI i)), some (.int (iI j)), some (.int (iI 0))]) rfl ?_
                  exact j45 0 (by rw [el0]; first | (rw [if_pos (by omega)]; done) | (rw [if_neg (by omega)]; done))
        refine g_iload_n hΓ rfl dX0_elasticBy_10 ?_
        refine g_iconst hΓ dX0_elasticBy_11 ?_
        refine g_isub hΓ dX0_elasticBy_12 ?_
        obtain ⟨x23, ex23⟩ : ∃ z9 : Int, z9 = n - 1 := ⟨_, rfl⟩
        refine g_topi ex23.symm ?_
        refine g_istore hΓ dX0_elasticBy_13 rfl (Nat.le_of_ble_eq_true rfl) (lv' := [some (.ref (P.1)), some (.ref (Z 20)), some (.int (iI n)), some (.int (iI w)), some (.int (iI i)), some (.int (iI x23)), none]) rfl ?_
        rw [ex23]
        exact inn 17 t (n - 1) (by omega) (by omega) ht hdn (fun j' a b => absurd a (by omega))
  refine g_iload_n hΓ rfl dX0_elasticBy_0 ?_
  refine g_iconst hΓ dX0_elasticBy_1 ?_
  refine g_isub hΓ dX0_elasticBy_2 ?_
  obtain ⟨x24, ex24⟩ : ∃ z9 : Int, z9 = n - 1 := ⟨_, rfl⟩
  refine g_topi ex24.symm ?_
  refine g_istore hΓ dX0_elasticBy_3 rfl (Nat.le_of_ble_eq_true rfl) (lv' := [some (.ref (P.1)), some (.ref (Z 20)), some (.int (iI n)), some (.int (iI w)), some (.int (iI x24)), none, none]) rfl ?_
  rw [ex24]
  exact out 17 D (n - 1) (by omega) (by omega) fr_rfl (fun i' j' a b c => absurd a.1 (by omega))
