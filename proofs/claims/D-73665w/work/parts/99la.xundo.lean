set_option maxRecDepth 100000
/-! ANOTHER STATE IS THE ONE OF NOW -/
def behQ (S : xS) (D : xD) (R : xR) (P : xPk) (σ : mS) (n : Nat) : Prop := D (P.2.1 5) 2 = σ 4 0 ∧ (0 ≤ σ 4 0 ∧ σ 4 0 ≤ 20) ∧ (∀ i, 0 ≤ i → i < σ 4 0 → stR S D R (lE R (P.2.1 5) i) (fun j => σ 3 (1048 * i + j)) ∧ rowOK (fun j => σ 3 (1048 * i + j))) ∧ dstR D R (P.2.1 5) (P.2.1 6) n ∧ (0 ≤ D (P.2.1 6) 2 ∧ D (P.2.1 6) 2 + σ 4 0 ≤ 20)
def undS (σ : mS) : mS := fun k j => if k = 0 then (if 0 ≤ j ∧ j < 1048 then σ 3 (1048 * (σ 4 0 - 1) + j) else σ 0 j) else if k = 4 ∧ j = 0 then σ 4 0 - 1 else σ k j
theorem undS_f {σ : mS} {k : Nat} (h : k ≠ 0 ∧ k ≠ 4) : undS σ k = σ k := by
  funext j
  rw [undS, if_neg h.1, if_neg (fun z => h.2 z.1)]
section UN
variable {E : gE} {Z : Nat → Nat} {S S1 : xS} {D D1 D2 : xD} {R R1 R2 : xR} {P : xPk} {σ : mS}
theorem penOK_4 (hp : penOK Z S R P) (r : Option Nat) : penOK Z S (ur R P.1 4 r) P := by
  obtain ⟨h1, h2, h3, h4, h5, h6, h7⟩ := hp
  have hgk : ∀ k : Nat, isPG k = true → isPA k = true := by
    intro k hk
    by_cases c : k < 38
    · have : ∀ i : Fin 38, isPG i.1 = true → isPA i.1 = true := by decide
      exact this ⟨k, c⟩ hk
    · exfalso
      unfold isPG at hk
      split at hk <;> first | omega | cases hk
  have n4 : isPA 4 = false := rfl
  have m4 : isPL 4 = false := rfl
  refine ⟨h1, fun k hk => ?_, fun k hk => ?_, fun k hk i a b => ?_, fun i hi => ?_, by rw [ur_n (Or.inr (by decide))]; exact h6, h7⟩
  · rw [ur_n (Or.inr (fun e => by have e4 : k = 4 := by omega
                                  rw [e4, n4] at hk; cases hk))]; exact h2 k hk
  · rw [ur_n (Or.inr (fun e => by have e4 : k = 4 := by omega
                                  rw [e4, m4] at hk; cases hk))]; exact h3 k hk
  · have k9 : (S (P.2.1 k)).1 = 50 + k := by rw [(h2 k (hgk k hk)).2]
    rw [ur_n (Or.inl (ne_k k9 h1 (by omega)))]; exact h4 k hk i a b
  · have k20 : (S (P.2.1 20)).1 = 3 := (h3 20 rfl).2
    have k21 : (S (P.2.1 21)).1 = 19 := (h3 21 rfl).2
    rw [ur_n (Or.inl (ne_k k20 h1 (by decide))), ur_n (Or.inl (ne_k k21 h1 (by decide)))]; exact h5 i hi
theorem Rx_4 (hg : GI E Z S D R) (hp : penOK Z S R P) (hki : KI E Z S D R) {s : Nat} (hst : stR S D R s (σ 0)) (hro : rowOK (σ 0)) (hb : behQ S D R P σ s) (hsa : P.2.1 99 = 0 → samR S D R P σ) (hpd : penD D P σ) : Rx E Z S D (ur R P.1 4 (some s)) P σ := by
  obtain ⟨R3, e3⟩ : ∃ z : xR, z = ur R P.1 4 (some s) := ⟨_, rfl⟩
  have hc : chg (fun q => q = P.1) S S D D R R3 := ⟨fun _ _ => rfl, fun _ _ _ => rfl, fun q _ h => by rw [e3]; exact ur_f h⟩
  have hT : ∀ q, q = P.1 → tk1 (S q).1 := fun q h => by rw [h]; exact hp.1
  have hT2 : ∀ q, q = P.1 → (S q).1 ≠ 12 ∧ (S q).1 ≠ 22 := fun q h => by rw [h, hp.1]; decide
  have hst9 : ∀ u, (S u).1 = 2 → stN (fun q => q = P.1) R u := fun u hu => by
    obtain ⟨t1, t2, t3, t4, t5, t6, t7, t8⟩ := hg.2.2.1 u hu
    have a := ls_nP (T := fun q => q = P.1) hT (by omega) (hg.2.1 (rf R u 0) (by omega) (by omega))
    have b := ls_nP (T := fun q => q = P.1) hT (by omega) (hg.2.1 (rf R u 1) (by omega) (by omega))
    refine ⟨a.1, a.2, b.1, b.2, fun h => ?_⟩
    have h9 := hT _ h
    rw [t8] at h9
    exact absurd h9 (by decide : ¬ (45 : Nat) = 1)
  have k5 := pL_k hp 5 rfl (n := 14) rfl
  have k6 := pL_k hp 6 rfl (n := 15) rfl
  have k31 := pL_k hp 31 rfl (n := 16) rfl
  have o5 := hg.2.1 (P.2.1 5) (by omega) (by omega)
  have o6 := hg.2.1 (P.2.1 6) (by omega) (by omega)
  have n5 := ls_nP (T := fun q => q = P.1) hT (by omega) o5
  have n6 := ls_nP (T := fun q => q = P.1) hT (by omega) o6
  have l5 := ls_chg hc (by omega) o5 n5.1 n5.2
  have l6 := ls_chg hc (by omega) o6 n6.1 n6.2
  have hg' : GI E Z S D R3 := GI_chgG hg hc (fun q h => by rw [h, hp.1]; decide) (fun a x y _ => by
      have n := ls_nP (T := fun q => q = P.1) hT ⟨x, y⟩ (hg.2.1 a x y)
      exact lsOK_chg hc ⟨x, y⟩ (hg.2.1 a x y) n.1 n.2) (fun q hq => by
    have h8 : ∀ k : Nat, k ≠ 0 → (S q).1 ≠ k := fun k hk e9 => hk (by rw [← e9]; exact hq)
    exact ⟨fun e9 => absurd e9 (h8 8 (by decide)), fun e9 => absurd e9 (h8 2 (by decide)), fun e9 => absurd e9 (h8 7 (by decide)), fun e9 => absurd e9 (h8 9 (by decide)), fun e9 => absurd e9 (h8 30 (by decide)), fun e9 => by rw [hq] at e9; exact absurd e9 (by decide)⟩)
  have e4 : R3 P.1 4 = some s := by rw [e3]; exact ur_s _ _ _ _
  have r4 : rf R3 P.1 4 = s := rf_s e4
  rw [← e3]
  refine ⟨hg', by rw [e3]; exact penOK_4 hp _, KI_chgP hc hT hki, hro, ⟨by rw [r4]; exact e4, by rw [r4]; exact stR_chgP hc hT hT2 hg (hst9 s hst.1) hst⟩, ?_, fun h0 => samR_chgP hc hT hT2 hg hp (ls_nP (T := fun q => q = P.1) hT (by omega) (hg.2.1 (P.2.1 31) (by omega) (by omega))) (hsa h0), hpd⟩
  obtain ⟨b1, b2, b3, b4, b5⟩ := hb
  refine ⟨b1, b2, fun i x y => ?_, ?_, b5⟩
  · rw [l5.2.2.2.1]
    exact ⟨stR_chgP hc hT hT2 hg (hst9 _ (b3 i x y).1.1) (b3 i x y).1, (b3 i x y).2⟩
  · simp only [dstR, l5.2.2.2.1, l6.2.2.2.1, r4]
    exact b4
theorem act_undo (hx : Rx E Z S D R P σ) (h0 : 0 < σ 4 0) (ha : GI E Z S1 D1 R1 ∧ D1 (P.2.1 6) 2 = D (P.2.1 6) 2 + 1 ∧ chg (lT S (P.2.1 6)) S S1 D D1 R R1 ∧ ∀ i, 0 ≤ i → i < D (P.2.1 6) 2 + 1 → lE R1 (P.2.1 6) i = if i = D (P.2.1 6) 2 then rf R P.1 4 else lE R (P.2.1 6) i) (hb : GI E Z S1 D2 R2 ∧ D2 (P.2.1 5) 2 = D1 (P.2.1 5) 2 - 1 ∧ chg (lT S1 (P.2.1 5)) S1 S1 D1 D2 R1 R2 ∧ ∀ j, 0 ≤ j → j < D1 (P.2.1 5) 2 - 1 → lE R2 (P.2.1 5) j = lE R1 (P.2.1 5) (if j < σ 4 0 - 1 then j else j + 1)) : Rx E Z S1 D2 (ur R2 P.1 4 (some (lE R1 (P.2.1 5) (σ 4 0 - 1)))) P (undS σ) := by
  obtain ⟨hg, hp, hki, hro, hnw, ⟨b1, b2, b3, ⟨d1, d2, d3, d4, d5⟩, b5⟩, hsa, hpd⟩ := id hx
  obtain ⟨ga, ea, hca, eA⟩ := ha
  obtain ⟨gb, eb, hcb, eB⟩ := hb
  have k5 := pL_k hp 5 rfl (n := 14) rfl
  have k6 := pL_k hp 6 rfl (n := 15) rfl
  have k31 := pL_k hp 31 rfl (n := 16) rfl
  have s5 := hca.1 (P.2.1 5) (by omega)
  have s6 := hca.1 (P.2.1 6) (by omega)
  have hTa := lT_pl (S := S) (a := P.2.1 6) (by omega)
  have hTab : ∀ q, lT S (P.2.1 6) q → tkB (S q).1 := fun q z => plK_b (hTa q z)
  have hTa2 : ∀ q, lT S (P.2.1 6) q → (S q).1 ≠ 12 ∧ (S q).1 ≠ 22 := fun q z => by have := hTa q z; omega
  have k5' : (S1 (P.2.1 5)).1 = 14 := by rw [s5]; exact k5
  have k6' : (S1 (P.2.1 6)).1 = 15 := by rw [s6]; exact k6
  have hTb := lT_pl (S := S1) (a := P.2.1 5) (by omega)
  have hTbb : ∀ q, lT S1 (P.2.1 5) q → tkB (S1 q).1 := fun q z => plK_b (hTb q z)
  have hTb2 : ∀ q, lT S1 (P.2.1 5) q → (S1 q).1 ≠ 12 ∧ (S1 q).1 ≠ 22 := fun q z => by have := hTb q z; omega
  have n5 := lT_o hg (a := P.2.1 6) (b := P.2.1 5) (by omega) (by omega) (ne_k k5 k6 (by decide))
  have l5 := ls_chg hca (by omega) (hg.2.1 (P.2.1 5) (by omega) (by omega)) n5.1 n5.2
  have n6 := lT_o ga (a := P.2.1 5) (b := P.2.1 6) (by omega) (by omega) (ne_k k6 k5 (by decide))
  have l6 := ls_chg hcb (by omega) (ga.2.1 (P.2.1 6) (by omega) (by omega)) n6.1 n6.2
  have hpa := penOK_chg hca hTab hp
  have hpb := penOK_chg hcb hTbb hpa
  have hka := KI_chg hca hTab hki
  have hkb := KI_chg hcb hTbb hka
  have toB : ∀ u r, stR S D R u r → stR S1 D2 R2 u r := fun u r h => stR_chg hcb hTbb hTb2 ga (plK_s hTb ga (by rw [hca.1 u (by rw [h.1]; decide)]; exact h.1)) (stR_chg hca hTab hTa2 hg (plK_s hTa hg h.1) h)
  have db : D1 (P.2.1 5) 2 = σ 4 0 := by rw [l5.2.2.1]; exact b1
  have eB2 : ∀ j, 0 ≤ j → j < σ 4 0 - 1 → lE R2 (P.2.1 5) j = lE R (P.2.1 5) j := fun j x y => by rw [eB j x (by omega), if_pos y, l5.2.2.2.1]
  have eU : ∀ j, 0 ≤ j → j < D (P.2.1 6) 2 → lE R2 (P.2.1 6) j = lE R (P.2.1 6) j := fun j x y => by rw [l6.2.2.2.1, eA j x (by omega), if_neg (by omega)]
  have eN : lE R2 (P.2.1 6) (D (P.2.1 6) 2) = rf R P.1 4 := by rw [l6.2.2.2.1, eA _ b5.1 (by omega), if_pos rfl]
  have hs : lE R1 (P.2.1 5) (σ 4 0 - 1) = lE R (P.2.1 5) (σ 4 0 - 1) := l5.2.2.2.1 _
  have hl := b3 (σ 4 0 - 1) (by omega) (by omega)
  have q : ∀ j, 0 ≤ j → j < 1048 → undS σ 0 j = σ 3 (1048 * (σ 4 0 - 1) + j) := fun j x y => by rw [undS, if_pos rfl, if_pos ⟨x, y⟩]
  rw [hs]
  have n31a := lT_o hg (a := P.2.1 6) (b := P.2.1 31) (by omega) (by omega) (ne_k k31 k6 (by decide))
  have s31 := hca.1 (P.2.1 31) (by omega)
  have k31' : (S1 (P.2.1 31)).1 = 16 := by rw [s31]; exact k31
  have n31b := lT_o ga (a := P.2.1 5) (b := P.2.1 31) (by omega) (by omega) (ne_k k31' k5' (by decide))
  refine Rx_4 gb hpb hkb (stR_congr hl.2 q (toB _ _ hl.1)) (rowOK_congr hl.2 q) ?_ (fun h9 => samR_to (τ := undS σ) (σ := σ) rfl (undS_f (by decide)) (undS_f (by decide)) (undS_f (by decide)) (undS_f (by decide)) (samR_chg hcb hTbb hTb2 ga hpa n31b (samR_chg hca hTab hTa2 hg hp n31a (hsa h9)))) (penD_to (fun k hk => undS_f (by simp at hk; omega)) (fun k hk => congrFun (undS_f (by simp at hk; omega)) 0) (penD_chg hcb hTbb hpa (penD_chg hca hTab hp hpd)))
  rw [behQ, show undS σ 4 0 = σ 4 0 - 1 from rfl, show undS σ 3 = σ 3 from undS_f (by decide)]
  have du : D2 (P.2.1 6) 2 = D (P.2.1 6) 2 + 1 := by rw [l6.2.2.1]; exact ea
  refine ⟨by omega, by omega, fun i x y => ?_, ⟨fun i j x y z => ?_, fun i j x y z => ?_, fun i x y => ?_, fun i x y => ?_, fun i j x y z u => ?_⟩, by omega⟩
  · rw [eB2 i x y]
    exact ⟨toB _ _ (b3 i x (by omega)).1, (b3 i x (by omega)).2⟩
  · rw [eB2 i x (by omega), eB2 j (by omega) (by omega)]; exact d1 i j x y (by omega)
  · rw [eU i x (by omega)]
    by_cases c : j = D (P.2.1 6) 2
    · rw [c, eN]; exact d4 i x (by omega)
    · rw [eU j (by omega) (by omega)]; exact d2 i j x y (by omega)
  · rw [eB2 i x (by omega)]; exact d1 i _ x (by omega) (by omega)
  · by_cases c : i = D (P.2.1 6) 2
    · rw [c, eN]; exact (d3 _ (by omega) (by omega)).symm
    · rw [eU i x (by omega)]; exact (d5 _ i (by omega) (by omega) x (by omega)).symm
  · rw [eB2 i x (by omega)]
    by_cases c : j = D (P.2.1 6) 2
    · rw [c, eN]; exact d3 i x (by omega)
    · rw [eU j z (by omega)]; exact d5 i j x (by omega) z (by omega)
end UN
