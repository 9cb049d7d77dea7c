set_option maxRecDepth 100000
/-! SAMPLES ARE TOLD, FORGOTTEN -/
def telS (σ : mS) (m : Int) : mS := fun k j => if k = 6 ∧ j = 0 then σ 6 0 + 1 else if k = 9 then up (σ 9) (σ 6 0) (σ 0 1009) j else if k = 10 then up (σ 10) (σ 6 0) m j else if k = 8 then tl8 σ (σ 0 1009) j else if k = 7 then tl7 σ (24 * σ 0 1009) j else σ k j
theorem telS_f {σ : mS} {m : Int} {k : Nat} (h : k ≠ 6 ∧ k ≠ 7 ∧ k ≠ 8 ∧ k ≠ 9 ∧ k ≠ 10) : telS σ m k = σ k := by
  funext j
  rw [telS, if_neg (fun z => h.1 z.1), if_neg h.2.2.2.1, if_neg h.2.2.2.2, if_neg h.2.2.1, if_neg h.2.1]
theorem telS_9 (σ : mS) (m : Int) : telS σ m 9 = up (σ 9) (σ 6 0) (σ 0 1009) := by funext j; rfl
theorem telS_10 (σ : mS) (m : Int) : telS σ m 10 = up (σ 10) (σ 6 0) m := by funext j; rfl
theorem telS_8 (σ : mS) (m : Int) : telS σ m 8 = tl8 σ (σ 0 1009) := by funext j; rfl
theorem telS_7 (σ : mS) (m : Int) : telS σ m 7 = tl7 σ (24 * σ 0 1009) := by funext j; rfl
section TE
variable {E : gE} {Z : Nat → Nat} {S S' : xS} {D D' : xD} {R R' : xR} {P : xPk} {σ : mS}
/-- only the samples' list changes -/
theorem Rx_sam {σ' : mS} (hx : Rx E Z S D R P σ) (hc : chg (lT S (P.2.1 31)) S S' D D' R R') (hg' : GI E Z S' D' R') (hσ : ∀ k ∈ [0, 3, 11, 13, 39], σ' k = σ k) (hσ0 : ∀ k ∈ [4, 5, 12, 14, 15, 40], σ' k 0 = σ k 0) (hs : P.2.1 99 = 0 → samR S' D' R' P σ') : Rx E Z S' D' R' P σ' := by
  obtain ⟨hg, hp, hki, hro, hnw, ⟨b1, b2, b3, b4, b5⟩, hsa, hpd⟩ := id hx
  have k5 := pL_k hp 5 rfl (n := 14) rfl
  have k6 := pL_k hp 6 rfl (n := 15) rfl
  have k31 := pL_k hp 31 rfl (n := 16) rfl
  have hT := lT_pl (S := S) (a := P.2.1 31) (by omega)
  have hTb : ∀ q, lT S (P.2.1 31) q → tkB (S q).1 := fun q z => plK_b (hT q z)
  have hT2 : ∀ q, lT S (P.2.1 31) q → (S q).1 ≠ 12 ∧ (S q).1 ≠ 22 := fun q z => by have := hT q z; omega
  have n5 := lT_o hg (a := P.2.1 31) (b := P.2.1 5) (by omega) (by omega) (ne_k k5 k31 (by decide))
  have n6 := lT_o hg (a := P.2.1 31) (b := P.2.1 6) (by omega) (by omega) (ne_k k6 k31 (by decide))
  have l5 := ls_chg hc (by omega) (hg.2.1 (P.2.1 5) (by omega) (by omega)) n5.1 n5.2
  have l6 := ls_chg hc (by omega) (hg.2.1 (P.2.1 6) (by omega) (by omega)) n6.1 n6.2
  have r4 : rf R' P.1 4 = rf R P.1 4 := cg_rf hc hTb hp.1 (by decide) (by decide) 4
  refine Rx_pl hx hc hT hg' (hσ 0 (by decide)) (fun k hk => hσ k (by simp at hk ⊢; omega)) (fun k hk => hσ0 k (by simp at hk ⊢; omega)) ?_ hs
  rw [behR, hσ 3 (by decide), hσ0 4 (by decide)]
  refine ⟨by rw [l5.2.2.1]; exact b1, b2, fun i x y => ?_, ?_, by rw [l6.2.2.1]; exact b5⟩
  · rw [l5.2.2.2.1]
    exact ⟨stR_chg hc hTb hT2 hg (plK_s hT hg (b3 i x y).1.1) (b3 i x y).1, (b3 i x y).2⟩
  · simp only [dstR, l5.2.2.1, l6.2.2.1, l5.2.2.2.1, l6.2.2.2.1, r4]
    exact b4
theorem act_ft (hx : Rx E Z S D R P σ) (h : GI E Z S D' R' ∧ D' (P.2.1 31) 2 = 0 ∧ chg (lT S (P.2.1 31)) S S D D' R R') : Rx E Z S D' R' P (us σ 6 0 0) := by
  refine Rx_sam hx h.2.2 h.1 (fun k hk => us_f (by simp at hk; omega)) (fun k hk => us_n (Or.inl (by simp at hk; omega))) (fun _ => ⟨by rw [us_s]; exact h.2.1, ⟨by rw [us_s]; decide, fun k x y => ?_⟩, fun k x y => ?_⟩)
  · rw [us_s] at y; omega
  · rw [us_s] at y; omega
theorem tel_np {m : Int} (h6 : 0 ≤ σ 6 0) (h9 : σ 0 1009 ≤ 8) : (∀ i, 0 ≤ i → i < σ 0 1009 → np (telS σ m) (40 + 8 * σ 6 0 + i) = σ 0 (960 + i) ∧ ∀ j, 0 ≤ j → j < 24 → nu (telS σ m) (40 + 8 * σ 6 0 + i) j = σ 0 (24 * i + j)) ∧ ∀ s, 40 ≤ s → s < 40 + 8 * σ 6 0 → np (telS σ m) s = np σ s ∧ ∀ j, 0 ≤ j → j < 24 → nu (telS σ m) s j = nu σ s j := by
  refine ⟨fun i x y => ⟨?_, fun j a b => ?_⟩, fun s x y => ⟨?_, fun j a b => ?_⟩⟩
  · rw [np, if_neg (by omega), telS_8, tl8, if_pos (by omega)]; congr 1; omega
  · rw [nu, if_neg (by omega), telS_7, tl7, if_pos (by omega)]; congr 1; omega
  · rw [np, np, if_neg (by omega), if_neg (by omega), telS_8, tl8, if_neg (by omega)]
  · rw [nu, nu, if_neg (by omega), if_neg (by omega), telS_7, tl7, if_neg (by omega)]
theorem act_tell {S0 : xS} {D0 : xD} {R0 : xR} (hx0 : Rx E Z S0 D0 R0 P σ) {m : Int} (hc : telC σ m) (hP0 : P.2.1 99 = 0) {q : Nat} (he : ext S0 S D0 D R0 R) (hx : Rx E Z S D R P σ) (kq : (S q).1 = 9) (hm : D q 0 = m) (hd : D (rf R (rf R q 1) 1) 2 = σ 0 1009) (hel : ∀ i, 0 ≤ i → i < σ 0 1009 → lE R (rf R (rf R q 1) 1) i = lE R0 (rf R0 (rf R0 P.1 4) 1) i) (h : GI E Z S' D' R' ∧ D' (P.2.1 31) 2 = D (P.2.1 31) 2 + 1 ∧ chg (lT S (P.2.1 31)) S S' D D' R R' ∧ ∀ i, 0 ≤ i → i < D (P.2.1 31) 2 + 1 → lE R' (P.2.1 31) i = if i = D (P.2.1 31) 2 then q else lE R (P.2.1 31) i) : Rx E Z S' D' R' P (telS σ m) := by
  obtain ⟨hg, hp, hki, hro, hnw, -, hsa, hpd⟩ := id hx
  obtain ⟨s1, ⟨t1, t2⟩, s3⟩ := hsa hP0
  obtain ⟨c1, c2, c3⟩ := hc
  have b9 := hro.2.1
  have b0 := hro.1
  have k31 := pL_k hp 31 rfl (n := 16) rfl
  have hT := lT_pl (S := S) (a := P.2.1 31) (by omega)
  have hTb : ∀ q, lT S (P.2.1 31) q → tkB (S q).1 := fun q z => plK_b (hT q z)
  have hT2 : ∀ q, lT S (P.2.1 31) q → (S q).1 ≠ 12 ∧ (S q).1 ≠ 22 := fun q z => by have := hT q z; omega
  obtain ⟨g', e2, hc9, eE⟩ := h
  obtain ⟨np1, np2⟩ := tel_np (σ := σ) (m := m) t1.1 b9.2
  refine Rx_sam hx hc9 g' (fun k hk => telS_f (by simp at hk; omega)) (fun k hk => congrFun (telS_f (by simp at hk; omega)) 0) (fun _ => ?_)
  have hls := hg.2.1 (P.2.1 31) (by omega) (by omega)
  have key : ∀ p, (S p).1 = 9 → D' p 0 = D p 0 ∧ ∀ τ first many, lsR S D R (rf R (rf R p 1) 1) τ first many → lsR S' D' R' (rf R' (rf R' p 1) 1) τ first many := fun p kp => by
    have hsf := hg.2.2.2.2.1 _ kp
    have hle := hg.2.2.2.1 _ hsf.2
    have q1 : rf R' p 1 = rf R p 1 := cg_rf hc9 hTb kp (by decide) (by decide) 1
    have q2 : rf R' (rf R p 1) 1 = rf R (rf R p 1) 1 := cg_rf hc9 hTb hsf.2 (by decide) (by decide) 1
    have n12 := ls12 hTb hT2 hle.2.2.2.1 (hg.2.1 _ (by rw [hle.2.2.2.1]; decide) (by rw [hle.2.2.2.1]; decide))
    exact ⟨by rw [cg_D hc9 hTb kp (by decide) (by decide)], fun τ first many hl => by rw [q1, q2]; exact lsR_chg hc9 hTb hg (by rw [hle.2.2.2.1]; decide) n12.1 n12.2 hl⟩
  have lsn : ∀ a k, 0 ≤ k → k < σ 6 0 → σ 9 k ≤ 8 → (∀ s, 40 + 8 * k ≤ s → s < 40 + 8 * k + σ 9 k → np σ s ≤ 12) → lsR S' D' R' a σ (40 + 8 * k) (σ 9 k) → lsR S' D' R' a (telS σ m) (40 + 8 * k) (σ 9 k) := fun a k x y z u hl => ⟨hl.1, fun i a9 b9 => by
    have w := np2 (40 + 8 * k + i) (by omega) (by omega)
    have w2 := u (40 + 8 * k + i) (by omega) (by omega)
    exact skR_to (hl.2 i a9 b9) w.1 (fun j x9 y9 => w.2 j x9 (by omega))⟩
  have hnowsk : ∀ i, 0 ≤ i → i < σ 0 1009 → skR S D R (lE R0 (rf R0 (rf R0 P.1 4) 1) i) (σ 0 (960 + i)) (fun j => σ 0 (24 * i + j)) := fun i x y => skR_ext he hx0.1.1 (hx0.2.2.2.2.1.2.2.2.2.1 i x y)
  have hsk := hro.2.2.2.2.2.2.2.2.2.1
  refine ⟨by rw [e2, s1]; rfl, ⟨by show 0 ≤ σ 6 0 + 1 ∧ σ 6 0 + 1 ≤ 8; omega, fun k x y => ?_⟩, fun k x y => ?_⟩
  · have y' : k < σ 6 0 + 1 := y
    rw [telS_9, telS_10]
    by_cases c : k = σ 6 0
    · rw [c, up_s, up_s]
      refine ⟨by omega, by omega, by omega, by omega, by omega, by omega, fun s a b => ?_⟩
      have w := np1 (s - (40 + 8 * σ 6 0)) (by omega) (by omega)
      rw [show 40 + 8 * σ 6 0 + (s - (40 + 8 * σ 6 0)) = s by omega] at w
      have w2 := hsk (s - (40 + 8 * σ 6 0)) (by omega) (by omega)
      rw [w.1]
      exact ⟨w2.1, w2.2.1, fun j x9 y9 => by rw [w.2 j x9 (by have := w2.2.1; omega)]; exact w2.2.2 j x9 y9⟩
    · rw [up_n (by omega), up_n (by omega)]
      have w := t2 k x (by omega)
      refine ⟨w.1, w.2.1, w.2.2.1, w.2.2.2.1, w.2.2.2.2.1, w.2.2.2.2.2.1, fun s a b => ?_⟩
      have w2 := w.2.2.2.2.2.2 s a b
      have w3 := np2 s (by omega) (by omega)
      rw [w3.1]
      exact ⟨w2.1, w2.2.1, fun j x9 y9 => by rw [w3.2 j x9 (by have := w2.2.1; omega)]; exact w2.2.2 j x9 y9⟩
  · have y' : k < σ 6 0 + 1 := y
    rw [eE k x (by rw [s1]; exact y'), s1, telS_9, telS_10]
    by_cases c : k = σ 6 0
    · rw [if_pos c, c, up_s, up_s]
      refine ⟨by rw [(key q kq).1]; exact hm, (key q kq).2 _ _ _ ⟨hd, fun i a b => ?_⟩⟩
      have w := np1 i a b
      have w2 := hsk i a b
      rw [hel i a b]
      exact skR_to (hnowsk i a b) w.1 (fun j x9 y9 => w.2 j x9 (by have := w2.2.1; omega))
    · rw [if_neg c, up_n (by omega), up_n (by omega)]
      have ke := (hls.2.2.2 k x (by rw [s1]; omega)).2
      rw [k31] at ke
      have ke9 : (S (lE R (P.2.1 31) k)).1 = 9 := ke
      have w := t2 k x (by omega)
      exact ⟨by rw [(key _ ke9).1]; exact (s3 k x (by omega)).1, lsn _ k x (by omega) w.1.2 (fun s a b => (w.2.2.2.2.2.2 s a b).2.1) ((key _ ke9).2 _ _ _ (s3 k x (by omega)).2)⟩
end TE
