set_option maxRecDepth 100000
/-! ACTS, by what the lists' methods have done -/
section AT
variable {E : gE} {Z : Nat → Nat} {S S' : xS} {D D' : xD} {R R' : xR} {P : xPk} {σ : mS}
theorem kNI (hx : Rx E Z S D R P σ) : (S (rf R (rf R P.1 4) 1)).1 = 10 ∧ (S (rf R (rf R P.1 4) 0)).1 = 11 := ⟨(hx.1.2.2.1 _ hx.2.2.2.2.1.2.1).2.2.2.2.1, (hx.1.2.2.1 _ hx.2.2.2.2.1.2.1).2.1⟩
theorem act_lift (hx : Rx E Z S D R P σ) {k : Int} (hk : 0 ≤ k ∧ k < σ 0 1009) (h : GI E Z S D' R' ∧ D' (rf R (rf R P.1 4) 1) 2 = D (rf R (rf R P.1 4) 1) 2 - 1 ∧ chg (lT S (rf R (rf R P.1 4) 1)) S S D D' R R' ∧ ∀ j, 0 ≤ j → j < D (rf R (rf R P.1 4) 1) 2 - 1 → lE R' (rf R (rf R P.1 4) 1) j = lE R (rf R (rf R P.1 4) 1) (if j < k then j else j + 1)) : Rx E Z S D' R' P (rowS σ (lifF (σ 0) k)) := by
  have hs := hx.2.2.2.2.1.2
  have hr := hx.2.2.2.1
  have b9 := hr.2.1
  have e9 : lifF (σ 0) k 1009 = σ 0 1009 - 1 := by rw [lifF, if_pos rfl]
  have kk := (kNI hx).1
  refine Rx_ink hx h.1 h.2.2.1 (by rw [h.2.1, hs.2.2.1, e9]) (by rw [e9]; omega) (fun i x y => ?_) (fun j a b => lifF_hi hk.1 (by omega) (by omega) b)
  rw [e9] at y
  have w := lifF_pt (r := σ 0) hk.1 (by omega) ⟨x, y⟩
  have z := hs.2.2.2.1 (if i < k then i else i + 1) (by split <;> omega) (by split <;> omega)
  have z2 := (hr.2.2.2.2.2.2.2.2.2.1 (if i < k then i else i + 1) (by split <;> omega) (by split <;> omega)).2.1
  rw [h.2.2.2 i x (by rw [hs.2.2.1]; exact y)]
  exact skR_to (skR_chg h.2.2.1 (lT_k (by omega)) hx.1.1 z) w.1 (fun j x9 y9 => w.2 j x9 (by omega))
theorem act_clear (hx : Rx E Z S D R P σ) (h : GI E Z S D' R' ∧ D' (rf R (rf R P.1 4) 1) 2 = 0 ∧ chg (lT S (rf R (rf R P.1 4) 1)) S S D D' R R') : Rx E Z S D' R' P (rowS σ (up (σ 0) 1009 0)) := by
  refine Rx_ink hx h.1 h.2.2 (by rw [h.2.1, up_s]) (by rw [up_s]; decide) (fun i x y => ?_) (fun j a b => up_n b)
  rw [up_s] at y
  omega
theorem skF_at {r : Int → Int} {n : Int} {f : Int → Int} (h9 : 0 ≤ r 1009 ∧ r 1009 < 8) (hn : 0 ≤ n ∧ n ≤ 24) : skF r n f 1009 = r 1009 + 1 ∧ skF r n f (960 + r 1009) = n / 2 ∧ (∀ j, 0 ≤ j → j < n → skF r n f (24 * r 1009 + j) = f j) ∧ (∀ i, 0 ≤ i → i < r 1009 → skF r n f (960 + i) = r (960 + i) ∧ ∀ j, 0 ≤ j → j < 24 → skF r n f (24 * i + j) = r (24 * i + j)) ∧ ∀ j, (192 ≤ j ∧ j < 960 ∨ 968 ≤ j) → j ≠ 1009 → skF r n f j = r j := by
  refine ⟨by rw [skF, if_pos rfl], by rw [skF, if_neg (by omega), if_pos rfl], fun j x y => ?_, fun i x y => ⟨?_, fun j a b => ?_⟩, fun j a b => ?_⟩
  · rw [skF, if_neg (by omega), if_neg (by omega), if_pos (by omega)]; congr 1; omega
  · rw [skF, if_neg (by omega), if_neg (by omega), if_neg (by omega)]
  · rw [skF, if_neg (by omega), if_neg (by omega), if_neg (by omega)]
  · rw [skF, if_neg b, if_neg (by omega), if_neg (by omega)]
theorem act_sk (hx : Rx E Z S D R P σ) {n : Int} {f : Int → Int} (h9 : σ 0 1009 < 8) (hn : 4 ≤ n ∧ n ≤ 24 ∧ n % 2 = 0) {s : Nat} (hk : skR S D R s (n / 2) f) (h : GI E Z S' D' R' ∧ D' (rf R (rf R P.1 4) 1) 2 = D (rf R (rf R P.1 4) 1) 2 + 1 ∧ chg (lT S (rf R (rf R P.1 4) 1)) S S' D D' R R' ∧ ∀ i, 0 ≤ i → i < D (rf R (rf R P.1 4) 1) 2 + 1 → lE R' (rf R (rf R P.1 4) 1) i = if i = D (rf R (rf R P.1 4) 1) 2 then s else lE R (rf R (rf R P.1 4) 1) i) : Rx E Z S' D' R' P (rowS σ (skF (σ 0) n f)) := by
  have hs := hx.2.2.2.2.1.2
  have hr := hx.2.2.2.1
  have b9 := hr.2.1
  have kk := (kNI hx).1
  obtain ⟨a1, a2, a3, a4, a5⟩ := skF_at (r := σ 0) (n := n) (f := f) ⟨b9.1, h9⟩ (by omega)
  refine Rx_ink hx h.1 h.2.2.1 (by rw [h.2.1, hs.2.2.1, a1]) (by rw [a1]; omega) (fun i x y => ?_) (fun j a b => a5 j (by omega) b)
  rw [a1] at y
  rw [h.2.2.2 i x (by rw [hs.2.2.1]; exact y), hs.2.2.1]
  by_cases c : i = σ 0 1009
  · rw [if_pos c, c, a2]
    exact skR_to (skR_chg h.2.2.1 (lT_k (by omega)) hx.1.1 hk) rfl (fun j x9 y9 => a3 j x9 (by omega))
  · have z2 := (hr.2.2.2.2.2.2.2.2.2.1 i x (by omega)).2.1
    rw [if_neg c]
    exact skR_to (skR_chg h.2.2.1 (lT_k (by omega)) hx.1.1 (hs.2.2.2.1 i x (by omega))) (a4 i x (by omega)).1 (fun j x9 y9 => (a4 i x (by omega)).2 j x9 (by omega))
theorem act_set (hx : Rx E Z S D R P σ) {w v : Int} (hc : setC σ w v) (hD : ∀ (q : Nat) (j : Int), (q ≠ rf R (rf R P.1 4) 2 ∨ j ≠ w) → D' q j = D q j) (hv : D' (rf R (rf R P.1 4) 2) w = v) : Rx E Z S D' R P (rowS σ (up (σ 0) (1042 + w) v)) := by
  have hs := hx.2.2.2.2.1.2
  have hr := hx.2.2.2.1
  obtain ⟨hw, hl, -⟩ := hc
  have hsv : ∀ j, 0 ≤ j → j < 6 → D' (rf R (rf R P.1 4) 2) j = up (σ 0) (1042 + w) v (1042 + j) := fun j x y => by
    by_cases c : j = w
    · rw [c, up_s]; exact hv
    · rw [up_n (by omega), hD _ _ (Or.inr c)]
      obtain ⟨v0, v1, v2, v3, v4, v5⟩ := hs.2.1
      rcases (show j = 0 ∨ j = 1 ∨ j = 2 ∨ j = 3 ∨ j = 4 ∨ j = 5 by omega) with e | e | e | e | e | e <;> rw [e]
      · exact v0
      · exact v1
      · exact v2
      · exact v3
      · exact v4
      · exact v5
  have hup : ∀ j, 0 ≤ j → j ≤ 5 → (lowF j ≤ up (σ 0) (1042 + w) v (1042 + j) ∧ up (σ 0) (1042 + w) v (1042 + j) ≤ hghF j) := fun j x y => by
    by_cases c : j = w
    · rw [c, up_s]; exact hl
    · rw [up_n (by omega)]
      rcases (show j = 0 ∨ j = 1 ∨ j = 2 ∨ j = 3 ∨ j = 4 ∨ j = 5 by omega) with e | e | e | e | e | e <;> rw [e]
      · exact hr.2.2.1
      · exact hr.2.2.2.1
      · exact hr.2.2.2.2.1
      · exact hr.2.2.2.2.2.1
      · exact hr.2.2.2.2.2.2.1
      · exact hr.2.2.2.2.2.2.2.1
  have h := st_val hx.1 hr hs (D' := D') (r' := up (σ 0) (1042 + w) v) (fun q j hq => hD q j (Or.inl hq)) hsv ⟨hup 0 (by decide) (by decide), hup 1 (by decide) (by decide), hup 2 (by decide) (by decide), hup 3 (by decide) (by decide), hup 4 (by decide) (by decide), hup 5 (by decide) (by decide)⟩ (fun j hj => up_n (by omega))
  exact Rx_row hx h.2.1 h.1 h.2.2.1 h.2.2.2
theorem foF_at {r : Int → Int} {k : Int} (hk : 0 ≤ k ∧ k < r 1000) (h8 : r 1000 ≤ 8) : foF r k 1000 = r 1000 - 1 ∧ (∀ m, 0 ≤ m → m < r 1000 - 1 → foF r k (1001 + m) = r (1001 + (if m < k then m else m + 1)) ∧ (∀ i, 0 ≤ i → i < 4 → foF r k (1010 + 4 * m + i) = r (1010 + 4 * (if m < k then m else m + 1) + i)) ∧ ∀ i, 0 ≤ i → i < 4 → foF r k (960 + (8 + 4 * m + i)) = r (960 + (8 + 4 * (if m < k then m else m + 1) + i)) ∧ ∀ j, 0 ≤ j → j < 24 → foF r k (24 * (8 + 4 * m + i) + j) = r (24 * (8 + 4 * (if m < k then m else m + 1) + i) + j)) ∧ ∀ j, ((0 ≤ j ∧ j < 192) ∨ (960 ≤ j ∧ j < 968) ∨ j = 1009 ∨ (1042 ≤ j ∧ j < 1048)) → foF r k j = r j := by
  refine ⟨by rw [foF, foP, if_pos rfl], fun m x y => ⟨?_, fun i a b => ?_, fun i a b => ⟨?_, fun j c d => ?_⟩⟩, fun j hj => ?_⟩
  · rw [foF, foP, if_neg (by omega)]
    by_cases c : m < k
    · rw [if_neg (by omega), if_neg (by omega), if_neg (by omega), if_neg (by omega), if_pos c]
    · rw [if_pos (by omega), if_neg c]; congr 1; omega
  · rw [foF, foP, if_neg (by omega), if_neg (by omega)]
    by_cases c : m < k
    · rw [if_neg (by omega), if_neg (by omega), if_neg (by omega), if_pos c]
    · rw [if_pos (by omega), if_neg c]; congr 1; omega
  · rw [foF, foP, if_neg (by omega), if_neg (by omega), if_neg (by omega)]
    by_cases c : m < k
    · rw [if_neg (by omega), if_neg (by omega), if_pos c]
    · rw [if_pos (by omega), if_neg c]; congr 1; omega
  · rw [foF, foP, if_neg (by omega), if_neg (by omega), if_neg (by omega), if_neg (by omega)]
    by_cases c9 : m < k
    · rw [if_neg (by omega), if_pos c9]
    · rw [if_pos (by omega), if_neg c9]; congr 1; omega
  · rw [foF, foP, if_neg (by omega), if_neg (by omega), if_neg (by omega), if_neg (by omega), if_neg (by omega)]
theorem act_forget (hx : Rx E Z S D R P σ) {k : Int} (hk : 0 ≤ k ∧ k < σ 0 1000) (h : GI E Z S D' R' ∧ D' (rf R (rf R P.1 4) 0) 2 = D (rf R (rf R P.1 4) 0) 2 - 1 ∧ chg (lT S (rf R (rf R P.1 4) 0)) S S D D' R R' ∧ ∀ j, 0 ≤ j → j < D (rf R (rf R P.1 4) 0) 2 - 1 → lE R' (rf R (rf R P.1 4) 0) j = lE R (rf R (rf R P.1 4) 0) (if j < k then j else j + 1)) : Rx E Z S D' R' P (rowS σ (foF (σ 0) k)) := by
  have hs := hx.2.2.2.2.1.2
  have hr := hx.2.2.2.1
  have b0 := hr.1
  have kk := (kNI hx).2
  obtain ⟨a1, a2, a3⟩ := foF_at hk b0.2
  have hT2 : ∀ q, lT S (rf R (rf R P.1 4) 0) q → (S q).1 ≠ 12 ∧ (S q).1 ≠ 22 := by
    rintro q (h | ⟨h, -⟩)
    · rw [h]; omega
    · omega
  have m4 := hr.2.2.2.2.2.2.2.2.1
  refine Rx_mods hx h.1 h.2.2.1 (by rw [h.2.1, hs.2.2.2.2.1, a1]) (by rw [a1]; omega) (fun m x y => ?_) (fun m x y => ?_) (fun m i x y u v => ?_) a3
  · rw [a1] at y
    rw [h.2.2.2 m x (by rw [hs.2.2.2.2.1]; exact y)]
    have q : 0 ≤ (if m < k then m else m + 1) ∧ (if m < k then m else m + 1) < σ 0 1000 := by split <;> omega
    obtain ⟨w1, w2, w3⟩ := a2 m x y
    have w4 := m4 _ q.1 q.2
    exact leR_to (leR_chg h.2.2.1 (lT_k (by omega)) hT2 hx.1 (hs.2.2.2.2.2 _ q.1 q.2)) w1 (fun i c d => w3 i c (by omega)) w2 (fun i c d => (hr.2.2.2.2.2.2.2.2.2.2.1 _ i q.1 q.2 c d).2.1)
  · rw [a1] at y
    rw [(a2 m x y).1]
    exact m4 _ (by split <;> omega) (by split <;> omega)
  · rw [a1] at y
    rw [(a2 m x y).2.1 i u v]
    exact hr.2.2.2.2.2.2.2.2.2.2.2 _ i (by split <;> omega) (by split <;> omega) u v
theorem leF_at {r : Int → Int} (h0 : 0 ≤ r 1000 ∧ r 1000 < 8) (h9 : 1 ≤ r 1009 ∧ r 1009 ≤ 4) : leF r 1000 = r 1000 + 1 ∧ (leF r (1001 + r 1000) = r 1009 ∧ (∀ i, 0 ≤ i → i < 4 → leF r (1010 + 4 * r 1000 + i) = 0) ∧ ∀ i, 0 ≤ i → i < r 1009 → leF r (960 + (8 + 4 * r 1000 + i)) = r (960 + i) ∧ ∀ j, 0 ≤ j → j < 24 → leF r (24 * (8 + 4 * r 1000 + i) + j) = r (24 * i + j)) ∧ (∀ m, 0 ≤ m → m < r 1000 → leF r (1001 + m) = r (1001 + m) ∧ (∀ i, 0 ≤ i → i < 4 → leF r (1010 + 4 * m + i) = r (1010 + 4 * m + i)) ∧ ∀ i, 0 ≤ i → i < 4 → leF r (960 + (8 + 4 * m + i)) = r (960 + (8 + 4 * m + i)) ∧ ∀ j, 0 ≤ j → j < 24 → leF r (24 * (8 + 4 * m + i) + j) = r (24 * (8 + 4 * m + i) + j)) ∧ ∀ j, ((0 ≤ j ∧ j < 192) ∨ (960 ≤ j ∧ j < 968) ∨ j = 1009 ∨ (1042 ≤ j ∧ j < 1048)) → leF r j = r j := by
  refine ⟨by rw [leF, if_pos rfl], ⟨?_, fun i a b => ?_, fun i a b => ⟨?_, fun j c d => ?_⟩⟩, fun m x y => ⟨?_, fun i a b => ?_, fun i a b => ⟨?_, fun j c d => ?_⟩⟩, fun j hj => ?_⟩
  · rw [leF, if_neg (by omega), if_pos rfl]
  · rw [leF, if_neg (by omega), if_neg (by omega), if_pos (by omega)]
  · rw [leF, if_neg (by omega), if_neg (by omega), if_neg (by omega), leP, if_neg (by omega), if_pos (by omega)]; congr 1; omega
  · rw [leF, if_neg (by omega), if_neg (by omega), if_neg (by omega), leP, if_pos (by omega)]; congr 1; omega
  · rw [leF, if_neg (by omega), if_neg (by omega), if_neg (by omega), leP, if_neg (by omega), if_neg (by omega)]
  · rw [leF, if_neg (by omega), if_neg (by omega), if_neg (by omega), leP, if_neg (by omega), if_neg (by omega)]
  · rw [leF, if_neg (by omega), if_neg (by omega), if_neg (by omega), leP, if_neg (by omega), if_neg (by omega)]
  · rw [leF, if_neg (by omega), if_neg (by omega), if_neg (by omega), leP, if_neg (by omega), if_neg (by omega)]
  · rw [leF, if_neg (by omega), if_neg (by omega), if_neg (by omega), leP, if_neg (by omega), if_neg (by omega)]
theorem act_learn (hx : Rx E Z S D R P σ) (hc : lrnC σ) {t : Nat} (ht : (S t).1 = 7) (hn : R t 0 = some (Z 35)) (hd : D (rf R t 1) 2 = σ 0 1009) (he : ∀ i, 0 ≤ i → i < σ 0 1009 → lE R (rf R t 1) i = lE R (rf R (rf R P.1 4) 1) i) (h : GI E Z S' D' R' ∧ D' (rf R (rf R P.1 4) 0) 2 = D (rf R (rf R P.1 4) 0) 2 + 1 ∧ chg (lT S (rf R (rf R P.1 4) 0)) S S' D D' R R' ∧ ∀ i, 0 ≤ i → i < D (rf R (rf R P.1 4) 0) 2 + 1 → lE R' (rf R (rf R P.1 4) 0) i = if i = D (rf R (rf R P.1 4) 0) 2 then t else lE R (rf R (rf R P.1 4) 0) i) : Rx E Z S' D' R' P (rowS σ (leF (σ 0))) := by
  have hs := hx.2.2.2.2.1.2
  have hr := hx.2.2.2.1
  have b0 := hr.1
  have hc1 := hc.1
  have hc2 := hc.2
  have kk := (kNI hx).2
  obtain ⟨a1, ⟨a2, a3, a4⟩, a5, a6⟩ := leF_at (r := σ 0) (by omega) hc1
  have hT2 : ∀ q, lT S (rf R (rf R P.1 4) 0) q → (S q).1 ≠ 12 ∧ (S q).1 ≠ 22 := by
    rintro q (h | ⟨h, -⟩)
    · rw [h]; omega
    · omega
  have m4 := hr.2.2.2.2.2.2.2.2.1
  have hkn := hx.2.2.1.2.1 35 (by decide)
  have hlt : leR S D R t (leF (σ 0)) (σ 0 1000) := by
    refine ⟨ht, by rw [a2]; exact hd, fun i x y => ?_, ?_⟩
    · rw [a2] at y
      rw [he i x y, (a4 i x y).1]
      have z2 := (hr.2.2.2.2.2.2.2.2.2.1 i x y).2.1
      exact skR_to (hs.2.2.2.1 i x y) rfl (fun j x9 y9 => (a4 i x y).2 j x9 (by omega))
    · have hz : ((S (rf R (Z 35) 0)).2.1 : Int) = 0 := hkn.2.2.1.trans (by decide)
      rw [rf_s hn]
      refine ⟨by omega, fun i x y => ?_⟩
      rw [if_neg (by omega)]
      exact a3 i x y
  refine Rx_mods hx h.1 h.2.2.1 (by rw [h.2.1, hs.2.2.2.2.1, a1]) (by rw [a1]; omega) (fun m x y => ?_) (fun m x y => ?_) (fun m i x y u v => ?_) a6
  · rw [a1] at y
    rw [h.2.2.2 m x (by rw [hs.2.2.2.2.1]; exact y), hs.2.2.2.2.1]
    by_cases c : m = σ 0 1000
    · rw [if_pos c, c]; exact leR_chg h.2.2.1 (lT_k (by omega)) hT2 hx.1 hlt
    · rw [if_neg c]
      obtain ⟨w1, w2, w3⟩ := a5 m x (by omega)
      have w4 := m4 m x (by omega)
      exact leR_to (leR_chg h.2.2.1 (lT_k (by omega)) hT2 hx.1 (hs.2.2.2.2.2 m x (by omega))) w1 (fun i c d => w3 i c (by omega)) w2 (fun i c d => (hr.2.2.2.2.2.2.2.2.2.2.1 m i x (by omega) c d).2.1)
  · rw [a1] at y
    by_cases c : m = σ 0 1000
    · rw [c, a2]; omega
    · rw [(a5 m x (by omega)).1]; exact m4 m x (by omega)
  · rw [a1] at y
    by_cases c : m = σ 0 1000
    · rw [c, a3 i u v]; decide
    · rw [(a5 m x (by omega)).2.1 i u v]; exact hr.2.2.2.2.2.2.2.2.2.2.2 m i x (by omega) u v
theorem now_ext (he : ext S S' D D' R R') (hx : Rx E Z S D R P σ) : rf R' P.1 4 = rf R P.1 4 ∧ rf R' (rf R P.1 4) 1 = rf R (rf R P.1 4) 1 ∧ D' (rf R (rf R P.1 4) 1) = D (rf R (rf R P.1 4) 1) ∧ ∀ i, lE R' (rf R (rf R P.1 4) 1) i = lE R (rf R (rf R P.1 4) 1) i := by
  have r4 : rf R' P.1 4 = rf R P.1 4 := rf_ext he hx.2.1.1 (by decide) 4
  have r1 := rf_ext he hx.2.2.2.2.1.2.1 (by decide) 1
  have kk := (kNI hx).1
  have l := ls_ext he (by omega) (hx.1.2.1 (rf R (rf R P.1 4) 1) (by omega) (by omega))
  exact ⟨r4, r1, l.2.2.1, l.2.2.2⟩
theorem nowF_ext (he : ext S S' D D' R R') (kP : (S P.1).1 = 1) {N NI NM NV : Nat} (h : nowF S D R P σ N NI NM NV) : nowF S' D' R' P σ N NI NM NV := by
  obtain ⟨⟨a1, a2⟩, ⟨b1, b2⟩, ⟨c1, c2⟩, ⟨d1, d2⟩, e1, e2, f0, f1, f2, f3, f4, f5, g1, g2, g3, g4⟩ := h
  have rP := he.2.2 P.1 (by rw [kP]; decide)
  have rN := he.2.2 N (by rw [a2]; decide)
  have kd : (S NV).1 ≠ 0 := by rw [d2]; exact (by decide : (45 : Nat) ≠ 0)
  have dV := he.2.1 NV kd
  have q4 : rf R' P.1 4 = rf R P.1 4 := by rw [rf, rf, rP]
  have qN : ∀ j, rf R' N j = rf R N j := fun j => by rw [rf, rf, rN]
  exact ⟨⟨by rw [rP]; exact a1, by rw [he.1 N (by rw [a2]; decide)]; exact a2⟩, ⟨by rw [rN]; exact b1, by rw [he.1 NM (by rw [b2]; decide)]; exact b2⟩, ⟨by rw [rN]; exact c1, by rw [he.1 NI (by rw [c2]; decide)]; exact c2⟩, ⟨by rw [rN]; exact d1, by rw [he.1 NV kd]; exact d2⟩, by rw [he.2.1 NI (by rw [c2]; decide)]; exact e1, by rw [he.2.1 NM (by rw [b2]; decide)]; exact e2, by rw [dV]; exact f0, by rw [dV]; exact f1, by rw [dV]; exact f2, by rw [dV]; exact f3, by rw [dV]; exact f4, by rw [dV]; exact f5, by rw [q4]; exact g1, by rw [qN]; exact g2, by rw [qN]; exact g3, by rw [qN]; exact g4⟩
theorem learn_el (he : ext S S' D D' R R') (hx : Rx E Z S D R P σ) {t : Nat} (hl : ∀ i, 0 ≤ i → i < D (rf R (rf R P.1 4) 1) 2 → lE R' (rf R' t 1) i = lE R (rf R (rf R P.1 4) 1) i) : ∀ i, 0 ≤ i → i < σ 0 1009 → lE R' (rf R' t 1) i = lE R' (rf R' (rf R' P.1 4) 1) i := fun i x y => by
  have h := now_ext he hx
  rw [hl i x (by rw [hx.2.2.2.2.1.2.2.2.1]; exact y), h.1, h.2.1, h.2.2.2]
end AT
