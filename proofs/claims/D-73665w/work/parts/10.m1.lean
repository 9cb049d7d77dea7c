set_option maxRecDepth 100000
set_option maxHeartbeats 4000000 in
theorem m_isIn {l : Launch} {E : gE} {h : Nat} {ad : Nat → Nat} (hok : mOK E h ad) (σ : mS)  (v : Int) (lo : Int) (hi : Int) (hv : r32 v) (hlo : r32 lo) (hhi : r32 hi) : mC l E h ad yX3_isIn cX3_isIn 3 (some .boolean) 0 [.int (iI v), .int (iI lo), .int (iI hi)] σ (fun rv σ' => rv = some (.int (iI (if lo ≤ v ∧ v ≤ hi then 1 else 0))) ∧ σ' = σ) := by
  refine mC.of (by decide) [some (.int (iI v)), some (.int (iI lo)), some (.int (iI hi))] (Nat.le_of_ble_eq_true rfl) rfl rfl (fun Γ hΓ => ?_)
  refine g_iload_n hΓ rfl dX3_isIn_0 ?_
  refine g_iload_n hΓ rfl dX3_isIn_1 ?_
  refine g_icmp_lt (tgt := 14) hΓ (by omega) (by omega) dX3_isIn_2 (by decide) (fun c1 => ?_) (fun c1 => ?_)
  · refine g_iconst hΓ dX3_isIn_14 ?_
    exact m_zret hΓ (by omega) dX3_isIn_15 ⟨ri (by first | rfl | omega | (simp_all; done) | (simp_all; omega)), rfl⟩
  · refine g_iload_n hΓ rfl dX3_isIn_5 ?_
    refine g_iload_n hΓ rfl dX3_isIn_6 ?_
    refine g_icmp_gt (tgt := 14) hΓ (by omega) (by omega) dX3_isIn_7 (by decide) (fun c2 => ?_) (fun c2 => ?_)
    · refine g_iconst hΓ dX3_isIn_14 ?_
      exact m_zret hΓ (by omega) dX3_isIn_15 ⟨ri (by first | rfl | omega | (simp_all; done) | (simp_all; omega)), rfl⟩
    · refine g_iconst hΓ dX3_isIn_10 ?_
      refine g_goto (tgt := 15) hΓ dX3_isIn_11 (by decide) ?_
      exact m_zret hΓ (by omega) dX3_isIn_15 ⟨ri (by first | rfl | omega | (simp_all; done) | (simp_all; omega)), rfl⟩
set_option maxHeartbeats 4000000 in
theorem m_lesser {l : Launch} {E : gE} {h : Nat} {ad : Nat → Nat} (hok : mOK E h ad) (σ : mS)  (a : Int) (b : Int) (ha : r32 a) (hb : r32 b) : mC l E h ad yX3_lesser cX3_lesser 2 (some .int) 0 [.int (iI a), .int (iI b)] σ (fun rv σ' => rv = some (.int (iI (min a b))) ∧ σ' = σ) := by
  refine mC.of (by decide) [some (.int (iI a)), some (.int (iI b))] (Nat.le_of_ble_eq_true rfl) rfl rfl (fun Γ hΓ => ?_)
  refine g_iload_n hΓ rfl dX3_lesser_0 ?_
  refine g_iload_n hΓ rfl dX3_lesser_1 ?_
  refine g_icmp_ge (tgt := 9) hΓ (by omega) (by omega) dX3_lesser_2 (by decide) (fun c1 => ?_) (fun c1 => ?_)
  · refine g_iload_n hΓ rfl dX3_lesser_9 ?_
    exact m_iret hΓ dX3_lesser_10 ⟨ri (by first | rfl | omega | (simp_all; done) | (simp_all; omega)), rfl⟩
  · refine g_iload_n hΓ rfl dX3_lesser_5 ?_
    refine g_goto (tgt := 10) hΓ dX3_lesser_6 (by decide) ?_
    exact m_iret hΓ dX3_lesser_10 ⟨ri (by first | rfl | omega | (simp_all; done) | (simp_all; omega)), rfl⟩
set_option maxHeartbeats 4000000 in
theorem m_greater {l : Launch} {E : gE} {h : Nat} {ad : Nat → Nat} (hok : mOK E h ad) (σ : mS)  (a : Int) (b : Int) (ha : r32 a) (hb : r32 b) : mC l E h ad yX3_greater cX3_greater 2 (some .int) 0 [.int (iI a), .int (iI b)] σ (fun rv σ' => rv = some (.int (iI (max a b))) ∧ σ' = σ) := by
  refine mC.of (by decide) [some (.int (iI a)), some (.int (iI b))] (Nat.le_of_ble_eq_true rfl) rfl rfl (fun Γ hΓ => ?_)
  refine g_iload_n hΓ rfl dX3_greater_0 ?_
  refine g_iload_n hΓ rfl dX3_greater_1 ?_
  refine g_icmp_le (tgt := 9) hΓ (by omega) (by omega) dX3_greater_2 (by decide) (fun c1 => ?_) (fun c1 => ?_)
  · refine g_iload_n hΓ rfl dX3_greater_9 ?_
    exact m_iret hΓ dX3_greater_10 ⟨ri (by first | rfl | omega | (simp_all; done) | (simp_all; omega)), rfl⟩
  · refine g_iload_n hΓ rfl dX3_greater_5 ?_
    refine g_goto (tgt := 10) hΓ dX3_greater_6 (by decide) ?_
    exact m_iret hΓ dX3_greater_10 ⟨ri (by first | rfl | omega | (simp_all; done) | (simp_all; omega)), rfl⟩
set_option maxHeartbeats 4000000 in
theorem m_plain {l : Launch} {E : gE} {h : Nat} {ad : Nat → Nat} (hok : mOK E h ad) (σ : mS)  (v : Int) (hv : r32 v) : mC l E h ad yX3_plain cX3_plain 1 (some .int) 0 [.int (iI v)] σ (fun rv σ' => rv = some (.int (iI (if v < 0 then -v else v))) ∧ σ' = σ) := by
  refine mC.of (by decide) [some (.int (iI v))] (Nat.le_of_ble_eq_true rfl) rfl rfl (fun Γ hΓ => ?_)
  refine g_iload_n hΓ rfl dX3_plain_0 ?_
  refine g_if_ge (tgt := 9) hΓ (by omega) dX3_plain_1 (by decide) (fun c1 => ?_) (fun c1 => ?_)
  · refine g_iload_n hΓ rfl dX3_plain_9 ?_
    exact m_iret hΓ dX3_plain_10 ⟨ri (by first | rfl | omega | (simp_all; done) | (simp_all; omega)), rfl⟩
  · refine g_iload_n hΓ rfl dX3_plain_4 ?_
    refine g_ineg hΓ dX3_plain_5 ?_
    refine g_goto (tgt := 10) hΓ dX3_plain_6 (by decide) ?_
    exact m_iret hΓ dX3_plain_10 ⟨ri (by first | rfl | omega | (simp_all; done) | (simp_all; omega)), rfl⟩
set_option maxHeartbeats 4000000 in
theorem m_refuses {l : Launch} {E : gE} {h : Nat} {ad : Nat → Nat} (hok : mOK E h ad) (σ : mS)  (w : Int) (hw : 0 ≤ w ∧ w < 6) : mC l E h ad yX3_refuses cX3_refuses 2 (some .int) 0 [.ref h, .int (iI w)] σ (fun rv σ' => rv = some (.int (iI (-1))) ∧ (σ' 13 = up (σ 13) w (σ 13 w + 1)) ∧ ∀ (k : Nat) (j : Int), k ∉ [13] → σ' k j = σ k j) := by
  refine mC.of (by decide) [some (.ref h), some (.int (iI w))] (Nat.le_of_ble_eq_true rfl) rfl rfl (fun Γ hΓ => ?_)
  refine g_aload_n hΓ rfl dX3_refuses_0 ?_
  refine m_geta hok hΓ 13 (by decide) rfl rfl q1370 rfl dX3_refuses_1 ?_
  refine g_iload_n hΓ rfl dX3_refuses_4 ?_
  refine g_dup2 hΓ rfl rfl dX3_refuses_5 ?_
  refine m_ald hok hΓ 13 (by decide) rfl (n := 6) rfl (by omega) (by decide) dX3_refuses_6 ?_
  refine g_iconst hΓ dX3_refuses_7 ?_
  refine g_iadd hΓ dX3_refuses_8 ?_
  refine m_ast hok hΓ 13 (by decide) rfl (n := 6) rfl (by omega) (by decide) dX3_refuses_9 (fun τ1 τ1e => ?_)
  have τ1r : τ1 13 w = (σ 13 w) + 1 := by rw [τ1e]; exact us_s _ _ _ _
  have τ1f : ∀ (k9 : Nat) (j9 : Int), (k9 ≠ 13 ∨ j9 ≠ w) → τ1 k9 j9 = σ k9 j9 := fun k9 j9 hh => by rw [τ1e]; exact us_n hh
  refine g_iconst hΓ dX3_refuses_10 ?_
  exact m_iret hΓ dX3_refuses_11 ⟨ri (by omega), (by rw [τ1e, us_a]), (fun k j hk => (τ1f k j (Or.inl (fun e => hk (by rw [e]; decide)))))⟩
set_option maxHeartbeats 4000000 in
theorem m_isRefused {l : Launch} {E : gE} {h : Nat} {ad : Nat → Nat} (hok : mOK E h ad) (σ : mS)  (w : Int) (hw : 0 ≤ w ∧ w < 6) : mC l E h ad yX3_isRefused cX3_isRefused 2 (some .boolean) 0 [.ref h, .int (iI w)] σ (fun rv σ' => rv = some (.int (iI 0)) ∧ (σ' 13 = up (σ 13) w (σ 13 w + 1)) ∧ ∀ (k : Nat) (j : Int), k ∉ [13] → σ' k j = σ k j) := by
  refine mC.of (by decide) [some (.ref h), some (.int (iI w))] (Nat.le_of_ble_eq_true rfl) rfl rfl (fun Γ hΓ => ?_)
  refine g_aload_n hΓ rfl dX3_isRefused_0 ?_
  refine m_geta hok hΓ 13 (by decide) rfl rfl q1370 rfl dX3_isRefused_1 ?_
  refine g_iload_n hΓ rfl dX3_isRefused_4 ?_
  refine g_dup2 hΓ rfl rfl dX3_isRefused_5 ?_
  refine m_ald hok hΓ 13 (by decide) rfl (n := 6) rfl (by omega) (by decide) dX3_isRefused_6 ?_
  refine g_iconst hΓ dX3_isRefused_7 ?_
  refine g_iadd hΓ dX3_isRefused_8 ?_
  refine m_ast hok hΓ 13 (by decide) rfl (n := 6) rfl (by omega) (by decide) dX3_isRefused_9 (fun τ1 τ1e => ?_)
  have τ1r : τ1 13 w = (σ 13 w) + 1 := by rw [τ1e]; exact us_s _ _ _ _
  have τ1f : ∀ (k9 : Nat) (j9 : Int), (k9 ≠ 13 ∨ j9 ≠ w) → τ1 k9 j9 = σ k9 j9 := fun k9 j9 hh => by rw [τ1e]; exact us_n hh
  refine g_iconst hΓ dX3_isRefused_10 ?_
  exact m_zret hΓ (by omega) dX3_isRefused_11 ⟨ri (by omega), (by rw [τ1e, us_a]), (fun k j hk => (τ1f k j (Or.inl (fun e => hk (by rw [e]; decide)))))⟩
