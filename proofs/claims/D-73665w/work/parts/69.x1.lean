set_option maxRecDepth 100000
set_option maxHeartbeats 4000000 in
theorem x_J3_abs {l : Launch} {E : gE} {X : State → Prop} {Z : Nat → Nat} {Y : Nat → Option Nat} (hE : E.2.1 = clsX) (hX : xOK l E X Z Y) (S : xS) (D : xD) (R : xR) (a : Int) (ha : -2147483648 < a ∧ a < 2147483648) : xC l E X yJ3_abs cJ3_abs 1 (some .int) 0 0 0 [.int (iI a)] S D R (fun rv S' D' R' => rv = some (.int (iI (if a < 0 then -a else a))) ∧ S' = S ∧ D' = D ∧ R' = R) := by
  refine xC.ofF hX.1 (by decide +kernel) [some (.int (iI a))] (Nat.le_of_ble_eq_true rfl) rfl rfl (fun Γ hΓ => ?_)
  refine g_iload_n hΓ rfl dJ3_abs_0 ?_
  refine g_if_ge (tgt := 9) hΓ (by omega) dJ3_abs_1 (by decide) (fun c1 => ?_) (fun c1 => ?_)
  · refine g_iload_n hΓ rfl dJ3_abs_9 ?_
    exact x_iret hΓ dJ3_abs_10 (Nat.zero_le _) (Nat.zero_le _) ⟨ri (by first | rfl | omega | (simp_all; done) | (simp_all; omega)), rfl, rfl, rfl⟩
  · refine g_iload_n hΓ rfl dJ3_abs_4 ?_
    refine g_ineg hΓ dJ3_abs_5 ?_
    refine g_goto (tgt := 10) hΓ dJ3_abs_6 (by decide) ?_
    exact x_iret hΓ dJ3_abs_10 (Nat.zero_le _) (Nat.zero_le _) ⟨ri (by first | rfl | omega | (simp_all; done) | (simp_all; omega)), rfl, rfl, rfl⟩
set_option maxHeartbeats 4000000 in
theorem x_J3_min {l : Launch} {E : gE} {X : State → Prop} {Z : Nat → Nat} {Y : Nat → Option Nat} (hE : E.2.1 = clsX) (hX : xOK l E X Z Y) (S : xS) (D : xD) (R : xR) (a b : Int) (ha : r32 a) (hb : r32 b) : xC l E X yJ3_min cJ3_min 2 (some .int) 0 0 0 [.int (iI a), .int (iI b)] S D R (fun rv S' D' R' => rv = some (.int (iI (min a b))) ∧ S' = S ∧ D' = D ∧ R' = R) := by
  refine xC.ofF hX.1 (by decide +kernel) [some (.int (iI a)), some (.int (iI b))] (Nat.le_of_ble_eq_true rfl) rfl rfl (fun Γ hΓ => ?_)
  refine g_iload_n hΓ rfl dJ3_min_0 ?_
  refine g_iload_n hΓ rfl dJ3_min_1 ?_
  refine g_icmp_gt (tgt := 9) hΓ (by omega) (by omega) dJ3_min_2 (by decide) (fun c1 => ?_) (fun c1 => ?_)
  · refine g_iload_n hΓ rfl dJ3_min_9 ?_
    exact x_iret hΓ dJ3_min_10 (Nat.zero_le _) (Nat.zero_le _) ⟨ri (by first | rfl | omega | (simp_all; done) | (simp_all; omega)), rfl, rfl, rfl⟩
  · refine g_iload_n hΓ rfl dJ3_min_5 ?_
    refine g_goto (tgt := 10) hΓ dJ3_min_6 (by decide) ?_
    exact x_iret hΓ dJ3_min_10 (Nat.zero_le _) (Nat.zero_le _) ⟨ri (by first | rfl | omega | (simp_all; done) | (simp_all; omega)), rfl, rfl, rfl⟩
set_option maxHeartbeats 4000000 in
theorem x_J3_max {l : Launch} {E : gE} {X : State → Prop} {Z : Nat → Nat} {Y : Nat → Option Nat} (hE : E.2.1 = clsX) (hX : xOK l E X Z Y) (S : xS) (D : xD) (R : xR) (a b : Int) (ha : r32 a) (hb : r32 b) : xC l E X yJ3_max cJ3_max 2 (some .int) 0 0 0 [.int (iI a), .int (iI b)] S D R (fun rv S' D' R' => rv = some (.int (iI (max a b))) ∧ S' = S ∧ D' = D ∧ R' = R) := by
  refine xC.ofF hX.1 (by decide +kernel) [some (.int (iI a)), some (.int (iI b))] (Nat.le_of_ble_eq_true rfl) rfl rfl (fun Γ hΓ => ?_)
  refine g_iload_n hΓ rfl dJ3_max_0 ?_
  refine g_iload_n hΓ rfl dJ3_max_1 ?_
  refine g_icmp_lt (tgt := 9) hΓ (by omega) (by omega) dJ3_max_2 (by decide) (fun c1 => ?_) (fun c1 => ?_)
  · refine g_iload_n hΓ rfl dJ3_max_9 ?_
    exact x_iret hΓ dJ3_max_10 (Nat.zero_le _) (Nat.zero_le _) ⟨ri (by first | rfl | omega | (simp_all; done) | (simp_all; omega)), rfl, rfl, rfl⟩
  · refine g_iload_n hΓ rfl dJ3_max_5 ?_
    refine g_goto (tgt := 10) hΓ dJ3_max_6 (by decide) ?_
    exact x_iret hΓ dJ3_max_10 (Nat.zero_le _) (Nat.zero_le _) ⟨ri (by first | rfl | omega | (simp_all; done) | (simp_all; omega)), rfl, rfl, rfl⟩
set_option maxHeartbeats 4000000 in
theorem x_X0_isIn {l : Launch} {E : gE} {X : State → Prop} {Z : Nat → Nat} {Y : Nat → Option Nat} (hE : E.2.1 = clsX) (hX : xOK l E X Z Y) (S : xS) (D : xD) (R : xR) (v lo hi : Int) (hv : r64 v) (hlo : r64 lo) (hhi : r64 hi) : xC l E X yX0_isIn cX0_isIn 6 (some .boolean) 0 0 0 [.long (lI v), .long (lI lo), .long (lI hi)] S D R (fun rv S' D' R' => rv = some (.int (iI (if lo ≤ v ∧ v ≤ hi then 1 else 0))) ∧ S' = S ∧ D' = D ∧ R' = R) := by
  refine xC.of hX.1 (by decide) [some (.long (lI v)), none, some (.long (lI lo)), none, some (.long (lI hi)), none] (Nat.le_of_ble_eq_true rfl) rfl rfl (fun Γ hΓ => ?_)
  refine g_lload_n hΓ rfl dX0_isIn_0 ?_
  refine g_lload_n hΓ rfl dX0_isIn_1 ?_
  refine g_lcmp hΓ (by first | assumption | omega) (by first | assumption | omega) dX0_isIn_2 ?_
  refine g_if_lt (tgt := 17) hΓ (by first | assumption | omega) dX0_isIn_3 (by decide) (fun c1 => ?_) (fun c1 => ?_)
  · refine g_iconst hΓ dX0_isIn_17 ?_
    exact x_zret hΓ (by omega) dX0_isIn_18 (Nat.zero_le _) (Nat.zero_le _) ⟨ri (by first | rfl | omega | (simp_all; done) | (simp_all; omega)), rfl, rfl, rfl⟩
  · refine g_lload_n hΓ rfl dX0_isIn_6 ?_
    refine g_lload hΓ rfl dX0_isIn_7 ?_
    refine g_lcmp hΓ (by first | assumption | omega) (by first | assumption | omega) dX0_isIn_9 ?_
    refine g_if_gt (tgt := 17) hΓ (by first | assumption | omega) dX0_isIn_10 (by decide) (fun c2 => ?_) (fun c2 => ?_)
    · refine g_iconst hΓ dX0_isIn_17 ?_
      exact x_zret hΓ (by omega) dX0_isIn_18 (Nat.zero_le _) (Nat.zero_le _) ⟨ri (by first | rfl | omega | (simp_all; done) | (simp_all; omega)), rfl, rfl, rfl⟩
    · refine g_iconst hΓ dX0_isIn_13 ?_
      refine g_goto (tgt := 18) hΓ dX0_isIn_14 (by decide) ?_
      exact x_zret hΓ (by omega) dX0_isIn_18 (Nat.zero_le _) (Nat.zero_le _) ⟨ri (by first | rfl | omega | (simp_all; done) | (simp_all; omega)), rfl, rfl, rfl⟩
set_option maxHeartbeats 4000000 in
theorem x_X0_flag {l : Launch} {E : gE} {X : State → Prop} {Z : Nat → Nat} {Y : Nat → Option Nat} (hE : E.2.1 = clsX) (hX : xOK l E X Z Y) (S : xS) (D : xD) (R : xR) (b : Int) (hb : b = 0 ∨ b = 1) : xC l E X yX0_flag cX0_flag 1 (some .int) 0 0 0 [.int (iI b)] S D R (fun rv S' D' R' => rv = some (.int (iI b)) ∧ S' = S ∧ D' = D ∧ R' = R) := by
  refine xC.of hX.1 (by decide) [some (.int (iI b))] (Nat.le_of_ble_eq_true rfl) rfl rfl (fun Γ hΓ => ?_)
  refine g_iload_n hΓ rfl dX0_flag_0 ?_
  refine g_if_eq (tgt := 8) hΓ (by omega) dX0_flag_1 (by decide) (fun c1 => ?_) (fun c1 => ?_)
  · refine g_iconst hΓ dX0_flag_8 ?_
    exact x_iret hΓ dX0_flag_9 (Nat.zero_le _) (Nat.zero_le _) ⟨ri (by first | rfl | omega | (simp_all; done) | (simp_all; omega)), rfl, rfl, rfl⟩
  · refine g_iconst hΓ dX0_flag_4 ?_
    refine g_goto (tgt := 9) hΓ dX0_flag_5 (by decide) ?_
    exact x_iret hΓ dX0_flag_9 (Nat.zero_le _) (Nat.zero_le _) ⟨ri (by first | rfl | omega | (simp_all; done) | (simp_all; omega)), rfl, rfl, rfl⟩
set_option maxHeartbeats 4000000 in
theorem x_X0_apart {l : Launch} {E : gE} {X : State → Prop} {Z : Nat → Nat} {Y : Nat → Option Nat} (hE : E.2.1 = clsX) (hX : xOK l E X Z Y) (S : xS) (D : xD) (R : xR) (a b : Int) (ha : 0 ≤ a ∧ a ≤ 7) (hb : 0 ≤ b ∧ b ≤ 7) : xC l E X yX0_apart cX0_apart 3 (some .int) 1 0 0 [.int (iI a), .int (iI b)] S D R (fun rv S' D' R' => rv = some (.int (iI (apt a b))) ∧ S' = S ∧ D' = D ∧ R' = R) := by
  refine xC.of hX.1 (by decide) [some (.int (iI a)), some (.int (iI b)), none] (Nat.le_of_ble_eq_true rfl) rfl rfl (fun Γ hΓ => ?_)
  refine g_iload_n hΓ rfl dX0_apart_0 ?_
  refine g_iload_n hΓ rfl dX0_apart_1 ?_
  refine g_isub hΓ dX0_apart_2 ?_
  refine x_callS (As := [.int (iI (a - b))]) (rest := []) hΓ (x_J3_abs hE hX S D R (a - b) (by first | assumption | omega)) rfl q219 q220 q129 q221 ndJ3_abs rfl (by decide) (by decide) (Nat.zero_le _) (Nat.zero_le _) rfl (Nat.le_of_ble_eq_true rfl) dX0_apart_3 rfl (fun v1 S1 τ1 ρ1 h1 => ?_)
  obtain ⟨rfl, S1e, τ1e, ρ1e⟩ := h1
  have S1e := S1e.symm; subst S1e
  have τ1e := τ1e.symm; subst τ1e
  have ρ1e := ρ1e.symm; subst ρ1e
  show gW Γ E (xM E S D R) _ _ _ _ (.int (iI (if (a - b) < 0 then -(a - b) else (a - b))) :: _)
  obtain ⟨x2, ex2⟩ : ∃ z9 : Int, z9 = if (a - b) < 0 then -(a - b) else (a - b) := ⟨_, rfl⟩
  refine g_topi ex2.symm ?_
  refine g_istore_n hΓ dX0_apart_6 rfl (Nat.le_of_ble_eq_true rfl) (lv' := [some (.int (iI a)), some (.int (iI b)), some (.int (iI x2))]) rfl ?_
  refine g_iload_n hΓ rfl dX0_apart_7 ?_
  refine g_bipush hΓ (by decide) dX0_apart_8 ?_
  refine g_iload_n hΓ rfl dX0_apart_10 ?_
  refine g_isub hΓ dX0_apart_11 ?_
  refine x_callS (As := [.int (iI x2), .int (iI (8 - x2))]) (rest := []) hΓ (x_J3_min hE hX S D R x2 (8 - x2) (by first | assumption | omega) (by first | assumption | omega)) rfl q222 q223 q129 q224 ndJ3_min rfl (by decide) (by decide) (Nat.zero_le _) (Nat.zero_le _) rfl (Nat.le_of_ble_eq_true rfl) dX0_apart_12 rfl (fun v3 S3 τ3 ρ3 h3 => ?_)
  obtain ⟨rfl, S3e, τ3e, ρ3e⟩ := h3
  have S3e := S3e.symm; subst S3e
  have τ3e := τ3e.symm; subst τ3e
  have ρ3e := ρ3e.symm; subst ρ3e
  show gW Γ E (xM E S D R) _ _ _ _ (.int (iI (min x2 (8 - x2))) :: _)
  exact x_iret hΓ dX0_apart_15 (Nat.zero_le _) (Nat.zero_le _) ⟨ri (by rw [apt, ← ex2]), rfl, rfl, rfl⟩
set_option maxHeartbeats 4000000 in
theorem x_X0_root {l : Launch} {E : gE} {X : State → Prop} {Z : Nat → Nat} {Y : Nat → Option Nat} (hE : E.2.1 = clsX) (hX : xOK l E X Z Y) (S : xS) (D : xD) (R : xR) (v : Int) (hv : 0 ≤ v ∧ v < 400000000) : xC l E X yX0_root cX0_root 3 (some .int) 0 0 0 [.int (iI v)] S D R (fun rv S' D' R' => rv = some (.int (iI (isq v))) ∧ S' = S ∧ D' = D ∧ R' = R) := by
  refine xC.of hX.1 (by decide) [some (.int (iI v)), none, none] (Nat.le_of_ble_eq_true rfl) rfl rfl (fun Γ hΓ => ?_)
  have loop : ∀ (fu : Nat) (r : Int) (b : Int) (u : Int), b.toNat < fu → (b = 0 ∨ b = 1 ∨ b = 2 ∨ b = 4 ∨ b = 8 ∨ b = 16 ∨ b = 32 ∨ b = 64 ∨ b = 128 ∨ b = 256 ∨ b = 512 ∨ b = 1024 ∨ b = 2048 ∨ b = 4096 ∨ b = 8192 ∨ b = 16384 ∨ b = 32768) → ((b = 0 ∧ u = 1) ∨ (1 ≤ b ∧ u = 2 * b)) → (0 ≤ r ∧ r + u ≤ 65536 ∧ r * r ≤ v) → (v < (r + u) * (r + u)) → gW Γ E (xM E S D R) 0 0 5 [some (.int (iI v)), some (.int (iI r)), some (.int (iI b))] [] := by
    intro fu
    induction fu with
    | zero => intro r b u hn; exact absurd hn (Nat.not_lt_zero _)
    | succ fu ih_loop =>
      intro r b u hn hb hu hr hq
      refine g_iload_n hΓ rfl dX0_root_5 ?_
      refine g_if_le (tgt := 35) hΓ (by first | omega | (have h9 := sq_b (x := r + b) (A := 65536) (by omega) (by omega); omega)) dX0_root_6 (by decide) (fun c1 => ?_) (fun c1 => ?_)
      · refine g_iload_n hΓ rfl dX0_root_35 ?_
        exact x_iret hΓ dX0_root_36 (Nat.zero_le _) (Nat.zero_le _) ⟨ri (isq_eq (by omega) (by have := sq_lt (x := r) (y := 20000) (by omega) (by omega) (by decide); omega) hr.2.2 (by rw [show r + 1 = r + u by omega]; exact hq)), rfl, rfl, rfl⟩
      · refine g_iload_n hΓ rfl dX0_root_9 ?_
        refine g_iload_n hΓ rfl dX0_root_10 ?_
        refine g_iadd hΓ dX0_root_11 ?_
        refine g_i2l hΓ (by first | omega | (have h9 := sq_b (x := r + b) (A := 65536) (by omega) (by omega); omega)) dX0_root_12 ?_
        refine g_iload_n hΓ rfl dX0_root_13 ?_
        refine g_iload_n hΓ rfl dX0_root_14 ?_
        refine g_iadd hΓ dX0_root_15 ?_
        refine g_i2l hΓ (by first | omega | (have h9 := sq_b (x := r + b) (A := 65536) (by omega) (by omega); omega)) dX0_root_16 ?_
        refine g_lmul hΓ dX0_root_17 ?_
        refine g_iload_n hΓ rfl dX0_root_18 ?_
        refine g_i2l hΓ (by first | omega | (have h9 := sq_b (x := r + b) (A := 65536) (by omega) (by omega); omega)) dX0_root_19 ?_
        refine g_lcmp hΓ (by first | omega | (have h9 := sq_b (x := r + b) (A := 65536) (by omega) (by omega); omega)) (by first | omega | (have h9 := sq_b (x := r + b) (A := 65536) (by omega) (by omega); omega)) dX0_root_20 ?_
        refine g_if_gt (tgt := 28) hΓ (by first | omega | (have h9 := sq_b (x := r + b) (A := 65536) (by omega) (by omega); omega)) dX0_root_21 (by decide) (fun c2 => ?_) (fun c2 => ?_)
        · refine g_iload_n hΓ rfl dX0_root_28 ?_
          refine g_iconst hΓ dX0_root_29 ?_
          refine g_ishr (a := b / 2 ^ 1) hΓ (sh_r (by omega) 1 (by decide) rfl) dX0_root_30 ?_
          obtain ⟨x3, ex3⟩ : ∃ z9 : Int, z9 = b / 2 ^ 1 := ⟨_, rfl⟩
          refine g_topi ex3.symm ?_
          refine g_istore_n hΓ dX0_root_31 rfl (Nat.le_of_ble_eq_true rfl) (lv' := [some (.int (iI v)), some (.int (iI r)), some (.int (iI x3))]) rfl ?_
          refine g_goto (tgt := 5) hΓ dX0_root_32 (by decide) ?_
          exact ih_loop r x3 b (by omega) (by omega) (by omega) ⟨by omega, by omega, hr.2.2⟩ (by omega)
        · refine g_iload_n hΓ rfl dX0_root_24 ?_
          refine g_iload_n hΓ rfl dX0_root_25 ?_
          refine g_iadd hΓ dX0_root_26 ?_
          obtain ⟨x4, ex4⟩ : ∃ z9 : Int, z9 = r + b := ⟨_, rfl⟩
          refine g_topi ex4.symm ?_
          refine g_istore_n hΓ dX0_root_27 rfl (Nat.le_of_ble_eq_true rfl) (lv' := [some (.int (iI v)), some (.int (iI x4)), some (.int (iI b))]) rfl ?_
          refine g_iload_n hΓ rfl dX0_root_28 ?_
          refine g_iconst hΓ dX0_root_29 ?_
          refine g_ishr (a := b / 2 ^ 1) hΓ (sh_r (by omega) 1 (by decide) rfl) dX0_root_30 ?_
          obtain ⟨x5, ex5⟩ : ∃ z9 : Int, z9 = b / 2 ^ 1 := ⟨_, rfl⟩
          refine g_topi ex5.symm ?_
          refine g_istore_n hΓ dX0_root_31 rfl (Nat.le_of_ble_eq_true rfl) (lv' := [some (.int (iI v)), some (.int (iI x4)), some (.int (iI x5))]) rfl ?_
          refine g_goto (tgt := 5) hΓ dX0_root_32 (by decide) ?_
          exact ih_loop x4 x5 b (by omega) (by omega) (by omega) ⟨by omega, by omega, (by rw [ex4]; omega)⟩ (by rw [show x4 + b = r + u by omega]; exact hq)
  refine g_iconst hΓ dX0_root_0 ?_
  refine g_istore_n hΓ dX0_root_1 rfl (Nat.le_of_ble_eq_true rfl) (lv' := [some (.int (iI v)), some (.int (iI 0)), none]) rfl ?_
  refine g_ldc (n := 32768) hΓ rfl q801 (by decide) dX0_root_2 ?_
  refine g_istore_n hΓ dX0_root_4 rfl (Nat.le_of_ble_eq_true rfl) (lv' := [some (.int (iI v)), some (.int (iI 0)), some (.int (iI 32768))]) rfl ?_
  exact loop 32769 0 32768 65536 (by decide) (by omega) (by omega) (by omega) (by omega)
set_option maxHeartbeats 4000000 in
theorem x_X0_least {l : Launch} {E : gE} {X : State → Prop} {Z : Nat → Nat} {Y : Nat → Option Nat} (hE : E.2.1 = clsX) (hX : xOK l E X Z Y) (S : xS) (D : xD) (R : xR) (a : Nat) (ha : (S a).1 = 120) (hn : (S a).2.1 = 2) (h0 : r32 (D a 0) ∧ r32 (D a 1)) : xC l E X yX0_least cX0_least 6 (some .int) 1 0 0 [.ref a] S D R (fun rv S' D' R' => rv = some (.int (iI (min (D a 0) (D a 1)))) ∧ S' = S ∧ D' = D ∧ R' = R) := by
  refine xC.of hX.1 (by decide) [some (.ref a), none, none, none, none, none] (Nat.le_of_ble_eq_true rfl) rfl rfl (fun Γ hΓ => ?_)
  refine g_aload_n hΓ rfl dX0_least_0 ?_
  refine g_iconst hΓ dX0_least_1 ?_
  refine x_iald hΓ ha hn ⟨by decide, rfl⟩ (by omega) (by omega) dX0_least_2 ?_
  obtain ⟨x1, ex1⟩ : ∃ z9 : Int, z9 = D a 0 := ⟨_, rfl⟩
  refine g_topi ex1.symm ?_
  refine g_istore_n hΓ dX0_least_3 rfl (Nat.le_of_ble_eq_true rfl) (lv' := [some (.ref a), some (.int (iI x1)), none, none, none, none]) rfl ?_
  refine g_aload_n hΓ rfl dX0_least_4 ?_
  refine g_astore_n hΓ dX0_least_5 rfl (Nat.le_of_ble_eq_true rfl) (lv' := [some (.ref a), some (.int (iI x1)), some (.ref a), none, none, none]) rfl ?_
  refine g_aload_n hΓ rfl dX0_least_6 ?_
  refine x_alen hΓ ha hn ⟨by decide, by decide⟩ dX0_least_7 ?_
  refine g_topi (show (((2 : Nat)) : Int) = 2 from rfl) ?_
  refine g_istore_n hΓ dX0_least_8 rfl (Nat.le_of_ble_eq_true rfl) (lv' := [some (.ref a), some (.int (iI x1)), some (.ref a), some (.int (iI 2)), none, none]) rfl ?_
  refine g_iconst hΓ dX0_least_9 ?_
  refine g_istore hΓ dX0_least_10 rfl (Nat.le_of_ble_eq_true rfl) (lv' := [some (.ref a), some (.int (iI x1)), some (.ref a), some (.int (iI 2)), some (.int (iI 0)), none]) rfl ?_
  refine g_iload hΓ rfl dX0_least_12 ?_
  refine g_iload_n hΓ rfl dX0_least_14 ?_
  refine g_icmp_ge (tgt := 37) hΓ (by omega) (by omega) dX0_least_15 (by decide) (fun c2 => ?_) (fun c2 => ?_)
  · exact absurd c2 (by decide)
  · refine g_aload_n hΓ rfl dX0_least_18 ?_
    refine g_iload hΓ rfl dX0_least_19 ?_
    refine x_iald hΓ ha hn ⟨by decide, rfl⟩ (by omega) (by omega) dX0_least_21 ?_
    obtain ⟨x3, ex3⟩ : ∃ z9 : Int, z9 = D a 0 := ⟨_, rfl⟩
    refine g_topi ex3.symm ?_
    refine g_istore hΓ dX0_least_22 rfl (Nat.le_of_ble_eq_true rfl) (lv' := [some (.ref a), some (.int (iI x1)), some (.ref a), some (.int (iI 2)), some (.int (iI 0)), some (.int (iI x3))]) rfl ?_
    refine g_iload_n hΓ rfl dX0_least_24 ?_
    refine g_iload hΓ rfl dX0_least_25 ?_
    refine x_callS (As := [.int (iI x1), .int (iI x3)]) (rest := []) hΓ (x_J3_min hE hX S D R x1 x3 (by first | assumption | omega) (by first | assumption | omega)) rfl q222 q223 q129 q224 ndJ3_min rfl (by decide) (by decide) (Nat.zero_le _) (Nat.zero_le _) rfl (Nat.le_of_ble_eq_true rfl) dX0_least_27 rfl (fun v4 S4 τ4 ρ4 h4 => ?_)
    obtain ⟨rfl, S4e, τ4e, ρ4e⟩ := h4
    have S4e := S4e.symm; subst S4e
    have τ4e := τ4e.symm; subst τ4e
    have ρ4e := ρ4e.symm; subst ρ4e
    show gW Γ E (xM E S D R) _ _ _ _ (.int (iI (min x1 x3)) :: _)
    obtain ⟨x5, ex5⟩ : ∃ z9 : Int, z9 = min x1 x3 := ⟨_, rfl⟩
    refine g_topi ex5.symm ?_
    refine g_istore_n hΓ dX0_least_30 rfl (Nat.le_of_ble_eq_true rfl) (lv' := [some (.ref a), some (.int (iI x5)), some (.ref a), some (.int (iI 2)), some (.int (iI 0)), some (.int (iI x3))]) rfl ?_
    refine g_iinc hΓ dX0_least_31 rfl rfl (lv' := [some (.ref a), some (.int (iI x5)), some (.ref a), some (.int (iI 2)), some (.int (iI 1)), some (.int (iI x3))]) rfl ?_
    refine g_goto (tgt := 12) hΓ dX0_least_34 (by decide) ?_
    refine g_iload hΓ rfl dX0_least_12 ?_
    refine g_iload_n hΓ rfl dX0_least_14 ?_
    refine g_icmp_ge (tgt := 37) hΓ (by omega) (by omega) dX0_least_15 (by decide) (fun c6 => ?_) (fun c6 => ?_)
    · exact absurd c6 (by decide)
    · refine g_aload_n hΓ rfl dX0_least_18 ?_
      refine g_iload hΓ rfl dX0_least_19 ?_
      refine x_iald hΓ ha hn ⟨by decide, rfl⟩ (by omega) (by omega) dX0_least_21 ?_
      obtain ⟨x7, ex7⟩ : ∃ z9 : Int, z9 = D a 1 := ⟨_, rfl⟩
      refine g_topi ex7.symm ?_
      refine g_istore hΓ dX0_least_22 rfl (Nat.le_of_ble_eq_true rfl) (lv' := [some (.ref a), some (.int (iI x5)), some (.ref a), some (.int (iI 2)), some (.int (iI 1)), some (.int (iI x7))]) rfl ?_
      refine g_iload_n hΓ rfl dX0_least_24 ?_
      refine g_iload hΓ rfl dX0_least_25 ?_
      refine x_callS (As := [.int (iI x5), .int (iI x7)]) (rest := []) hΓ (x_J3_min hE hX S D R x5 x7 (by first | assumption | omega) (by first | assumption | omega)) rfl q222 q223 q129 q224 ndJ3_min rfl (by decide) (by decide) (Nat.zero_le _) (Nat.zero_le _) rfl (Nat.le_of_ble_eq_true rfl) dX0_least_27 rfl (fun v8 S8 τ8 ρ8 h8 => ?_)
      obtain ⟨rfl, S8e, τ8e, ρ8e⟩ := h8
      have S8e := S8e.symm; subst S8e
      have τ8e := τ8e.symm; subst τ8e
      have ρ8e := ρ8e.symm; subst ρ8e
      show gW Γ E (xM E S D R) _ _ _ _ (.int (iI (min x5 x7)) :: _)
      obtain ⟨x9, ex9⟩ : ∃ z9 : Int, z9 = min x5 x7 := ⟨_, rfl⟩
      refine g_topi ex9.symm ?_
      refine g_istore_n hΓ dX0_least_30 rfl (Nat.le_of_ble_eq_true rfl) (lv' := [some (.ref a), some (.int (iI x9)), some (.ref a), some (.int (iI 2)), some (.int (iI 1)), some (.int (iI x7))]) rfl ?_
      refine g_iinc hΓ dX0_least_31 rfl rfl (lv' := [some (.ref a), some (.int (iI x9)), some (.ref a), some (.int (iI 2)), some (.int (iI 2)), some (.int (iI x7))]) rfl ?_
      refine g_goto (tgt := 12) hΓ dX0_least_34 (by decide) ?_
      refine g_iload hΓ rfl dX0_least_12 ?_
      refine g_iload_n hΓ rfl dX0_least_14 ?_
      refine g_icmp_ge (tgt := 37) hΓ (by omega) (by omega) dX0_least_15 (by decide) (fun c10 => ?_) (fun c10 => ?_)
      · refine g_iload_n hΓ rfl dX0_least_37 ?_
        exact x_iret hΓ dX0_least_38 (Nat.zero_le _) (Nat.zero_le _) ⟨ri (by first | rfl | omega | (simp_all; done) | (simp_all; omega)), rfl, rfl, rfl⟩
      · exact absurd c10 (by decide)
