set_option maxRecDepth 100000
set_option maxHeartbeats 4000000 in
theorem x_J0_init {l : Launch} {E : gE} {X : State → Prop} {Z : Nat → Nat} {Y : Nat → Option Nat} (hE : E.2.1 = clsX) (hX : xOK l E X Z Y) (S : xS) (D : xD) (R : xR) (q k : Nat) (hq : (S q).1 = k) (hk : 10 ≤ k ∧ k ≤ 17) : xC l E X yJ0_init cJ0_init 1 none 1 0 0 [.ref q] S D R (fun rv S' D' R' => rv = none ∧ S' = S ∧ D' = D ∧ R' = R) := by
  refine xC.ofF hX.1 (by decide +kernel) [some (.ref q)] (Nat.le_of_ble_eq_true rfl) rfl rfl (fun Γ hΓ => ?_)
  refine g_aload_n hΓ rfl dJ0_init_0 ?_
  refine g_objInit hΓ rfl q173 q154 q155 (by decide) (Nat.le_of_ble_eq_true rfl) rfl dJ0_init_1 ?_
  exact x_vret hΓ dJ0_init_4 (Nat.zero_le _) (Nat.zero_le _) ⟨rfl, rfl, rfl, rfl⟩
set_option maxHeartbeats 4000000 in
theorem x_J1_init {l : Launch} {E : gE} {X : State → Prop} {Z : Nat → Nat} {Y : Nat → Option Nat} (hE : E.2.1 = clsX) (hX : xOK l E X Z Y) (S : xS) (D : xD) (R : xR) (q k : Nat) (hq : (S q).1 = k) (hk : 10 ≤ k ∧ k ≤ 17) (hw : E.2.2 q) : xC l E X yJ1_init cJ1_init 1 none 2 0 0 [.ref q] S D R (fun rv S' D' R' => rv = none ∧ ((∀ (p : Nat) (j : Int), (p ≠ q ∨ j ≠ 0) → D' p j = D p j) ∧ R' = R) ∧ S' = S) := by
  refine xC.ofF hX.1 (by decide +kernel) [some (.ref q)] (Nat.le_of_ble_eq_true rfl) rfl rfl (fun Γ hΓ => ?_)
  refine g_aload_n hΓ rfl dJ1_init_0 ?_
  refine x_callI (As := []) (rest := []) hΓ (x_J0_init hE hX S D R q k hq hk ) rfl q170 q171 q125 q172 ndJ0_init rfl rfl (by decide) (by decide) (Nat.zero_le _) (Nat.zero_le _) rfl (Nat.le_of_ble_eq_true rfl) dJ1_init_1 rfl (fun v1 S1 τ1 ρ1 h1 => ?_)
  obtain ⟨rfl, S1e, τ1e, ρ1e⟩ := h1
  have S1e := S1e.symm; subst S1e
  have τ1e := τ1e.symm; subst τ1e
  have ρ1e := ρ1e.symm; subst ρ1e
  refine g_aload_n hΓ rfl dJ1_init_4 ?_
  refine g_iconst hΓ dJ1_init_5 ?_
  refine x_puti (c := 10) hE hΓ in_J2 rfl hq (ks_10_17 hk) tyJ2 tyJ2_ok nmJ2 hw 0 (ji := 0) rfl (by decide) (by decide) rfl q178 rfl rfl rfl rfl rfl rfl dJ1_init_6 (fun τ2 τ2e => ?_)
  have τ2r : τ2 q 0 = 0 := by rw [τ2e]; exact us_s _ _ _ _
  have τ2f : ∀ (q9 : Nat) (j9 : Int), (q9 ≠ q ∨ j9 ≠ 0) → τ2 q9 j9 = D q9 j9 := fun q9 j9 hh => by rw [τ2e]; exact us_n hh
  exact x_vret hΓ dJ1_init_9 (Nat.zero_le _) (Nat.zero_le _) ⟨rfl, ⟨τ2f, rfl⟩, rfl⟩
set_option maxHeartbeats 4000000 in
theorem x_J2_init {l : Launch} {E : gE} {X : State → Prop} {Z : Nat → Nat} {Y : Nat → Option Nat} (hE : E.2.1 = clsX) (hX : xOK l E X Z Y) (S : xS) (D : xD) (R : xR) (q k : Nat) (hq : (S q).1 = k) (hk : 10 ≤ k ∧ k ≤ 17) (hw : E.2.2 q) : xC l E X yJ2_init cJ2_init 1 none 3 0 0 [.ref q] S D R (fun rv S' D' R' => rv = none ∧ ((∀ (p : Nat) (j : Int), (p ≠ q ∨ j ≠ 0) → D' p j = D p j) ∧ R' q 1 = some (Z 0) ∧ ∀ (p : Nat) (j : Int), (p ≠ q ∨ j ≠ 1) → R' p j = R p j) ∧ S' = S) := by
  refine xC.ofF hX.1 (by decide +kernel) [some (.ref q)] (Nat.le_of_ble_eq_true rfl) rfl rfl (fun Γ hΓ => ?_)
  refine g_aload_n hΓ rfl dJ2_init_0 ?_
  refine x_callI (As := []) (rest := []) hΓ (x_J1_init hE hX S D R q k hq hk hw ) rfl q167 q168 q126 q169 ndJ1_init rfl rfl (by decide) (by decide) (Nat.zero_le _) (Nat.zero_le _) rfl (Nat.le_of_ble_eq_true rfl) dJ2_init_1 rfl (fun v1 S1 τ1 ρ1 h1 => ?_)
  obtain ⟨rfl, h1, S1e⟩ := h1
  have S1e := S1e.symm; subst S1e
  refine g_aload_n hΓ rfl dJ2_init_4 ?_
  refine g_gets hΓ rfl (xn_s_dflt hX) q174 dJ2_init_5 ?_
  show gW Γ E (xM E S τ1 ρ1) 0 0 _ _ (.ref (Z 0) :: _)
  refine x_puta (c := 10) hE hΓ in_J2 rfl hq (ks_10_17 hk) tyJ2 tyJ2_ok nmJ2 hw 1 (ji := 1) rfl (by decide) (by decide) rfl q176 rfl rfl rfl rfl (some (Z 0)) rfl (by first | rfl | (rcases va_rf_or none with h9 | ⟨q9, h9⟩ <;> rw [h9] <;> rfl)) (by first | rfl | (rcases va_rf_or none with h9 | ⟨q9, h9⟩ <;> rw [h9] <;> rfl)) dJ2_init_8 (fun ρ2 ρ2e => ?_)
  have ρ2r : ρ2 q 1 = some (Z 0) := by rw [ρ2e]; exact ur_s _ _ _ _
  have ρ2f : ∀ (q9 : Nat) (j9 : Int), (q9 ≠ q ∨ j9 ≠ 1) → ρ2 q9 j9 = ρ1 q9 j9 := fun q9 j9 hh => by rw [ρ2e]; exact ur_n hh
  exact x_vret hΓ dJ2_init_11 (Nat.zero_le _) (Nat.zero_le _) ⟨rfl, ⟨h1.1, ρ2r, fun p9 j9 h9 => (ρ2f p9 j9 h9).trans (congrFun (congrFun h1.2 p9) j9)⟩, rfl⟩
