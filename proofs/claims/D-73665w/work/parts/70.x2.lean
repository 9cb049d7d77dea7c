set_option maxRecDepth 100000
set_option maxHeartbeats 4000000 in
theorem x_J7_checkIndex {l : Launch} {E : gE} {X : State → Prop} {Z : Nat → Nat} {Y : Nat → Option Nat} (hE : E.2.1 = clsX) (hX : xOK l E X Z Y) (S : xS) (D : xD) (R : xR) (i n : Int) (h : 0 ≤ i ∧ i < n ∧ n < 2147483648) : xC l E X yJ7_checkIndex cJ7_checkIndex 3 (some .int) 1 0 0 [.int (iI i), .int (iI n), .null] S D R (fun rv S' D' R' => rv = some (.int (iI i)) ∧ S' = S ∧ D' = D ∧ R' = R) := by
  refine xC.ofF hX.1 (by decide +kernel) [some (.int (iI i)), some (.int (iI n)), some (.null)] (Nat.le_of_ble_eq_true rfl) rfl rfl (fun Γ hΓ => ?_)
  refine g_iload_n hΓ rfl dJ7_checkIndex_0 ?_
  refine g_if_lt (tgt := 9) hΓ (by omega) dJ7_checkIndex_1 (by decide) (fun c1 => ?_) (fun c1 => ?_)
  · exact absurd c1 (by omega)
  · refine g_iload_n hΓ rfl dJ7_checkIndex_4 ?_
    refine g_iload_n hΓ rfl dJ7_checkIndex_5 ?_
    refine g_icmp_lt (tgt := 16) hΓ (by omega) (by omega) dJ7_checkIndex_6 (by decide) (fun c2 => ?_) (fun c2 => ?_)
    · refine g_iload_n hΓ rfl dJ7_checkIndex_16 ?_
      exact x_iret hΓ dJ7_checkIndex_17 (Nat.zero_le _) (Nat.zero_le _) ⟨ri (by first | rfl | omega | (simp_all; done) | (simp_all; omega)), rfl, rfl, rfl⟩
    · exact absurd c2 (by omega)
set_option maxHeartbeats 4000000 in
theorem x_J12_checkIndex {l : Launch} {E : gE} {X : State → Prop} {Z : Nat → Nat} {Y : Nat → Option Nat} (hE : E.2.1 = clsX) (hX : xOK l E X Z Y) (S : xS) (D : xD) (R : xR) (i n : Int) (h : 0 ≤ i ∧ i < n ∧ n < 2147483648) : xC l E X yJ12_checkIndex cJ12_checkIndex 2 (some .int) 2 0 0 [.int (iI i), .int (iI n)] S D R (fun rv S' D' R' => rv = some (.int (iI i)) ∧ S' = S ∧ D' = D ∧ R' = R) := by
  refine xC.ofF hX.1 (by decide +kernel) [some (.int (iI i)), some (.int (iI n))] (Nat.le_of_ble_eq_true rfl) rfl rfl (fun Γ hΓ => ?_)
  refine g_iload_n hΓ rfl dJ12_checkIndex_0 ?_
  refine g_iload_n hΓ rfl dJ12_checkIndex_1 ?_
  refine g_null hΓ dJ12_checkIndex_2 ?_
  refine x_callS (As := [.int (iI i), .int (iI n), .null]) (rest := []) hΓ (x_J7_checkIndex hE hX S D R i n (by first | assumption | omega)) rfl q864 q865 q138 q866 ndJ7_checkIndex rfl (by decide) (by decide) (Nat.zero_le _) (Nat.zero_le _) rfl (Nat.le_of_ble_eq_true rfl) dJ12_checkIndex_3 rfl (fun v1 S1 τ1 ρ1 h1 => ?_)
  obtain ⟨rfl, S1e, τ1e, ρ1e⟩ := h1
  have S1e := S1e.symm; subst S1e
  have τ1e := τ1e.symm; subst τ1e
  have ρ1e := ρ1e.symm; subst ρ1e
  show gW Γ E (xM E S D R) _ _ _ _ (.int (iI i) :: _)
  exact x_iret hΓ dJ12_checkIndex_6 (Nat.zero_le _) (Nat.zero_le _) ⟨ri (by first | rfl | omega | (simp_all; done) | (simp_all; omega)), rfl, rfl, rfl⟩
set_option maxHeartbeats 4000000 in
theorem x_J2_elementData {l : Launch} {E : gE} {X : State → Prop} {Z : Nat → Nat} {Y : Nat → Option Nat} (hE : E.2.1 = clsX) (hX : xOK l E X Z Y) (S : xS) (D : xD) (R : xR) (a b e k kb n : Nat) (i : Int) (ha : (S a).1 = k) (hk : 10 ≤ k ∧ k ≤ 17) (hr : R a 1 = some b) (hb : (S b).1 = kb) (hkb : 20 ≤ kb ∧ kb ≤ 28) (hn : (S b).2.1 = n) (hin : 0 ≤ i ∧ i < (n : Int) ∧ n ≤ 1000) (he : R b i = some e) : xC l E X yJ2_elementData cJ2_elementData 2 (some (.object "java/lang/Object")) 0 0 0 [.ref a, .int (iI i)] S D R (fun rv S' D' R' => rv = some (.ref e) ∧ S' = S ∧ D' = D ∧ R' = R) := by
  refine xC.ofF hX.1 (by decide +kernel) [some (.ref a), some (.int (iI i))] (Nat.le_of_ble_eq_true rfl) rfl rfl (fun Γ hΓ => ?_)
  refine g_aload_n hΓ rfl dJ2_elementData_0 ?_
  refine x_geta (r := some b) (c := 10) hE hΓ in_J2 rfl ha (ks_10_17 hk) 1 (ji := 1) rfl (by decide) (by decide) rfl q176 rfl rfl hr dJ2_elementData_1 ?_
  show gW Γ E (xM E S D R) 0 0 _ _ (.ref b :: _)
  refine g_iload_n hΓ rfl dJ2_elementData_4 ?_
  refine x_aaldO (r := some e) hΓ hb hn (ks_20_28 hkb) (by omega) (by omega) he dJ2_elementData_5 ?_
  show gW Γ E (xM E S D R) 0 0 _ _ (.ref e :: _)
  exact x_aret hΓ (Or.inl ⟨_, rfl⟩) (Or.inr ⟨_, rfl⟩) dJ2_elementData_6 (Nat.zero_le _) (Nat.zero_le _) ⟨rfl, rfl, rfl, rfl⟩
set_option maxHeartbeats 4000000 in
theorem x_J2_get {l : Launch} {E : gE} {X : State → Prop} {Z : Nat → Nat} {Y : Nat → Option Nat} (hE : E.2.1 = clsX) (hX : xOK l E X Z Y) (S : xS) (D : xD) (R : xR) (a b e k kb n : Nat) (i : Int) (ha : (S a).1 = k) (hk : 10 ≤ k ∧ k ≤ 17) (hr : R a 1 = some b) (hb : (S b).1 = kb) (hkb : 20 ≤ kb ∧ kb ≤ 28) (hn : (S b).2.1 = n) (hin : 0 ≤ i ∧ i < (n : Int) ∧ n ≤ 1000) (his : i < D a 2 ∧ D a 2 < 2147483648) (he : R b i = some e) : xC l E X yJ2_get cJ2_get 2 (some (.object "java/lang/Object")) 3 0 0 [.ref a, .int (iI i)] S D R (fun rv S' D' R' => rv = some (.ref e) ∧ S' = S ∧ D' = D ∧ R' = R) := by
  refine xC.ofF hX.1 (by decide +kernel) [some (.ref a), some (.int (iI i))] (Nat.le_of_ble_eq_true rfl) rfl rfl (fun Γ hΓ => ?_)
  refine g_iload_n hΓ rfl dJ2_get_0 ?_
  refine g_aload_n hΓ rfl dJ2_get_1 ?_
  refine x_geti (c := 10) hE hΓ in_J2 rfl ha (ks_10_17 hk) 2 (ji := 2) rfl (by decide) (by decide) rfl q177 rfl rfl dJ2_get_2 ?_
  refine x_callS (As := [.int (iI i), .int (iI (D a 2))]) (rest := []) hΓ (x_J12_checkIndex hE hX S D R i (D a 2) (by first | assumption | omega)) rfl q861 q862 q145 q863 ndJ12_checkIndex rfl (by decide) (by decide) (Nat.zero_le _) (Nat.zero_le _) rfl (Nat.le_of_ble_eq_true rfl) dJ2_get_5 rfl (fun v1 S1 τ1 ρ1 h1 => ?_)
  obtain ⟨rfl, S1e, τ1e, ρ1e⟩ := h1
  have S1e := S1e.symm; subst S1e
  have τ1e := τ1e.symm; subst τ1e
  have ρ1e := ρ1e.symm; subst ρ1e
  show gW Γ E (xM E S D R) _ _ _ _ (.int (iI i) :: _)
  refine g_pop hΓ rfl dJ2_get_8 ?_
  refine g_aload_n hΓ rfl dJ2_get_9 ?_
  refine g_iload_n hΓ rfl dJ2_get_10 ?_
  refine x_callV (As := [.int (iI i)]) (rest := []) (c := 10) hE hΓ (x_J2_elementData hE hX S D R a b e k kb n i ha hk hr hb hkb hn (by omega)  he ) ha (ks_10_17 hk) rfl rfl q867 q868 q869 q127 q870 ndJ2_elementData rfl (by decide) (by decide) (Nat.zero_le _) (Nat.zero_le _) rfl (Nat.le_of_ble_eq_true rfl) dJ2_get_11 rfl (fun v2 S2 τ2 ρ2 h2 => ?_)
  obtain ⟨rfl, S2e, τ2e, ρ2e⟩ := h2
  have S2e := S2e.symm; subst S2e
  have τ2e := τ2e.symm; subst τ2e
  have ρ2e := ρ2e.symm; subst ρ2e
  show gW Γ E (xM E S D R) _ _ _ _ (.ref e :: _)
  exact x_aret hΓ (Or.inl ⟨_, rfl⟩) (Or.inr ⟨_, rfl⟩) dJ2_get_14 (Nat.zero_le _) (Nat.zero_le _) ⟨rfl, rfl, rfl, rfl⟩
set_option maxHeartbeats 4000000 in
theorem x_J2_size {l : Launch} {E : gE} {X : State → Prop} {Z : Nat → Nat} {Y : Nat → Option Nat} (hE : E.2.1 = clsX) (hX : xOK l E X Z Y) (S : xS) (D : xD) (R : xR) (a k : Nat) (ha : (S a).1 = k) (hk : 10 ≤ k ∧ k ≤ 17) : xC l E X yJ2_size cJ2_size 1 (some .int) 0 0 0 [.ref a] S D R (fun rv S' D' R' => rv = some (.int (iI (D a 2))) ∧ S' = S ∧ D' = D ∧ R' = R) := by
  refine xC.ofF hX.1 (by decide +kernel) [some (.ref a)] (Nat.le_of_ble_eq_true rfl) rfl rfl (fun Γ hΓ => ?_)
  refine g_aload_n hΓ rfl dJ2_size_0 ?_
  refine x_geti (c := 10) hE hΓ in_J2 rfl ha (ks_10_17 hk) 2 (ji := 2) rfl (by decide) (by decide) rfl q177 rfl rfl dJ2_size_1 ?_
  exact x_iret hΓ dJ2_size_4 (Nat.zero_le _) (Nat.zero_le _) ⟨ri (by first | rfl | omega | (simp_all; done) | (simp_all; omega)), rfl, rfl, rfl⟩
set_option maxHeartbeats 4000000 in
theorem x_J2_isEmpty {l : Launch} {E : gE} {X : State → Prop} {Z : Nat → Nat} {Y : Nat → Option Nat} (hE : E.2.1 = clsX) (hX : xOK l E X Z Y) (S : xS) (D : xD) (R : xR) (a k : Nat) (ha : (S a).1 = k) (hk : 10 ≤ k ∧ k ≤ 17) (hz : r32 (D a 2)) : xC l E X yJ2_isEmpty cJ2_isEmpty 1 (some .boolean) 0 0 0 [.ref a] S D R (fun rv S' D' R' => rv = some (.int (iI (if D a 2 = 0 then 1 else 0))) ∧ S' = S ∧ D' = D ∧ R' = R) := by
  refine xC.ofF hX.1 (by decide +kernel) [some (.ref a)] (Nat.le_of_ble_eq_true rfl) rfl rfl (fun Γ hΓ => ?_)
  refine g_aload_n hΓ rfl dJ2_isEmpty_0 ?_
  refine x_geti (c := 10) hE hΓ in_J2 rfl ha (ks_10_17 hk) 2 (ji := 2) rfl (by decide) (by decide) rfl q177 rfl rfl dJ2_isEmpty_1 ?_
  refine g_if_ne (tgt := 11) hΓ (by omega) dJ2_isEmpty_4 (by decide) (fun c1 => ?_) (fun c1 => ?_)
  · refine g_iconst hΓ dJ2_isEmpty_11 ?_
    exact x_zret hΓ (by omega) dJ2_isEmpty_12 (Nat.zero_le _) (Nat.zero_le _) ⟨ri (by first | rfl | omega | (simp_all; done) | (simp_all; omega)), rfl, rfl, rfl⟩
  · refine g_iconst hΓ dJ2_isEmpty_7 ?_
    refine g_goto (tgt := 12) hΓ dJ2_isEmpty_8 (by decide) ?_
    exact x_zret hΓ (by omega) dJ2_isEmpty_12 (Nat.zero_le _) (Nat.zero_le _) ⟨ri (by first | rfl | omega | (simp_all; done) | (simp_all; omega)), rfl, rfl, rfl⟩
