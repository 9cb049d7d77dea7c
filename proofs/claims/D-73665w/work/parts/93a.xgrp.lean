set_option maxRecDepth 100000
/-! GROUPS: each has the number of its first; one less with each join -/
def grI (g : Int → Int) (many N : Int) : Prop := (∀ m, 0 ≤ m → m < N → 0 ≤ g m ∧ g m ≤ m ∧ g (g m) = g m) ∧ many = gcF g N.toNat
theorem jn_same {g : Int → Int} {a b N : Int} (h : g a = g b) : jnF g a b N = g := by
  funext m
  rw [jnF]
  split
  · omega
  · rfl
theorem gcF_id : ∀ k : Nat, gcF (fun m => m) k = k
  | 0 => rfl
  | k + 1 => by rw [gcF, gcF_id k, if_pos rfl]; omega
theorem grI_0 {N : Int} (h : 0 ≤ N) : grI (fun m => m) N N := ⟨fun m h0 h1 => ⟨h0, Int.le_refl _, rfl⟩, by rw [gcF_id]; omega⟩
theorem gc_join {g : Int → Int} {a b N : Int} (hI : ∀ m, 0 ≤ m → m < N → 0 ≤ g m ∧ g m ≤ m ∧ g (g m) = g m) (ha : 0 ≤ a ∧ a < N) (hb : 0 ≤ b ∧ b < N) (hne : g a ≠ g b) : ∀ K : Nat, (K : Int) ≤ N → gcF (jnF g a b N) K = gcF g K - (if max (g a) (g b) < (K : Int) then 1 else 0)
  | 0, hK => by
    have p := hI a ha.1 ha.2
    have q := hI b hb.1 hb.2
    rw [gcF, gcF, if_neg (by omega)]; rfl
  | K + 1, hK => by
    have ih := gc_join hI ha hb hne K (by omega)
    have p := hI a ha.1 ha.2
    have q := hI b hb.1 hb.2
    have r := hI K (by omega) (by omega)
    have hmin : g (min (g a) (g b)) = min (g a) (g b) := by
      rcases (show min (g a) (g b) = g a ∨ min (g a) (g b) = g b by omega) with e | e
      · rw [e]; exact p.2.2
      · rw [e]; exact q.2.2
    have hmax : g (max (g a) (g b)) = max (g a) (g b) := by
      rcases (show max (g a) (g b) = g a ∨ max (g a) (g b) = g b by omega) with e | e
      · rw [e]; exact p.2.2
      · rw [e]; exact q.2.2
    rw [gcF, gcF, ih]
    by_cases c : (K : Int) = max (g a) (g b)
    · have e1 : g K = K := by rw [c]; exact hmax
      have e2 : jnF g a b N K = min (g a) (g b) := by rw [jnF, if_pos (show 0 ≤ (K : Int) ∧ (K : Int) < N ∧ g K = max (g a) (g b) from ⟨by omega, by omega, by omega⟩)]
      rw [if_pos e1, if_neg (show ¬ jnF g a b N K = K by rw [e2]; omega), if_neg (show ¬ max (g a) (g b) < (K : Int) by omega), if_pos (show max (g a) (g b) < ((K + 1 : Nat) : Int) by omega)]
      omega
    · have e : (jnF g a b N K = K) ↔ (g K = K) := by
        rw [jnF]
        by_cases d : 0 ≤ (K : Int) ∧ (K : Int) < N ∧ g K = max (g a) (g b)
        · rw [if_pos d]
          constructor
          · intro h
            exfalso
            have : g K = K := by rw [← h]; exact hmin
            omega
          · intro h
            omega
        · rw [if_neg d]
      by_cases f : g K = K
      · rw [if_pos f, if_pos (e.mpr f)]
        by_cases s : max (g a) (g b) < (K : Int)
        · rw [if_pos s, if_pos (by omega)]; omega
        · rw [if_neg s, if_neg (by omega)]; omega
      · rw [if_neg f, if_neg (fun z => f (e.mp z))]
        by_cases s : max (g a) (g b) < (K : Int)
        · rw [if_pos s, if_pos (by omega)]; omega
        · rw [if_neg s, if_neg (by omega)]; omega
theorem grI_join {g : Int → Int} {a b N many : Int} (hI : grI g many N) (ha : 0 ≤ a ∧ a < N) (hb : 0 ≤ b ∧ b < N) (hne : g a ≠ g b) : grI (jnF g a b N) (many - 1) N := by
  obtain ⟨h1, h2⟩ := hI
  have p := h1 a ha.1 ha.2
  have q := h1 b hb.1 hb.2
  have hmin : g (min (g a) (g b)) = min (g a) (g b) := by
    rcases (show min (g a) (g b) = g a ∨ min (g a) (g b) = g b by omega) with e | e
    · rw [e]; exact p.2.2
    · rw [e]; exact q.2.2
  refine ⟨fun m h0 hm => ?_, ?_⟩
  · have r := h1 m h0 hm
    rw [show jnF g a b N m = if 0 ≤ m ∧ m < N ∧ g m = max (g a) (g b) then min (g a) (g b) else g m from rfl]
    by_cases c : 0 ≤ m ∧ m < N ∧ g m = max (g a) (g b)
    · rw [if_pos c]
      refine ⟨by omega, by omega, ?_⟩
      rw [jnF, if_neg (by rw [hmin]; omega)]
      exact hmin
    · rw [if_neg c]
      refine ⟨r.1, r.2.1, ?_⟩
      rw [jnF, if_neg (by rw [r.2.2]; omega)]
      exact r.2.2
  · rw [gc_join h1 ha hb hne N.toNat (by omega), ← h2, if_pos (by omega)]
theorem grI_r {g : Int → Int} {many N : Int} (h : grI g many N) (h0 : 0 ≤ N) : 0 ≤ many ∧ many ≤ N := by
  have key : ∀ k : Nat, 0 ≤ gcF g k ∧ gcF g k ≤ k := by
    intro k
    induction k with
    | zero => exact ⟨Int.le_refl _, Int.le_refl _⟩
    | succ k ih => rw [gcF]; split <;> omega
  have := key N.toNat
  rw [h.2]
  omega
theorem rl_skip {g : Int → Int} {m mm hi lo o : Int} (h : mm = m + 1) (hne : ¬ g m = hi) : (if o < m ∧ g o = hi then lo else g o) = if o < mm ∧ g o = hi then lo else g o := by
  by_cases c : o = m
  · subst c
    rw [if_neg (fun z => hne z.2), if_neg (fun z => hne z.2)]
  · by_cases d : o < m ∧ g o = hi
    · rw [if_pos d, if_pos ⟨by omega, d.2⟩]
    · rw [if_neg d, if_neg (fun z => d ⟨by omega, z.2⟩)]
theorem rl_take {g v t : Int → Int} {m mm hi lo o : Int} (h : mm = m + 1) (he : g m = hi) (hv : v o = if o < m ∧ g o = hi then lo else g o) (ht : t m = lo) (hf : o ≠ m → t o = v o) : t o = if o < mm ∧ g o = hi then lo else g o := by
  by_cases c : o = m
  · subst c
    rw [if_pos ⟨by omega, he⟩]; exact ht
  · rw [hf c, hv]
    by_cases d : o < m ∧ g o = hi
    · rw [if_pos d, if_pos ⟨by omega, d.2⟩]
    · rw [if_neg d, if_neg (fun z => d ⟨by omega, z.2⟩)]
