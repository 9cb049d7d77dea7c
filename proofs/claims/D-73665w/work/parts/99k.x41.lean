set_option maxRecDepth 100000
set_option maxHeartbeats 4000000 in
theorem x_X1_like {l : Launch} {E : gE} {X : State → Prop} {Z : Nat → Nat} {Y : Nat → Option Nat} (hE : E.2.1 = clsX) (hX : xOK l E X Z Y) (S : xS) (D : xD) (R : xR) (s t : Nat) (r : Int → Int) (hg : GI E Z S D R) (hki : KI E Z S D R) (hs : (S s).1 = 2) (ht : stR S D R t r) (hro : rowOK r) (hne : s ≠ t) : xC l E X yX1_like cX1_like 2 (some (.object "LetterPen$State")) 5 4 140 [.ref s, .ref t] S D R (fun rv S' D' R' => rv = some (.ref s) ∧ (GI E Z S' D' R' ∧ chg (stT S s) S S' D D' R R' ∧ stR S' D' R' s r) ∧ sle S S') := by
  refine xC.of hX.1 (by decide) [some (.ref s), some (.ref t)] (Nat.le_of_ble_eq_true rfl) rfl rfl (fun Γ hΓ => ?_)
  have hst := hg.2.2.1 s hs
  have htt := hg.2.2.1 t ht.1
  have hb0 := hro.1
  have hb9 := hro.2.1
  have hAw := hg.2.2.2.2.2.2
  have e20 := ht.2.2.2.2.1
  have e21 := ht.2.2.1
  have kV1 : (S (rf R s 2)).1 = 45 := by rw [hst.2.2.2.2.2.2.2]
  have nV1 : (S (rf R s 2)).2.1 = 6 := by rw [hst.2.2.2.2.2.2.2]
  have kV2 : (S (rf R t 2)).1 = 45 := by rw [htt.2.2.2.2.2.2.2]
  have nV2 : (S (rf R t 2)).2.1 = 6 := by rw [htt.2.2.2.2.2.2.2]
  have oM := stT_l hg (s := s) (a := rf R t 0) (Or.inr htt.2.1) (by rw [htt.2.2.1]; exact Ne.symm hne)
  have oI := stT_l hg (s := s) (a := rf R t 1) (Or.inl htt.2.2.2.2.1) (by rw [htt.2.2.2.2.2.1]; exact Ne.symm hne)
  refine g_aload_n hΓ rfl dX1_like_0 ?_
  refine x_geta (r := some (rf R s 0)) (c := 1) hE hΓ in_X1 rfl hs ⟨by decide, rfl⟩ 0 (ji := 0) rfl (by decide) (by decide) rfl q195 rfl rfl hst.1 dX1_like_1 ?_
  show gW Γ E (xM E S D R) 0 0 _ _ (.ref (rf R s 0) :: _)
  refine x_callV (As := []) (rest := []) (c := 10) hE hΓ (x_J2_clear hE hX S D R (rf R s 0) 11 hst.2.1 (by decide) hg ) hst.2.1 ⟨by decide, rfl⟩ rfl rfl q1272 q830 q831 q127 q832 ndJ2_clear rfl (by decide) (by decide) (Nat.zero_le _) (Nat.zero_le _) rfl (Nat.le_of_ble_eq_true rfl) dX1_like_4 rfl (fun v1 S1 τ1 ρ1 h1 => ?_)
  obtain ⟨rfl, h1, S1e⟩ := h1
  have S1e := S1e.symm; subst S1e
  have hc1 : chg (stT S s) S S D τ1 R ρ1 := chg_w h1.2.2 (lT_st (fun q9 h9 => rfl) (Or.inr hst.2.1) hst.2.2.1)
  have no1 := lT_o hg (a := (rf R s 0)) (b := (rf R s 1)) (by rw [hst.2.1]; decide) (by rw [hst.2.2.2.2.1]; decide) (ne_k hst.2.2.2.2.1 hst.2.1 (by decide))
  have lo1 := ls_chg h1.2.2 (by rw [hst.2.2.2.2.1]; decide) (hg.2.1 (rf R s 1) (by rw [hst.2.2.2.2.1]; decide) (by rw [hst.2.2.2.2.1]; decide)) no1.1 no1.2
  have lM1 := ls_chg hc1 (by rw [htt.2.1]; decide) (hg.2.1 (rf R t 0) (by rw [htt.2.1]; decide) (by rw [htt.2.1]; decide)) oM.1 oM.2
  have lI1 := ls_chg hc1 (by rw [htt.2.2.2.2.1]; decide) (hg.2.1 (rf R t 1) (by rw [htt.2.2.2.2.1]; decide) (by rw [htt.2.2.2.2.1]; decide)) oI.1 oI.2
  have rs1 := cg_R hc1 stT_k hs (by decide) (by decide)
  have rt1 := cg_R hc1 stT_k ht.1 (by decide) (by decide)
  refine g_aload_n hΓ rfl dX1_like_7 ?_
  refine x_geta (r := some (rf R s 0)) (c := 1) hE hΓ in_X1 rfl hs ⟨by decide, rfl⟩ 0 (ji := 0) rfl (by decide) (by decide) rfl q195 rfl rfl ((congrFun rs1 0).trans hst.1) dX1_like_8 ?_
  show gW Γ E (xM E S τ1 ρ1) 0 0 _ _ (.ref (rf R s 0) :: _)
  refine g_aload_n hΓ rfl dX1_like_11 ?_
  refine x_geta (r := some (rf R t 0)) (c := 1) hE hΓ in_X1 rfl ht.1 ⟨by decide, rfl⟩ 0 (ji := 0) rfl (by decide) (by decide) rfl q195 rfl rfl ((congrFun rt1 0).trans htt.1) dX1_like_12 ?_
  show gW Γ E (xM E S τ1 ρ1) 0 0 _ _ (.ref (rf R t 0) :: _)
  have hza3 : τ1 (rf R s 0) 2 = 0 := h1.2.1
  have hzc3 : τ1 (rf R t 0) 2 = r 1000 := ((congrFun lM1.2.2.1 2).trans e20)
  refine x_callV (As := [.ref (rf R t 0)]) (rest := []) (c := 10) hE hΓ (x_J2_addAll hE hX S τ1 ρ1 (rf R s 0) (rf R t 0) 11 11 hst.2.1 (by decide) h1.1 htt.2.1 (by decide) rfl (by omega) hki.2.2.2 ) hst.2.1 ⟨by decide, rfl⟩ rfl rfl q1273 q1183 q1184 q127 q1185 ndJ2_addAll rfl (by decide) (by decide) (by omega) (by omega) rfl (Nat.le_of_ble_eq_true rfl) dX1_like_15 rfl (fun v2 S2 τ2 ρ2 h2 => ?_)
  obtain ⟨rfl, h2, S2f⟩ := h2
  have kd4 : (S2 s).1 = 2 := kup hs (by decide) S2f
  have kd5 : (S2 t).1 = 2 := kup ht.1 (by decide) S2f
  have kd6 : (S2 (rf R s 0)).1 = 11 := kup hst.2.1 (by decide) S2f
  have kd7 : (S2 (rf R s 1)).1 = 10 := kup hst.2.2.2.2.1 (by decide) S2f
  have kd8 : (S2 (rf R s 2)).1 = 45 := kup kV1 (by decide) S2f
  have ln8 : (S2 (rf R s 2)).2.1 = 6 := nup kV1 (by decide) nV1 S2f
  have kd9 : (S2 (rf R t 0)).1 = 11 := kup htt.2.1 (by decide) S2f
  have kd10 : (S2 (rf R t 1)).1 = 10 := kup htt.2.2.2.2.1 (by decide) S2f
  have kd11 : (S2 (rf R t 2)).1 = 45 := kup kV2 (by decide) S2f
  have ln11 : (S2 (rf R t 2)).2.1 = 6 := nup kV2 (by decide) nV2 S2f
  have hc2 : chg (stT S s) S S2 D τ2 R ρ2 := chg_t hc1 h2.2.2.1 (lT_st (fun q9 h9 => rfl) (Or.inr hst.2.1) hst.2.2.1)
  have no2 := lT_o h1.1 (a := (rf R s 0)) (b := (rf R s 1)) (by rw [hst.2.1]; decide) (by rw [hst.2.2.2.2.1]; decide) (ne_k hst.2.2.2.2.1 hst.2.1 (by decide))
  have lo2 := ls_chg h2.2.2.1 (by rw [hst.2.2.2.2.1]; decide) (h1.1.2.1 (rf R s 1) (by rw [hst.2.2.2.2.1]; decide) (by rw [hst.2.2.2.2.1]; decide)) no2.1 no2.2
  have lM2 := ls_chg hc2 (by rw [htt.2.1]; decide) (hg.2.1 (rf R t 0) (by rw [htt.2.1]; decide) (by rw [htt.2.1]; decide)) oM.1 oM.2
  have lI2 := ls_chg hc2 (by rw [htt.2.2.2.2.1]; decide) (hg.2.1 (rf R t 1) (by rw [htt.2.2.2.2.1]; decide) (by rw [htt.2.2.2.2.1]; decide)) oI.1 oI.2
  have rs2 := cg_R hc2 stT_k hs (by decide) (by decide)
  have rt2 := cg_R hc2 stT_k ht.1 (by decide) (by decide)
  have sz0 : τ2 (rf R s 0) 2 = D (rf R t 0) 2 := h2.2.1.trans (congrFun lM1.2.2.1 2)
  have el0 : ∀ i9, 0 ≤ i9 → i9 < D (rf R t 0) 2 → lE ρ2 (rf R s 0) i9 = lE R (rf R t 0) i9 := fun i9 x9 y9 => (h2.2.2.2.1 i9 x9 (by rw [lM1.2.2.1]; exact y9)).trans (lM1.2.2.2.1 i9)
  show gW Γ E (xM E S2 τ2 ρ2) _ _ _ _ (.int (iI (if τ1 (rf R t 0) 2 = 0 then 0 else 1)) :: _)
  refine g_pop hΓ rfl dX1_like_18 ?_
  refine g_aload_n hΓ rfl dX1_like_19 ?_
  refine x_geta (r := some (rf R s 1)) (c := 1) hE hΓ in_X1 rfl kd4 ⟨by decide, rfl⟩ 1 (ji := 1) rfl (by decide) (by decide) rfl q198 rfl rfl ((congrFun rs2 1).trans hst.2.2.2.1) dX1_like_20 ?_
  show gW Γ E (xM E S2 τ2 ρ2) (0 + 2) (0 + 70) _ _ (.ref (rf R s 1) :: _)
  refine x_callV (As := []) (rest := []) (c := 10) hE hΓ (x_J2_clear hE hX S2 τ2 ρ2 (rf R s 1) 10 kd7 (by decide) h2.1 ) kd7 ⟨by decide, rfl⟩ rfl rfl q1272 q830 q831 q127 q832 ndJ2_clear rfl (by decide) (by decide) (by omega) (by omega) rfl (Nat.le_of_ble_eq_true rfl) dX1_like_23 rfl (fun v12 S12 τ12 ρ12 h12 => ?_)
  obtain ⟨rfl, h12, S12e⟩ := h12
  have S12e := S12e.symm; subst S12e
  have hc12 : chg (stT S s) S S2 D τ12 R ρ12 := chg_t hc2 h12.2.2 (lT_st S2f (Or.inl hst.2.2.2.2.1) hst.2.2.2.2.2.1)
  have no12 := lT_o h2.1 (a := (rf R s 1)) (b := (rf R s 0)) (by rw [kd7]; decide) (by rw [kd6]; decide) (ne_k kd6 kd7 (by decide))
  have lo12 := ls_chg h12.2.2 (by rw [kd6]; decide) (h2.1.2.1 (rf R s 0) (by rw [kd6]; decide) (by rw [kd6]; decide)) no12.1 no12.2
  have lM12 := ls_chg hc12 (by rw [htt.2.1]; decide) (hg.2.1 (rf R t 0) (by rw [htt.2.1]; decide) (by rw [htt.2.1]; decide)) oM.1 oM.2
  have lI12 := ls_chg hc12 (by rw [htt.2.2.2.2.1]; decide) (hg.2.1 (rf R t 1) (by rw [htt.2.2.2.2.1]; decide) (by rw [htt.2.2.2.2.1]; decide)) oI.1 oI.2
  have rs12 := cg_R hc12 stT_k hs (by decide) (by decide)
  have rt12 := cg_R hc12 stT_k ht.1 (by decide) (by decide)
  have sz0 : τ12 (rf R s 0) 2 = D (rf R t 0) 2 := (congrFun lo12.2.2.1 2).trans sz0
  have el0 : ∀ i9, 0 ≤ i9 → i9 < D (rf R t 0) 2 → lE ρ12 (rf R s 0) i9 = lE R (rf R t 0) i9 := fun i9 x9 y9 => (lo12.2.2.2.1 i9).trans (el0 i9 x9 y9)
  refine g_aload_n hΓ rfl dX1_like_26 ?_
  refine x_geta (r := some (rf R s 1)) (c := 1) hE hΓ in_X1 rfl kd4 ⟨by decide, rfl⟩ 1 (ji := 1) rfl (by decide) (by decide) rfl q198 rfl rfl ((congrFun rs12 1).trans hst.2.2.2.1) dX1_like_27 ?_
  show gW Γ E (xM E S2 τ12 ρ12) (0 + 2 + 0) (0 + 70 + 0) _ _ (.ref (rf R s 1) :: _)
  refine g_aload_n hΓ rfl dX1_like_30 ?_
  refine x_geta (r := some (rf R t 1)) (c := 1) hE hΓ in_X1 rfl kd5 ⟨by decide, rfl⟩ 1 (ji := 1) rfl (by decide) (by decide) rfl q198 rfl rfl ((congrFun rt12 1).trans htt.2.2.2.1) dX1_like_31 ?_
  show gW Γ E (xM E S2 τ12 ρ12) (0 + 2 + 0) (0 + 70 + 0) _ _ (.ref (rf R t 1) :: _)
  have hza14 : τ12 (rf R s 1) 2 = 0 := h12.2.1
  have hzc14 : τ12 (rf R t 1) 2 = r 1009 := ((congrFun lI12.2.2.1 2).trans e21)
  refine x_callV (As := [.ref (rf R t 1)]) (rest := []) (c := 10) hE hΓ (x_J2_addAll hE hX S2 τ12 ρ12 (rf R s 1) (rf R t 1) 10 10 kd7 (by decide) h12.1 kd10 (by decide) rfl (by omega) hki.2.2.2 ) kd7 ⟨by decide, rfl⟩ rfl rfl q1273 q1183 q1184 q127 q1185 ndJ2_addAll rfl (by decide) (by decide) (by omega) (by omega) rfl (Nat.le_of_ble_eq_true rfl) dX1_like_34 rfl (fun v13 S13 τ13 ρ13 h13 => ?_)
  obtain ⟨rfl, h13, S13f⟩ := h13
  have kd15 : (S13 s).1 = 2 := kup kd4 (by decide) S13f
  have kd16 : (S13 t).1 = 2 := kup kd5 (by decide) S13f
  have kd17 : (S13 (rf R s 0)).1 = 11 := kup kd6 (by decide) S13f
  have kd18 : (S13 (rf R s 1)).1 = 10 := kup kd7 (by decide) S13f
  have kd19 : (S13 (rf R s 2)).1 = 45 := kup kd8 (by decide) S13f
  have ln19 : (S13 (rf R s 2)).2.1 = 6 := nup kd8 (by decide) ln8 S13f
  have kd20 : (S13 (rf R t 0)).1 = 11 := kup kd9 (by decide) S13f
  have kd21 : (S13 (rf R t 1)).1 = 10 := kup kd10 (by decide) S13f
  have kd22 : (S13 (rf R t 2)).1 = 45 := kup kd11 (by decide) S13f
  have ln22 : (S13 (rf R t 2)).2.1 = 6 := nup kd11 (by decide) ln11 S13f
  have hc13 : chg (stT S s) S S13 D τ13 R ρ13 := chg_t hc12 h13.2.2.1 (lT_st S2f (Or.inl hst.2.2.2.2.1) hst.2.2.2.2.2.1)
  have no13 := lT_o h12.1 (a := (rf R s 1)) (b := (rf R s 0)) (by rw [kd7]; decide) (by rw [kd6]; decide) (ne_k kd6 kd7 (by decide))
  have lo13 := ls_chg h13.2.2.1 (by rw [kd6]; decide) (h12.1.2.1 (rf R s 0) (by rw [kd6]; decide) (by rw [kd6]; decide)) no13.1 no13.2
  have lM13 := ls_chg hc13 (by rw [htt.2.1]; decide) (hg.2.1 (rf R t 0) (by rw [htt.2.1]; decide) (by rw [htt.2.1]; decide)) oM.1 oM.2
  have lI13 := ls_chg hc13 (by rw [htt.2.2.2.2.1]; decide) (hg.2.1 (rf R t 1) (by rw [htt.2.2.2.2.1]; decide) (by rw [htt.2.2.2.2.1]; decide)) oI.1 oI.2
  have rs13 := cg_R hc13 stT_k hs (by decide) (by decide)
  have rt13 := cg_R hc13 stT_k ht.1 (by decide) (by decide)
  have sz1 : τ13 (rf R s 1) 2 = D (rf R t 1) 2 := h13.2.1.trans (congrFun lI12.2.2.1 2)
  have el1 : ∀ i9, 0 ≤ i9 → i9 < D (rf R t 1) 2 → lE ρ13 (rf R s 1) i9 = lE R (rf R t 1) i9 := fun i9 x9 y9 => (h13.2.2.2.1 i9 x9 (by rw [lI12.2.2.1]; exact y9)).trans (lI12.2.2.2.1 i9)
  have sz0 : τ13 (rf R s 0) 2 = D (rf R t 0) 2 := (congrFun lo13.2.2.1 2).trans sz0
  have el0 : ∀ i9, 0 ≤ i9 → i9 < D (rf R t 0) 2 → lE ρ13 (rf R s 0) i9 = lE R (rf R t 0) i9 := fun i9 x9 y9 => (lo13.2.2.2.1 i9).trans (el0 i9 x9 y9)
  show gW Γ E (xM E S13 τ13 ρ13) _ _ _ _ (.int (iI (if τ12 (rf R t 1) 2 = 0 then 0 else 1)) :: _)
  refine g_pop hΓ rfl dX1_like_37 ?_
  refine g_aload_n hΓ rfl dX1_like_38 ?_
  refine x_geta (r := some (rf R t 2)) (c := 1) hE hΓ in_X1 rfl kd16 ⟨by decide, rfl⟩ 2 (ji := 2) rfl (by decide) (by decide) rfl q201 rfl rfl ((congrFun rt13 2).trans htt.2.2.2.2.2.2.1) dX1_like_39 ?_
  show gW Γ E (xM E S13 τ13 ρ13) (0 + 2 + 0 + 2) (0 + 70 + 0 + 70) _ _ (.ref (rf R t 2) :: _)
  refine g_iconst hΓ dX1_like_42 ?_
  refine g_aload_n hΓ rfl dX1_like_43 ?_
  refine x_geta (r := some (rf R s 2)) (c := 1) hE hΓ in_X1 rfl kd15 ⟨by decide, rfl⟩ 2 (ji := 2) rfl (by decide) (by decide) rfl q201 rfl rfl ((congrFun rs13 2).trans hst.2.2.2.2.2.2.1) dX1_like_44 ?_
  show gW Γ E (xM E S13 τ13 ρ13) (0 + 2 + 0 + 2) (0 + 70 + 0 + 70) _ _ (.ref (rf R s 2) :: _)
  refine g_iconst hΓ dX1_like_47 ?_
  refine g_bipush hΓ (by decide) dX1_like_48 ?_
  have nv2 := (stT_o hg ht.1 (Ne.symm hne)).2.2.2.2
  have dv2 : τ13 (rf R t 2) = D (rf R t 2) := hc13.2.1 _ (by rw [kV2]; decide) nv2
  refine x_copyi hΓ (xn_new hX) rfl q192 q194 q193 q128 kd22 ln22 ⟨by decide, rfl⟩ (hAw _ (by rw [kV2]; rfl)) kd19 ln19 ⟨by decide, rfl⟩ (hAw _ (by rw [kV1]; rfl)) (by omega) (by decide) (Nat.le_of_ble_eq_true rfl) rfl dX1_like_50 (fun τ23 τ23g τ23r => ?_)
  refine g_aload_n hΓ rfl dX1_like_53 ?_
  have hkv : (S13 (rf R s 2)).1 = 45 := kd19
  have hcv : chg (stT S s) S S13 D τ23 R ρ13 := ⟨hc13.1, fun q9 h9 h8 => by
    rw [← hc13.2.1 q9 h9 h8]
    exact funext fun j9 => τ23g q9 j9 (fun e9 => h8 (by rw [e9]; exact Or.inl ⟨Or.inr (Or.inr kV1), by rw [hst.2.2.2.2.2.2.2]⟩)), hc13.2.2⟩
  have hGv : GI E Z S13 τ23 ρ13 := GI_chgG (T := fun q9 => q9 = rf R s 2) h13.1 ⟨fun _ _ => rfl, fun q9 _ h8 => funext fun j9 => τ23g q9 j9 h8, fun _ _ _ => rfl⟩ (fun q9 h9 => by rw [h9, hkv]; decide) (fun a9 h1 h2 h3 => by
    have h7 : a9 ≠ rf R s 2 := fun e9 => by rw [e9, hkv] at h2; omega
    have hl9 := h13.1.2.1 a9 h1 h2
    refine lsOK_chg (T := fun q9 => q9 = rf R s 2) ⟨fun _ _ => rfl, fun q9 _ h8 => funext fun j9 => τ23g q9 j9 h8, fun _ _ _ => rfl⟩ ⟨h1, h2⟩ hl9 h7 (fun e9 => ?_)
    obtain ⟨b9, kb9, -, hb1, hb2, hb3, -⟩ := lsOK_b hl9 ⟨h1, h2⟩
    rw [← hb1] at e9
    rw [e9, hkv] at hb2
    omega) (fun q9 h9 => by
    have h8 : ∀ k : Nat, k ≠ 0 → (S13 q9).1 ≠ k := fun k hk e9 => hk (by rw [← e9]; exact h9)
    exact ⟨fun e9 => absurd e9 (h8 8 (by decide)), fun e9 => absurd e9 (h8 2 (by decide)), fun e9 => absurd e9 (h8 7 (by decide)), fun e9 => absurd e9 (h8 9 (by decide)), fun e9 => absurd e9 (h8 30 (by decide)), fun e9 => by rw [h9] at e9; exact absurd e9 (by decide)⟩)
  have hI1 : rf R s 1 ≠ rf R s 2 := ne_k hst.2.2.2.2.1 kV1 (by decide)
  have hM1 : rf R s 0 ≠ rf R s 2 := ne_k hst.2.1 kV1 (by decide)
  have hfin := like_st hg hcv ht hs ((τ23g _ _ hM1).trans sz0) ((τ23g _ _ hI1).trans sz1) el0 el1 (fun j9 x9 y9 => by rw [τ23r, cpI, if_pos (by omega), show (0 : Int) + (j9 - 0) = j9 by omega, dv2])
  exact x_aret hΓ (Or.inl ⟨_, rfl⟩) (Or.inr ⟨_, rfl⟩) dX1_like_54 (by omega) (by omega) ⟨rfl, ⟨hGv, hcv, hfin⟩, (sle_t S2f S13f)⟩
set_option maxHeartbeats 4000000 in
theorem x_X0_keeps {l : Launch} {E : gE} {X : State → Prop} {Z : Nat → Nat} {Y : Nat → Option Nat} (hE : E.2.1 = clsX) (hX : xOK l E X Z Y) (S : xS) (D : xD) (R : xR) (P : xPk) (σ : mS)  (hx : Rx E Z S D R P σ) : xC l E X yX0_keeps cX0_keeps 2 none 7 9 215 [.ref (P.1)] S D R (fun rv S' D' R' => rv = none ∧ (Rx E Z S' D' R' P (remS σ) ∧ D' (P.2.1 3) = D (P.2.1 3)) ∧ sle S S') := by
  refine xC.of hX.1 (by decide) [some (.ref (P.1)), none] (Nat.le_of_ble_eq_true rfl) rfl rfl (fun Γ hΓ => ?_)
  obtain ⟨hg, hp, hki, hro, hnw, hbh, hsa, hpd⟩ := id hx
  obtain ⟨N, NI, NM, NV, hN⟩ := (hx).now
  have hAw := hg.2.2.2.2.2.2
  have hG : GS S D R := hg.1
  obtain ⟨h1000, h1009, h1042, h1043, h1044, h1045, h1046, h1047, hms, hsi, hsm, hnm⟩ := id hro
  have eN := hN.2.2.2.2.2.2.2.2.2.2.2.2
  have kNV : (S NV).1 = 45 := by rw [hN.2.2.2.1.2]
  have nNV : (S NV).2.1 = 6 := by rw [hN.2.2.2.1.2]
  have hbs := hbh.1
  have hb2 := hbh.2.1
  have hus := hbh.2.2.2.2
  have k5 := pL_k hp 5 rfl (n := 14) rfl
  have k6 := pL_k hp 6 rfl (n := 15) rfl
  have k53 := pA_k hp 3 rfl (n := 53) rfl
  have hro0 := hro
  have hus2 := hus
  refine g_aload_n hΓ rfl dX0_keeps_0 ?_
  refine x_geta (r := some (P.2.1 5)) (c := 0) hE hΓ in_X0 rfl hp.1 ⟨by decide, rfl⟩ 5 (ji := 5) rfl (by decide) (by decide) rfl q251 rfl rfl (pL_r hp 5 rfl rfl) dX0_keeps_1 ?_
  show gW Γ E (xM E S D R) 0 0 _ _ (.ref (P.2.1 5) :: _)
  refine x_callV (As := []) (rest := []) (c := 10) hE hΓ (x_J2_size hE hX S D R (P.2.1 5) 14 (pL_k hp 5 rfl (n := 14) rfl) (by decide) ) (pL_k hp 5 rfl (n := 14) rfl) ⟨by decide, rfl⟩ rfl rfl q845 q662 q663 q127 q664 ndJ2_size rfl (by decide) (by decide) (Nat.zero_le _) (Nat.zero_le _) rfl (Nat.le_of_ble_eq_true rfl) dX0_keeps_4 rfl (fun v1 S1 τ1 ρ1 h1 => ?_)
  obtain ⟨rfl, S1e, τ1e, ρ1e⟩ := h1
  have S1e := S1e.symm; subst S1e
  have τ1e := τ1e.symm; subst τ1e
  have ρ1e := ρ1e.symm; subst ρ1e
  refine g_topi (hbs) ?_
  show gW Γ E (xM E S D R) _ _ _ _ (.int (iI (σ 4 0)) :: _)
  refine g_bipush hΓ (by decide) dX0_keeps_7 ?_
  refine g_icmp_ne (tgt := 26) hΓ (by omega) (by omega) dX0_keeps_9 (by decide) (fun c2 => ?_) (fun c2 => ?_)
  · refine g_aload_n hΓ rfl dX0_keeps_26 ?_
    refine x_geta (r := some (P.2.1 6)) (c := 0) hE hΓ in_X0 rfl hp.1 ⟨by decide, rfl⟩ 6 (ji := 6) rfl (by decide) (by decide) rfl q252 rfl rfl (pL_r hp 6 rfl rfl) dX0_keeps_27 ?_
    show gW Γ E (xM E S D R) 0 0 _ _ (.ref (P.2.1 6) :: _)
    refine x_callV (As := []) (rest := []) (c := 10) hE hΓ (x_J2_isEmpty hE hX S D R (P.2.1 6) 15 (pL_k hp 6 rfl (n := 15) rfl) (by decide) (by omega) ) (pL_k hp 6 rfl (n := 15) rfl) ⟨by decide, rfl⟩ rfl rfl q1143 q1144 q1145 q127 q1146 ndJ2_isEmpty rfl (by decide) (by decide) (Nat.zero_le _) (Nat.zero_le _) rfl (Nat.le_of_ble_eq_true rfl) dX0_keeps_30 rfl (fun v3 S3 τ3 ρ3 h3 => ?_)
    obtain ⟨rfl, S3e, τ3e, ρ3e⟩ := h3
    have S3e := S3e.symm; subst S3e
    have τ3e := τ3e.symm; subst τ3e
    have ρ3e := ρ3e.symm; subst ρ3e
    show gW Γ E (xM E S D R) _ _ _ _ (.int (iI (if D (P.2.1 6) 2 = 0 then 1 else 0)) :: _)
    refine g_ifB_eq (tgt := 46) hΓ  dX0_keeps_33 (by decide) (fun c5 => ?_) (fun c5 => ?_)
    · refine g_aload_n hΓ rfl dX0_keeps_46 ?_
      refine x_geta (r := some (P.2.1 6)) (c := 0) hE hΓ in_X0 rfl hp.1 ⟨by decide, rfl⟩ 6 (ji := 6) rfl (by decide) (by decide) rfl q252 rfl rfl (pL_r hp 6 rfl rfl) dX0_keeps_47 ?_
      show gW Γ E (xM E S D R) 0 0 _ _ (.ref (P.2.1 6) :: _)
      refine g_aload_n hΓ rfl dX0_keeps_50 ?_
      refine x_geta (r := some (P.2.1 6)) (c := 0) hE hΓ in_X0 rfl hp.1 ⟨by decide, rfl⟩ 6 (ji := 6) rfl (by decide) (by decide) rfl q252 rfl rfl (pL_r hp 6 rfl rfl) dX0_keeps_51 ?_
      show gW Γ E (xM E S D R) 0 0 _ _ (.ref (P.2.1 6) :: _)
      refine x_callV (As := []) (rest := [.ref (P.2.1 6)]) (c := 10) hE hΓ (x_J2_size hE hX S D R (P.2.1 6) 15 (pL_k hp 6 rfl (n := 15) rfl) (by decide) ) (pL_k hp 6 rfl (n := 15) rfl) ⟨by decide, rfl⟩ rfl rfl q845 q662 q663 q127 q664 ndJ2_size rfl (by decide) (by decide) (Nat.zero_le _) (Nat.zero_le _) rfl (Nat.le_of_ble_eq_true rfl) dX0_keeps_54 rfl (fun v6 S6 τ6 ρ6 h6 => ?_)
      obtain ⟨rfl, S6e, τ6e, ρ6e⟩ := h6
      have S6e := S6e.symm; subst S6e
      have τ6e := τ6e.symm; subst τ6e
      have ρ6e := ρ6e.symm; subst ρ6e
      show gW Γ E (xM E S D R) _ _ _ _ (.int (iI (D (P.2.1 6) 2)) :: _)
      refine g_iconst hΓ dX0_keeps_57 ?_
      refine g_isub hΓ dX0_keeps_58 ?_
      refine x_callV (As := [.int (iI ((D (P.2.1 6) 2) - 1))]) (rest := []) (c := 10) hE hΓ (x_J2_remove hE hX S D R (P.2.1 6) 15 ((D (P.2.1 6) 2) - 1) (pL_k hp 6 rfl (n := 15) rfl) (by decide) (hx).1 (by omega) ) (pL_k hp 6 rfl (n := 15) rfl) ⟨by decide, rfl⟩ rfl rfl q1250 q1251 q1252 q127 q1253 ndJ2_remove rfl (by decide) (by decide) (Nat.zero_le _) (Nat.zero_le _) rfl (Nat.le_of_ble_eq_true rfl) dX0_keeps_59 rfl (fun v7 S7 τ7 ρ7 h7 => ?_)
      obtain ⟨rfl, h7, S7e⟩ := h7
      have S7e := S7e.symm; subst S7e
      have e3a : τ7 (P.2.1 3) = D (P.2.1 3) := cg_D h7.2.2.1 (lT_k (by omega)) k53 (by decide) (by decide)
      have hkp := kp_C hx (by omega) (by omega) h7
      have hru : rmU (σ 4 0) = σ 4 0 := by rw [rmU, if_neg (by omega)]
      have hx1 := hkp.1
      have hf1 := hkp.2
      obtain ⟨hg, hp, hki, hro, hnw, hbh, hsa, hpd⟩ := id hx1
      obtain ⟨N, NI, NM, NV, hN⟩ := (hx1).now
      have hAw := hg.2.2.2.2.2.2
      have hG : GS S τ7 ρ7 := hg.1
      obtain ⟨h1000, h1009, h1042, h1043, h1044, h1045, h1046, h1047, hms, hsi, hsm, hnm⟩ := id hro
      have eN := hN.2.2.2.2.2.2.2.2.2.2.2.2
      have kNV : (S NV).1 = 45 := by rw [hN.2.2.2.1.2]
      have nNV : (S NV).2.1 = 6 := by rw [hN.2.2.2.1.2]
      show gW Γ E (xM E S τ7 ρ7) _ _ _ _ (.ref (lE R (P.2.1 6) ((D (P.2.1 6) 2) - 1)) :: _)
      refine x_castS (c := 1) hE hΓ rfl q156 hf1.1 ⟨by decide, rfl⟩ rfl dX0_keeps_62 ?_
      refine g_astore_n hΓ dX0_keeps_65 rfl (Nat.le_of_ble_eq_true rfl) (lv' := [some (.ref (P.1)), some (.ref (lE R (P.2.1 6) ((D (P.2.1 6) 2) - 1)))]) rfl ?_
      refine g_aload_n hΓ rfl dX0_keeps_66 ?_
      refine x_geta (r := some (P.2.1 5)) (c := 0) hE hΓ in_X0 rfl hp.1 ⟨by decide, rfl⟩ 5 (ji := 5) rfl (by decide) (by decide) rfl q251 rfl rfl (pL_r hp 5 rfl rfl) dX0_keeps_67 ?_
      show gW Γ E (xM E S τ7 ρ7) 0 0 _ _ (.ref (P.2.1 5) :: _)
      refine g_aload_n hΓ rfl dX0_keeps_70 ?_
      refine g_aload_n hΓ rfl dX0_keeps_71 ?_
      refine x_geta (r := some N) (c := 0) hE hΓ in_X0 rfl hp.1 ⟨by decide, rfl⟩ 4 (ji := 4) rfl (by decide) (by decide) rfl q250 rfl rfl hN.1.1 dX0_keeps_72 ?_
      show gW Γ E (xM E S τ7 ρ7) 0 0 _ _ (.ref N :: _)
      refine x_callV (As := [.ref N]) (rest := [.ref (P.2.1 5)]) (c := 1) hE hΓ (x_X1_like hE hX S τ7 ρ7 (lE R (P.2.1 6) ((D (P.2.1 6) 2) - 1)) N (σ 0) hx1.1 hki hf1.1 (by have h9 := hnw.2; rw [← eN.1] at h9; rw [rk1_f (by decide)] at h9; exact h9) (by rw [rk1_f (by decide)] at hro; exact hro) (by rw [eN.1]; exact hf1.2.1) ) hf1.1 ⟨by decide, rfl⟩ rfl rfl q1268 q1269 q1270 q124 q1271 ndX1_like rfl (by decide) (by decide) (by omega) (by omega) rfl (Nat.le_of_ble_eq_true rfl) dX0_keeps_75 rfl (fun v9 S9 τ9 ρ9 h9 => ?_)
      obtain ⟨rfl, h9, S9f⟩ := h9
      have kd10 : (S9 (P.1)).1 = 1 := kup hp.1 (by decide) S9f
      have kd11 : (S9 N).1 = 2 := kup hN.1.2 (by decide) S9f
      have kd12 : (S9 NI).1 = 10 := kup hN.2.2.1.2 (by decide) S9f
      have kd13 : (S9 NM).1 = 11 := kup hN.2.1.2 (by decide) S9f
      have kd14 : (S9 NV).1 = 45 := kup kNV (by decide) S9f
      have ln14 : (S9 NV).2.1 = 6 := nup kNV (by decide) nNV S9f
      have kd15 : (S9 (P.2.1 5)).1 = 14 := kup (pL_k hp 5 rfl (n := 14) rfl) (by decide) S9f
      have kd16 : (S9 (P.2.1 6)).1 = 15 := kup (pL_k hp 6 rfl (n := 15) rfl) (by decide) S9f
      have kd17 : (S9 (lE R (P.2.1 6) ((D (P.2.1 6) 2) - 1))).1 = 2 := kup hf1.1 (by decide) S9f
      have k53b := pA_k hp 3 rfl (n := 53) rfl
      have e3b : τ9 (P.2.1 3) = D (P.2.1 3) := (cg_D h9.2.1 stT_k k53b (by decide) (by decide)).trans e3a
      have hkl := kp_L hx1 (by rw [rk1_4, hru]; exact hf1) h9.1 h9.2.1
      have hx2 := hkl.1
      have hf2 := hkl.2
      have hsr := h9.2.2
      obtain ⟨hg, hp, hki, hro, hnw, hbh, hsa, hpd⟩ := id hx2
      obtain ⟨N, NI, NM, NV, hN⟩ := (hx2).now
      have hAw := hg.2.2.2.2.2.2
      have hG : GS S9 τ9 ρ9 := hg.1
      obtain ⟨h1000, h1009, h1042, h1043, h1044, h1045, h1046, h1047, hms, hsi, hsm, hnm⟩ := id hro
      have eN := hN.2.2.2.2.2.2.2.2.2.2.2.2
      have kNV : (S9 NV).1 = 45 := by rw [hN.2.2.2.1.2]
      have nNV : (S9 NV).2.1 = 6 := by rw [hN.2.2.2.1.2]
      have hb3 := hbh.1
      rw [rk1_4, hru] at hb3
      show gW Γ E (xM E S9 τ9 ρ9) _ _ _ _ (.ref (lE R (P.2.1 6) ((D (P.2.1 6) 2) - 1)) :: _)
      have hz19 : τ9 (P.2.1 5) 2 = σ 4 0 := hb3
      refine x_callV (As := [.ref (lE R (P.2.1 6) ((D (P.2.1 6) 2) - 1))]) (rest := []) (c := 10) hE hΓ (x_J2_add hE hX S9 τ9 ρ9 (P.2.1 5) (lE R (P.2.1 6) ((D (P.2.1 6) 2) - 1)) 14 2 kd15 (by decide) (hx2).1 hf2.1 rfl (by omega) ) kd15 ⟨by decide, rfl⟩ rfl rfl q1138 q703 q704 q127 q705 ndJ2_add rfl (by decide) (by decide) (by omega) (by omega) rfl (Nat.le_of_ble_eq_true rfl) dX0_keeps_78 rfl (fun v18 S18 τ18 ρ18 h18 => ?_)
      obtain ⟨rfl, h18, S18f⟩ := h18
      have kd20 : (S18 (P.1)).1 = 1 := kup hp.1 (by decide) S18f
      have kd21 : (S18 N).1 = 2 := kup hN.1.2 (by decide) S18f
      have kd22 : (S18 NI).1 = 10 := kup hN.2.2.1.2 (by decide) S18f
      have kd23 : (S18 NM).1 = 11 := kup hN.2.1.2 (by decide) S18f
      have kd24 : (S18 NV).1 = 45 := kup kNV (by decide) S18f
      have ln24 : (S18 NV).2.1 = 6 := nup kNV (by decide) nNV S18f
      have kd25 : (S18 (P.2.1 5)).1 = 14 := kup kd15 (by decide) S18f
      have kd26 : (S18 (P.2.1 6)).1 = 15 := kup kd16 (by decide) S18f
      have kd27 : (S18 (lE R (P.2.1 6) ((D (P.2.1 6) 2) - 1))).1 = 2 := kup hf2.1 (by decide) S18f
      have k53c := pA_k hp 3 rfl (n := 53) rfl
      have k5c := pL_k hp 5 rfl (n := 14) rfl
      have e3c : τ18 (P.2.1 3) = D (P.2.1 3) := (cg_D h18.2.2.1 (lT_k (by omega)) k53c (by decide) (by decide)).trans e3b
      have hfin := kp_K hx2 (by rw [hru]; rw [rk1_4, hru] at hf2; exact hf2) hro0 hsr h18
      show gW Γ E (xM E S18 τ18 ρ18) _ _ _ _ (.int (iI 1) :: _)
      refine g_pop hΓ rfl dX0_keeps_81 ?_
      exact x_vret hΓ dX0_keeps_82 (by omega) (by omega) ⟨rfl, ⟨hfin, e3c⟩, (sle_t S9f S18f)⟩
    · refine x_new (c := 1) hE hΓ (xn_new hX) 2 0 in_X1 rfl ⟨by decide, rfl⟩ tyX1 tyX1_ok rfl q156 q157 q124 fs0_1 (by omega) (by omega) dX0_keeps_36 (fun q28 S28 δ28 ρ28 q28z q28w S28e δ28e ρ28e => ?_)
      have S28f : ∀ q9 : Nat, (S q9).1 ≠ 0 → S28 q9 = S q9 := fun q9 h9 => by rw [S28e]; exact uS_n (fun e9 => h9 (by rw [e9]; exact q28z))
      have S28q : S28 q28 = (2, 3, 0) := by rw [S28e]; exact uS_s _ _ _ _ _
      have δ28z : ∀ j9 : Int, δ28 q28 j9 = 0 := fun j9 => by rw [δ28e, uN_s]
      have δ28f : ∀ (q9 : Nat) (j9 : Int), q9 ≠ q28 → δ28 q9 j9 = D q9 j9 := fun q9 j9 h9 => by rw [δ28e, uN_n h9]
      have ρ28z : ∀ j9 : Int, ρ28 q28 j9 = none := fun j9 => by rw [ρ28e, uN_s]
      have ρ28f : ∀ (q9 : Nat) (j9 : Int), q9 ≠ q28 → ρ28 q9 j9 = R q9 j9 := fun q9 j9 h9 => by rw [ρ28e, uN_n h9]
      have kd29 : (S28 (P.1)).1 = 1 := kup hp.1 (by decide) S28f
      have kd30 : (S28 N).1 = 2 := kup hN.1.2 (by decide) S28f
      have kd31 : (S28 NI).1 = 10 := kup hN.2.2.1.2 (by decide) S28f
      have kd32 : (S28 NM).1 = 11 := kup hN.2.1.2 (by decide) S28f
      have kd33 : (S28 NV).1 = 45 := kup kNV (by decide) S28f
      have ln33 : (S28 NV).2.1 = 6 := nup kNV (by decide) nNV S28f
      have kd34 : (S28 (P.2.1 5)).1 = 14 := kup (pL_k hp 5 rfl (n := 14) rfl) (by decide) S28f
      have kd35 : (S28 (P.2.1 6)).1 = 15 := kup (pL_k hp 6 rfl (n := 15) rfl) (by decide) S28f
      have kdq28 : (S28 q28).1 = 2 := by rw [S28q]
      have lnq28 : (S28 q28).2.1 = 3 := by rw [S28q]
      refine g_dup hΓ rfl dX0_keeps_39 ?_
      have hdn := del_new hg q28z S28e δ28e ρ28e
      refine x_callIN (As := []) (rest := [.ref q28]) hΓ (x_X1_init hE hX S28 δ28 ρ28 q28 0 S28q q28w hdn.1 (KI_ext hdn.2 hki) δ28z ρ28z ) rfl (xn_158 hX) q159 q124 q160 ndX1_init rfl rfl (by decide) (by decide) (by omega) (by omega) rfl (Nat.le_of_ble_eq_true rfl) dX0_keeps_40 rfl (fun v36 S36 τ36 ρ36 h36 => ?_)
      obtain ⟨rfl, h36, S36f⟩ := h36
      have kd37 : (S36 (P.1)).1 = 1 := kup kd29 (by decide) S36f
      have kd38 : (S36 N).1 = 2 := kup kd30 (by decide) S36f
      have kd39 : (S36 NI).1 = 10 := kup kd31 (by decide) S36f
      have kd40 : (S36 NM).1 = 11 := kup kd32 (by decide) S36f
      have kd41 : (S36 NV).1 = 45 := kup kd33 (by decide) S36f
      have ln41 : (S36 NV).2.1 = 6 := nup kd33 (by decide) ln33 S36f
      have kd42 : (S36 (P.2.1 5)).1 = 14 := kup kd34 (by decide) S36f
      have kd43 : (S36 (P.2.1 6)).1 = 15 := kup kd35 (by decide) S36f
      have kd44 : (S36 q28).1 = 2 := kup kdq28 (by decide) S36f
      have ln44 : (S36 q28).2.1 = 3 := nup kdq28 (by decide) lnq28 S36f
      have e3a : τ36 (P.2.1 3) = D (P.2.1 3) := (ext_t hdn.2 h36.2.1).2.1 _ (by rw [k53]; decide)
      have hkp := kp_B hx (by omega) (by omega) q28z (ext_t hdn.2 h36.2.1) h36.1 h36.2.2.1
      have hru : rmU (σ 4 0) = σ 4 0 := by rw [rmU, if_neg (by omega)]
      have hx1 := hkp.1
      have hf1 := hkp.2
      obtain ⟨hg, hp, hki, hro, hnw, hbh, hsa, hpd⟩ := id hx1
      obtain ⟨N, NI, NM, NV, hN⟩ := (hx1).now
      have hAw := hg.2.2.2.2.2.2
      have hG : GS S36 τ36 ρ36 := hg.1
      obtain ⟨h1000, h1009, h1042, h1043, h1044, h1045, h1046, h1047, hms, hsi, hsm, hnm⟩ := id hro
      have eN := hN.2.2.2.2.2.2.2.2.2.2.2.2
      have kNV : (S36 NV).1 = 45 := by rw [hN.2.2.2.1.2]
      have nNV : (S36 NV).2.1 = 6 := by rw [hN.2.2.2.1.2]
      refine g_goto (tgt := 65) hΓ dX0_keeps_43 (by decide) ?_
      refine g_astore_n hΓ dX0_keeps_65 rfl (Nat.le_of_ble_eq_true rfl) (lv' := [some (.ref (P.1)), some (.ref q28)]) rfl ?_
      refine g_aload_n hΓ rfl dX0_keeps_66 ?_
      refine x_geta (r := some (P.2.1 5)) (c := 0) hE hΓ in_X0 rfl hp.1 ⟨by decide, rfl⟩ 5 (ji := 5) rfl (by decide) (by decide) rfl q251 rfl rfl (pL_r hp 5 rfl rfl) dX0_keeps_67 ?_
      show gW Γ E (xM E S36 τ36 ρ36) (0 + 1 + 3) (0 + 3 + 12) _ _ (.ref (P.2.1 5) :: _)
      refine g_aload_n hΓ rfl dX0_keeps_70 ?_
      refine g_aload_n hΓ rfl dX0_keeps_71 ?_
      refine x_geta (r := some N) (c := 0) hE hΓ in_X0 rfl hp.1 ⟨by decide, rfl⟩ 4 (ji := 4) rfl (by decide) (by decide) rfl q250 rfl rfl hN.1.1 dX0_keeps_72 ?_
      show gW Γ E (xM E S36 τ36 ρ36) (0 + 1 + 3) (0 + 3 + 12) _ _ (.ref N :: _)
      refine x_callV (As := [.ref N]) (rest := [.ref (P.2.1 5)]) (c := 1) hE hΓ (x_X1_like hE hX S36 τ36 ρ36 q28 N (σ 0) hx1.1 hki hf1.1 (by have h9 := hnw.2; rw [← eN.1] at h9; rw [rk1_f (by decide)] at h9; exact h9) (by rw [rk1_f (by decide)] at hro; exact hro) (by rw [eN.1]; exact hf1.2.1) ) hf1.1 ⟨by decide, rfl⟩ rfl rfl q1268 q1269 q1270 q124 q1271 ndX1_like rfl (by decide) (by decide) (by omega) (by omega) rfl (Nat.le_of_ble_eq_true rfl) dX0_keeps_75 rfl (fun v45 S45 τ45 ρ45 h45 => ?_)
      obtain ⟨rfl, h45, S45f⟩ := h45
      have kd46 : (S45 (P.1)).1 = 1 := kup hp.1 (by decide) S45f
      have kd47 : (S45 N).1 = 2 := kup hN.1.2 (by decide) S45f
      have kd48 : (S45 NI).1 = 10 := kup hN.2.2.1.2 (by decide) S45f
      have kd49 : (S45 NM).1 = 11 := kup hN.2.1.2 (by decide) S45f
      have kd50 : (S45 NV).1 = 45 := kup kNV (by decide) S45f
      have ln50 : (S45 NV).2.1 = 6 := nup kNV (by decide) nNV S45f
      have kd51 : (S45 (P.2.1 5)).1 = 14 := kup kd42 (by decide) S45f
      have kd52 : (S45 (P.2.1 6)).1 = 15 := kup kd43 (by decide) S45f
      have kd53 : (S45 q28).1 = 2 := kup hf1.1 (by decide) S45f
      have k53b := pA_k hp 3 rfl (n := 53) rfl
      have e3b : τ45 (P.2.1 3) = D (P.2.1 3) := (cg_D h45.2.1 stT_k k53b (by decide) (by decide)).trans e3a
      have hkl := kp_L hx1 (by rw [rk1_4, hru]; exact hf1) h45.1 h45.2.1
      have hx2 := hkl.1
      have hf2 := hkl.2
      have hsr := h45.2.2
      obtain ⟨hg, hp, hki, hro, hnw, hbh, hsa, hpd⟩ := id hx2
      obtain ⟨N, NI, NM, NV, hN⟩ := (hx2).now
      have hAw := hg.2.2.2.2.2.2
      have hG : GS S45 τ45 ρ45 := hg.1
      obtain ⟨h1000, h1009, h1042, h1043, h1044, h1045, h1046, h1047, hms, hsi, hsm, hnm⟩ := id hro
      have eN := hN.2.2.2.2.2.2.2.2.2.2.2.2
      have kNV : (S45 NV).1 = 45 := by rw [hN.2.2.2.1.2]
      have nNV : (S45 NV).2.1 = 6 := by rw [hN.2.2.2.1.2]
      have hb3 := hbh.1
      rw [rk1_4, hru] at hb3
      show gW Γ E (xM E S45 τ45 ρ45) _ _ _ _ (.ref q28 :: _)
      have hz55 : τ45 (P.2.1 5) 2 = σ 4 0 := hb3
      refine x_callV (As := [.ref q28]) (rest := []) (c := 10) hE hΓ (x_J2_add hE hX S45 τ45 ρ45 (P.2.1 5) q28 14 2 kd51 (by decide) (hx2).1 hf2.1 rfl (by omega) ) kd51 ⟨by decide, rfl⟩ rfl rfl q1138 q703 q704 q127 q705 ndJ2_add rfl (by decide) (by decide) (by omega) (by omega) rfl (Nat.le_of_ble_eq_true rfl) dX0_keeps_78 rfl (fun v54 S54 τ54 ρ54 h54 => ?_)
      obtain ⟨rfl, h54, S54f⟩ := h54
      have kd56 : (S54 (P.1)).1 = 1 := kup hp.1 (by decide) S54f
      have kd57 : (S54 N).1 = 2 := kup hN.1.2 (by decide) S54f
      have kd58 : (S54 NI).1 = 10 := kup hN.2.2.1.2 (by decide) S54f
      have kd59 : (S54 NM).1 = 11 := kup hN.2.1.2 (by decide) S54f
      have kd60 : (S54 NV).1 = 45 := kup kNV (by decide) S54f
      have ln60 : (S54 NV).2.1 = 6 := nup kNV (by decide) nNV S54f
      have kd61 : (S54 (P.2.1 5)).1 = 14 := kup kd51 (by decide) S54f
      have kd62 : (S54 (P.2.1 6)).1 = 15 := kup kd52 (by decide) S54f
      have kd63 : (S54 q28).1 = 2 := kup hf2.1 (by decide) S54f
      have k53c := pA_k hp 3 rfl (n := 53) rfl
      have k5c := pL_k hp 5 rfl (n := 14) rfl
      have e3c : τ54 (P.2.1 3) = D (P.2.1 3) := (cg_D h54.2.2.1 (lT_k (by omega)) k53c (by decide) (by decide)).trans e3b
      have hfin := kp_K hx2 (by rw [hru]; rw [rk1_4, hru] at hf2; exact hf2) hro0 hsr h54
      show gW Γ E (xM E S54 τ54 ρ54) _ _ _ _ (.int (iI 1) :: _)
      refine g_pop hΓ rfl dX0_keeps_81 ?_
      exact x_vret hΓ dX0_keeps_82 (by omega) (by omega) ⟨rfl, ⟨hfin, e3c⟩, (sle_t (sle_t (sle_t S28f S36f) S45f) S54f)⟩
  · refine g_aload_n hΓ rfl dX0_keeps_12 ?_
    refine x_geta (r := some (P.2.1 5)) (c := 0) hE hΓ in_X0 rfl hp.1 ⟨by decide, rfl⟩ 5 (ji := 5) rfl (by decide) (by decide) rfl q251 rfl rfl (pL_r hp 5 rfl rfl) dX0_keeps_13 ?_
    show gW Γ E (xM E S D R) 0 0 _ _ (.ref (P.2.1 5) :: _)
    refine g_iconst hΓ dX0_keeps_16 ?_
    have hz65 : D (P.2.1 5) 2 = σ 4 0 := hbs
    refine x_callV (As := [.int (iI 0)]) (rest := []) (c := 10) hE hΓ (x_J2_remove hE hX S D R (P.2.1 5) 14 0 (pL_k hp 5 rfl (n := 14) rfl) (by decide) (hx).1 (by omega) ) (pL_k hp 5 rfl (n := 14) rfl) ⟨by decide, rfl⟩ rfl rfl q1250 q1251 q1252 q127 q1253 ndJ2_remove rfl (by decide) (by decide) (Nat.zero_le _) (Nat.zero_le _) rfl (Nat.le_of_ble_eq_true rfl) dX0_keeps_17 rfl (fun v64 S64 τ64 ρ64 h64 => ?_)
    obtain ⟨rfl, h64, S64e⟩ := h64
    have S64e := S64e.symm; subst S64e
    have e3a : τ64 (P.2.1 3) = D (P.2.1 3) := cg_D h64.2.2.1 (lT_k (by omega)) k53 (by decide) (by decide)
    have hkp := kp_A hx (by omega) h64
    have hru : rmU (σ 4 0) = 19 := by rw [rmU, if_pos (by omega)]
    have hx1 := hkp.1
    have hf1 := hkp.2
    obtain ⟨hg, hp, hki, hro, hnw, hbh, hsa, hpd⟩ := id hx1
    obtain ⟨N, NI, NM, NV, hN⟩ := (hx1).now
    have hAw := hg.2.2.2.2.2.2
    have hG : GS S τ64 ρ64 := hg.1
    obtain ⟨h1000, h1009, h1042, h1043, h1044, h1045, h1046, h1047, hms, hsi, hsm, hnm⟩ := id hro
    have eN := hN.2.2.2.2.2.2.2.2.2.2.2.2
    have kNV : (S NV).1 = 45 := by rw [hN.2.2.2.1.2]
    have nNV : (S NV).2.1 = 6 := by rw [hN.2.2.2.1.2]
    show gW Γ E (xM E S τ64 ρ64) _ _ _ _ (.ref (lE R (P.2.1 5) 0) :: _)
    refine x_castS (c := 1) hE hΓ rfl q156 hf1.1 ⟨by decide, rfl⟩ rfl dX0_keeps_20 ?_
    refine g_goto (tgt := 65) hΓ dX0_keeps_23 (by decide) ?_
    refine g_astore_n hΓ dX0_keeps_65 rfl (Nat.le_of_ble_eq_true rfl) (lv' := [some (.ref (P.1)), some (.ref (lE R (P.2.1 5) 0))]) rfl ?_
    refine g_aload_n hΓ rfl dX0_keeps_66 ?_
    refine x_geta (r := some (P.2.1 5)) (c := 0) hE hΓ in_X0 rfl hp.1 ⟨by decide, rfl⟩ 5 (ji := 5) rfl (by decide) (by decide) rfl q251 rfl rfl (pL_r hp 5 rfl rfl) dX0_keeps_67 ?_
    show gW Γ E (xM E S τ64 ρ64) 0 0 _ _ (.ref (P.2.1 5) :: _)
    refine g_aload_n hΓ rfl dX0_keeps_70 ?_
    refine g_aload_n hΓ rfl dX0_keeps_71 ?_
    refine x_geta (r := some N) (c := 0) hE hΓ in_X0 rfl hp.1 ⟨by decide, rfl⟩ 4 (ji := 4) rfl (by decide) (by decide) rfl q250 rfl rfl hN.1.1 dX0_keeps_72 ?_
    show gW Γ E (xM E S τ64 ρ64) 0 0 _ _ (.ref N :: _)
    refine x_callV (As := [.ref N]) (rest := [.ref (P.2.1 5)]) (c := 1) hE hΓ (x_X1_like hE hX S τ64 ρ64 (lE R (P.2.1 5) 0) N (σ 0) hx1.1 hki hf1.1 (by have h9 := hnw.2; rw [← eN.1] at h9; rw [rk1_f (by decide)] at h9; exact h9) (by rw [rk1_f (by decide)] at hro; exact hro) (by rw [eN.1]; exact hf1.2.1) ) hf1.1 ⟨by decide, rfl⟩ rfl rfl q1268 q1269 q1270 q124 q1271 ndX1_like rfl (by decide) (by decide) (by omega) (by omega) rfl (Nat.le_of_ble_eq_true rfl) dX0_keeps_75 rfl (fun v66 S66 τ66 ρ66 h66 => ?_)
    obtain ⟨rfl, h66, S66f⟩ := h66
    have kd67 : (S66 (P.1)).1 = 1 := kup hp.1 (by decide) S66f
    have kd68 : (S66 N).1 = 2 := kup hN.1.2 (by decide) S66f
    have kd69 : (S66 NI).1 = 10 := kup hN.2.2.1.2 (by decide) S66f
    have kd70 : (S66 NM).1 = 11 := kup hN.2.1.2 (by decide) S66f
    have kd71 : (S66 NV).1 = 45 := kup kNV (by decide) S66f
    have ln71 : (S66 NV).2.1 = 6 := nup kNV (by decide) nNV S66f
    have kd72 : (S66 (P.2.1 5)).1 = 14 := kup (pL_k hp 5 rfl (n := 14) rfl) (by decide) S66f
    have kd73 : (S66 (lE R (P.2.1 5) 0)).1 = 2 := kup hf1.1 (by decide) S66f
    have k53b := pA_k hp 3 rfl (n := 53) rfl
    have e3b : τ66 (P.2.1 3) = D (P.2.1 3) := (cg_D h66.2.1 stT_k k53b (by decide) (by decide)).trans e3a
    have hkl := kp_L hx1 (by rw [rk1_4, hru]; exact hf1) h66.1 h66.2.1
    have hx2 := hkl.1
    have hf2 := hkl.2
    have hsr := h66.2.2
    obtain ⟨hg, hp, hki, hro, hnw, hbh, hsa, hpd⟩ := id hx2
    obtain ⟨N, NI, NM, NV, hN⟩ := (hx2).now
    have hAw := hg.2.2.2.2.2.2
    have hG : GS S66 τ66 ρ66 := hg.1
    obtain ⟨h1000, h1009, h1042, h1043, h1044, h1045, h1046, h1047, hms, hsi, hsm, hnm⟩ := id hro
    have eN := hN.2.2.2.2.2.2.2.2.2.2.2.2
    have kNV : (S66 NV).1 = 45 := by rw [hN.2.2.2.1.2]
    have nNV : (S66 NV).2.1 = 6 := by rw [hN.2.2.2.1.2]
    have hb3 := hbh.1
    rw [rk1_4, hru] at hb3
    show gW Γ E (xM E S66 τ66 ρ66) _ _ _ _ (.ref (lE R (P.2.1 5) 0) :: _)
    have hz75 : τ66 (P.2.1 5) 2 = 19 := hb3
    refine x_callV (As := [.ref (lE R (P.2.1 5) 0)]) (rest := []) (c := 10) hE hΓ (x_J2_add hE hX S66 τ66 ρ66 (P.2.1 5) (lE R (P.2.1 5) 0) 14 2 kd72 (by decide) (hx2).1 hf2.1 rfl (by omega) ) kd72 ⟨by decide, rfl⟩ rfl rfl q1138 q703 q704 q127 q705 ndJ2_add rfl (by decide) (by decide) (by omega) (by omega) rfl (Nat.le_of_ble_eq_true rfl) dX0_keeps_78 rfl (fun v74 S74 τ74 ρ74 h74 => ?_)
    obtain ⟨rfl, h74, S74f⟩ := h74
    have kd76 : (S74 (P.1)).1 = 1 := kup hp.1 (by decide) S74f
    have kd77 : (S74 N).1 = 2 := kup hN.1.2 (by decide) S74f
    have kd78 : (S74 NI).1 = 10 := kup hN.2.2.1.2 (by decide) S74f
    have kd79 : (S74 NM).1 = 11 := kup hN.2.1.2 (by decide) S74f
    have kd80 : (S74 NV).1 = 45 := kup kNV (by decide) S74f
    have ln80 : (S74 NV).2.1 = 6 := nup kNV (by decide) nNV S74f
    have kd81 : (S74 (P.2.1 5)).1 = 14 := kup kd72 (by decide) S74f
    have kd82 : (S74 (lE R (P.2.1 5) 0)).1 = 2 := kup hf2.1 (by decide) S74f
    have k53c := pA_k hp 3 rfl (n := 53) rfl
    have k5c := pL_k hp 5 rfl (n := 14) rfl
    have e3c : τ74 (P.2.1 3) = D (P.2.1 3) := (cg_D h74.2.2.1 (lT_k (by omega)) k53c (by decide) (by decide)).trans e3b
    have hfin := kp_K hx2 (by rw [hru]; rw [rk1_4, hru] at hf2; exact hf2) hro0 hsr h74
    show gW Γ E (xM E S74 τ74 ρ74) _ _ _ _ (.int (iI 1) :: _)
    refine g_pop hΓ rfl dX0_keeps_81 ?_
    exact x_vret hΓ dX0_keeps_82 (by omega) (by omega) ⟨rfl, ⟨hfin, e3c⟩, (sle_t S66f S74f)⟩
