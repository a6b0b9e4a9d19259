/-! THE COMPONENT: turn, undo, back, keep -/
set_option maxRecDepth 100000
theorem dTurn_far (F : Int → Int) {j : Int} (hj : 58 ≤ j) : dTurn F j = F j := by
  unfold dTurn
  rw [uI_n _ _ (by omega), uI_n _ _ (by omega), uI_n _ _ (by omega), uI_n _ _ (by omega)]
  unfold dT2 dT1
  rw [if_neg (by omega), if_neg (by omega), if_neg (by omega), if_neg (by omega), if_neg (by omega)]
/-- turn, as the component does it -/
def cTurn (S : MS) : MS := ud (kpS S) 0 (dTurn (kpS S 0))
theorem rep_dn {dA : Nat → ClassId} {x sz sz' : Nat} {S S' : MS} {P : PS} {h h' : gH} (hr : rep dA x S P h sz) (en : ∀ a : Nat, a ≠ 0 → a ≠ 10 → S' a = S a) (h0 : ∀ j : Int, 58 ≤ j → S' 0 j = S 0 j) (hb : 0 ≤ S' 10 2 ∧ S' 10 2 ≤ S 10 2) (hz : sz ≤ sz') (he : ∀ q : Nat, q < sz → h' q = h q) : rep dA x S' P h' sz' := by
  obtain ⟨⟨r1, r1x⟩, r2, r3⟩ := hr
  have hl : ∀ i : Int, (live S' i → live S i) ∧ (8 ≤ i → live S i → live S' i) := by
    intro i
    unfold live
    rw [en 2 (by omega) (by omega), en 4 (by omega) (by omega)]
    by_cases g1 : i < 8
    · rw [if_pos g1, if_pos g1]; omega
    · rw [if_neg g1, if_neg g1]; exact ⟨fun z => z, fun _ z => z⟩
  refine ⟨⟨by omega, by omega⟩, fun i a b => ⟨fun z w => (r2 i a b).1 z ((hl i).1 w), fun p hp => ?_⟩, r3⟩
  obtain ⟨t1, t2, t3, t4⟩ := (r2 i a b).2 p hp
  refine ⟨fun z => (hl i).2 z (t1 z), t2, by omega, slotOk_fr t4 (fun q q1 q2 => he q (by omega)) (fun z w => ⟨(hl i).1 w, fun j j0 j1 => h0 _ (by omega)⟩) (fun z => ⟨by rw [en 4 (by omega) (by omega)], fun j j0 j1 => by rw [en 5 (by omega) (by omega)]⟩)⟩
/-- a live draft in a slot -/
theorem rep_get {dA : Nat → ClassId} {x sz : Nat} {S : MS} {P : PS} {h : gH} (hr : rep dA x S P h sz) {i : Int} (hi : 0 ≤ i ∧ i < 10) (hl : live S i) : ∃ (p : Nat) (F : Int → Int), rfS P i = some p ∧ isD dA x p F h ∧ x + 73 ≤ p ∧ p + 28 ≤ sz ∧ ∀ j : Int, 0 ≤ j → j < 58 → F j = bkF S i j := by
  cases hp : rfS P i with
  | none => exact absurd hl ((hr.2.1 i hi.1 (by omega)).1 hp)
  | some p =>
    obtain ⟨t1, t2, t3, t4⟩ := (hr.2.1 i hi.1 (by omega)).2 p hp
    unfold slotOk at t4
    rw [if_pos hi.2] at t4
    obtain ⟨F, f1, f2⟩ := t4
    unfold lnS at t3
    rw [if_pos hi.2] at t3
    exact ⟨p, F, rfl, f1, t2, t3, f2 hl⟩
theorem set_cp {S : MS} {F : Int → Int} {a : Int} (hF : ∀ j : Int, 0 ≤ j → j < 58 → F j = S 0 (a + j)) : ud S 0 (dSet (S 0) F) = cpR S a 0 := by
  funext b j
  unfold ud dSet cpR cpK
  by_cases h : b = 0
  · subst h
    rw [if_pos rfl]
    by_cases hj : 0 ≤ j ∧ j < 58
    · rw [if_pos hj, if_pos (by omega), hF j hj.1 hj.2]
      congr 1
      omega
    · rw [if_neg hj, if_neg (by omega)]
  · rw [if_neg h, if_neg (by omega)]
theorem rep_keep {dA : Nat → ClassId} {x sz : Nat} {S : MS} {P : PS} {h : gH} {F : Int → Int} {k : Int} (hr : rep dA x S P h sz) (hk : 0 ≤ k ∧ k < 2) (hF : ∀ j : Int, 0 ≤ j → j < 58 → F j = S 0 j) : rep dA x (us (cpR S 0 (522 + 58 * k)) 2 k 1) (up P 0 k (some sz)) (ovD dA x sz F h) (sz + 28) := by
  have h1 := hr.1
  have e10 : us (cpR S 0 (522 + 58 * k)) 2 k 1 10 = S 10 := by rw [us_n _ _ _ (by omega), cpR_n (by omega)]
  have e0 : us (cpR S 0 (522 + 58 * k)) 2 k 1 0 = cpR S 0 (522 + 58 * k) 0 := us_n _ _ _ (by omega)
  have e4 : us (cpR S 0 (522 + 58 * k)) 2 k 1 4 = S 4 := by rw [us_n _ _ _ (by omega), cpR_n (by omega)]
  have e5 : us (cpR S 0 (522 + 58 * k)) 2 k 1 5 = S 5 := by rw [us_n _ _ _ (by omega), cpR_n (by omega)]
  have e2 : us (cpR S 0 (522 + 58 * k)) 2 k 1 2 = uI (S 2) k 1 := by rw [us_s, cpR_n (by omega)]
  refine rep_step hr (by rw [e10]; exact h1.1) (by omega) (8 + k) (by omega) sz (fun i a b c => ?_) ?_ (Or.inr (Nat.le_refl _)) ⟨h1.2, by unfold lnS; rw [if_pos (by omega)]; omega⟩ (fun q q1 _ => ovD_off _ _ _ _ _ (Or.inl q1)) (fun _ => ?_) ?_ (fun i a b c => ⟨?_, fun g w j j0 j1 => ?_, fun _ => ⟨by rw [e4], fun j _ _ => by rw [e5]⟩⟩)
  · unfold rfS
    by_cases g1 : i < 8
    · rw [if_pos g1, if_pos g1, up_n _ _ _ (by omega)]
    rw [if_neg g1, if_neg g1]
    by_cases g2 : i < 10
    · rw [if_pos g2, if_pos g2, up_s, uI_n _ _ (by omega)]
    · rw [if_neg g2, if_neg g2, up_n _ _ _ (by omega)]
  · unfold rfS
    rw [if_neg (by omega), if_pos (by omega), up_s, show 8 + k - 8 = k by omega, uI_s]
  · unfold live
    rw [if_neg (by omega), if_pos (by omega), e2, show 8 + k - 8 = k by omega, uI_s]
  · unfold slotOk
    rw [if_pos (by omega)]
    refine ⟨F, isD_ov _ _ _ _ _, fun _ j j0 j1 => ?_⟩
    unfold bkF
    rw [e0, cpR_in (by omega), hF j j0 j1]
    congr 1
    omega
  · unfold live
    by_cases g1 : i < 8
    · rw [if_pos g1, if_pos g1, e10]
    rw [if_neg g1, if_neg g1, e4]
    by_cases g2 : i < 10
    · rw [if_pos g2, if_pos g2, e2, uI_n _ _ (by omega)]
    · rw [if_neg g2, if_neg g2]
  · unfold bkF
    rw [e0, cpR_out (by omega)]

theorem nd_X0_turn : yX0_turn.cls ≠ "java/lang/invoke/MethodHandle" ∧ yX0_turn.cls ≠ "java/lang/invoke/VarHandle" ∧ (parseMethodDescriptor yX0_turn.desc).map (fun d => d.parameters.length) = some 0 := by decide +kernel
theorem mX0_turn {l : Launch} {D : va_G} {dA : Nat → ClassId} {N0 : Nat} {Y : State → Prop} (hY : gYc N0 Y) {h : gH} {sz x : Nat} {S : MS} {P : PS} (hO : OkD (S 0)) (hr0 : rep dA x S P h sz)  : gM l D dA N0 Y yX0_turn cX0_turn 1 (some .int) 5 107 29 140 [.ref x] (ovX dA x S P h) sz (gPR (some (vI (turnV S))) dA x (cTurn S) h sz) := by
  refine gM.of hY.ok (by decide +kernel) (Nat.le_of_ble_eq_true rfl) ?_
  intro X hX C hQ
  subst hX
  have C : gC X cX0_turn RX0 "turn" 1 (some .int) D dA N0 Y ({ frames := 5, cells := 29, slots := 140, locals := 107 }) := C
  show G X 0 0 _ _ 0 [some (.ref x)] []
  have hn := hO.1
  have hbm := hr0.1.1
  have hkn := fun j (hj : j < 58) => kpS_now (S := S) (j := j) hbm.1 hj
  have hOk := OkD_kp hO hbm.1
  refine g_aload_n C dX0_turn_0 (gr _) rfl ?_
  refine g_callV C (mX0_note hY (hr0)) (lw_V q824 q826 qs14 q67 q827) ⟨rfl, nd_X0_note⟩ (ovX_0 _ _ _ _ _) rfl ⟨by decide, by decide⟩ ⟨Nat.le_of_ble_eq_true rfl, Nat.le_of_ble_eq_true rfl⟩ rfl (Nat.le_of_ble_eq_true rfl) dX0_turn_1 (fun v1 h1 z1 hp1 => ?_)
  obtain ⟨hv1, P1, g1, hh1, hrep1, hzz1, hfr1⟩ := hp1
  obtain ⟨hfr1, hfr2⟩ := hfr1
  subst hv1; subst hh1
  simp only [Option.toList, List.nil_append, List.cons_append]
  refine g_aload_n C dX0_turn_4 (gr _) rfl ?_
  refine X_g_now C q218 dX0_turn_5 ?_
  have hz1 := hrep1.1.2
  refine g_hE (ovX_now dA x (kpS S) P1 g1) ?_
  refine g_callV0 C (mX1_turn hY (hOk)) (lw_V q923 q924 q925 q68 q926) ⟨rfl, nd_X1_turn⟩ (isD_0 (isD_ov _ _ _ _ _)) rfl ⟨by decide, by decide⟩ ⟨Nat.le_of_ble_eq_true rfl, Nat.le_of_ble_eq_true rfl⟩ rfl (Nat.le_of_ble_eq_true rfl) dX0_turn_8 ?_
  refine g_hE (show _ = ovX dA x (cTurn S) P1 (gup g1 z1 (gI (dA 0) 6 (tiF (kpS S 0)))) from ?_) ?_
  · rw [ovX_gup _ _ _ _ _ _ (by omega), ovX_dn]; rfl
  refine g_aload_n C dX0_turn_11 (gr _) rfl ?_
  refine X_g_now C q218 dX0_turn_12 ?_
  refine D_g_ends C (isX_now _ _ _ _ _) q175 dX0_turn_15 ?_
  refine g_top (b := S 0 1) (by show dTurn (kpS S 0) 0 = S 0 1; rw [← hkn 1 (by omega)]; unfold dTurn; rw [uI_n _ _ (by omega), uI_n _ _ (by omega), uI_n _ _ (by omega), uI_s]) ?_
  refine g_widen (k' := 29) (n' := 140) (Nat.le_of_ble_eq_true rfl) (Nat.le_of_ble_eq_true rfl) ?_
  exact g_iret C hQ rfl dX0_turn_18 ⟨rfl, P1, _, rfl, rep_ud hrep1 (fun j hj => dTurn_far _ hj) (by omega) (fun q hq => gup_n _ _ (by omega)), by omega, fun q hq => by rw [gup_n _ _ (by omega)]; exact hfr1 q hq⟩

theorem nd_X0_undo : yX0_undo.cls ≠ "java/lang/invoke/MethodHandle" ∧ yX0_undo.cls ≠ "java/lang/invoke/VarHandle" ∧ (parseMethodDescriptor yX0_undo.desc).map (fun d => d.parameters.length) = some 0 := by decide +kernel
theorem mX0_undo {l : Launch} {D : va_G} {dA : Nat → ClassId} {N0 : Nat} {Y : State → Prop} (hY : gYc N0 Y) {h : gH} {sz x : Nat} {S : MS} {P : PS} (hr0 : rep dA x S P h sz)  : gM l D dA N0 Y yX0_undo cX0_undo 1 (some .int) 2 82 0 0 [.ref x] (ovX dA x S P h) sz (gPR (some (vI (undoV S))) dA x (undoS S) h sz) := by
  refine gM.of hY.ok (by decide +kernel) (Nat.le_of_ble_eq_true rfl) ?_
  intro X hX C hQ
  subst hX
  have C : gC X cX0_undo RX0 "undo" 1 (some .int) D dA N0 Y ({ frames := 2, cells := 0, slots := 0, locals := 82 }) := C
  show G X 0 0 _ _ 0 [some (.ref x)] []
  have hbm := hr0.1.1
  refine g_aload_n C dX0_undo_0 (gr _) rfl ?_
  refine X_g_backMany C q222 dX0_undo_1 ?_
  refine g_if_ne C (tgt := 10) dX0_undo_4 (by decide) (by omega) (fun c1 => ?_) (fun c1 => ?_)
  · have hne : ¬ S 10 2 = 0 := c1
    obtain ⟨p, F, hp, hF, hpx, hps, hFb⟩ := rep_get hr0 (i := S 10 2 - 1) (by omega) (by unfold live; rw [if_pos (by omega)]; omega)
    have hp1 : P 1 (S 10 2 - 1) = some p := by unfold rfS at hp; rw [if_pos (by omega)] at hp; exact hp
    refine g_aload_n C dX0_undo_10 (gr _) rfl ?_
    refine X_g_now C q218 dX0_undo_11 ?_
    refine g_aload_n C dX0_undo_14 (gr _) rfl ?_
    refine X_g_backs C q221 dX0_undo_15 ?_
    refine g_aload_n C dX0_undo_18 (gr _) rfl ?_
    refine g_dup C dX0_undo_19 rfl ?_
    refine X_g_backMany C q222 dX0_undo_20 ?_
    refine g_iconst C dX0_undo_23 ?_
    refine g_isub C dX0_undo_24 ?_
    refine g_dup_x1 C dX0_undo_25 rfl rfl ?_
    refine X_p_backMany C q222 dX0_undo_26 ?_
    refine X_ld_backs C (by omega) dX0_undo_29 ?_
    refine g_topv (v' := .ref p) (by rw [hp1]; rfl) ?_
    refine g_hE (ovX_now dA x _ P h) ?_
    refine g_callV1z C (mX1_set hY (isX_out hF (by omega)) (by omega)) (lw_V q829 q830 q831 q68 q832) ⟨rfl, nd_X1_set⟩ (isD_0 (isD_ov _ _ _ _ _)) rfl ⟨by decide, by decide⟩ ⟨Nat.le_of_ble_eq_true rfl, Nat.le_of_ble_eq_true rfl⟩ rfl (Nat.le_of_ble_eq_true rfl) dX0_undo_30 ?_
    refine g_hE (show _ = ovX dA x (undoS S) P h from ?_) ?_
    · rw [ovX_dn, undoS, if_neg hne]; exact gx (set_cp (S := us S 10 2 (S 10 2 - 1)) (fun j j0 j1 => by rw [hFb j j0 j1]; unfold bkF; rw [us_n _ _ _ (by omega)]))
    refine g_pop C dX0_undo_33 rfl ?_
    refine g_aload_n C dX0_undo_34 (gr _) rfl ?_
    refine X_g_backMany C q222 dX0_undo_35 ?_
    refine g_top (b := S 10 2 - 1) (by rw [undoS, if_neg hne, cpR_n (by omega), us_s, uI_s]) ?_
    exact g_iret C hQ rfl dX0_undo_38 ⟨gv (by rw [undoV, if_neg hne]), P, h, rfl, (rep_dn hr0 (fun a a0 a1 => by rw [undoS, if_neg hne, cpR_n a0, us_n _ _ _ a1]) (fun j hj => by rw [undoS, if_neg hne, cpR_out (by omega), us_n _ _ _ (by omega)]) (by rw [undoS, if_neg hne, cpR_n (by omega), us_s, uI_s]; omega) (Nat.le_refl _) (fun q _ => rfl)), Nat.le_refl _, fun q _ => rfl⟩
  · have hz : S 10 2 = 0 := c1
    refine g_bipush C dX0_undo_7 (by decide +kernel) ?_
    exact g_iret C hQ rfl dX0_undo_9 ⟨gv (by rw [undoV, if_pos hz]), P, h, by rw [undoS, if_pos hz], by rw [undoS, if_pos hz]; exact hr0, Nat.le_refl _, fun q _ => rfl⟩

theorem nd_X0_back : yX0_back.cls ≠ "java/lang/invoke/MethodHandle" ∧ yX0_back.cls ≠ "java/lang/invoke/VarHandle" ∧ (parseMethodDescriptor yX0_back.desc).map (fun d => d.parameters.length) = some 1 := by decide +kernel
theorem mX0_back {l : Launch} {D : va_G} {dA : Nat → ClassId} {N0 : Nat} {Y : State → Prop} (hY : gYc N0 Y) {h : gH} {sz x : Nat} {S : MS} {P : PS} {k : Int} (hO : OkD (S 0)) (hr0 : rep dA x S P h sz) (hK : ∀ k : Int, 0 ≤ k → k < 2 → S 2 k = 0 ∨ S 2 k = 1) (hrk : -2147483648 ≤ k ∧ k ≤ 2147483647)  : gM l D dA N0 Y yX0_back cX0_back 2 (some .int) 2 82 0 0 [.ref x, vI k] (ovX dA x S P h) sz (gPR (some (vI (backV S k))) dA x (backS S k) h sz) := by
  refine gM.of hY.ok (by decide +kernel) (Nat.le_of_ble_eq_true rfl) ?_
  intro X hX C hQ
  subst hX
  have C : gC X cX0_back RX0 "back" 2 (some .int) D dA N0 Y ({ frames := 2, cells := 0, slots := 0, locals := 82 }) := C
  show G X 0 0 _ _ 0 [some (.ref x), some (vI k)] []
  have hbm := hr0.1.1
  refine g_iload_n C dX0_back_0 (gi _) rfl ?_
  refine g_i2lz C dX0_back_1 (by omega) ?_
  refine g_lconstz C 0 rfl dX0_back_2 ?_
  refine g_lconstz C 1 rfl dX0_back_3 ?_
  refine g_callS1z C (mX0_in hY (by omega)) (lw_S q265 q266 q67 q267) nd_X0_in ⟨by decide, by decide⟩ ⟨Nat.le_of_ble_eq_true rfl, Nat.le_of_ble_eq_true rfl⟩ rfl (Nat.le_of_ble_eq_true rfl) dX0_back_4 ?_
  refine g_ifne_b C (tgt := 13) dX0_back_7 (by decide) (fun c1 => ?_) (fun c1 => ?_)
  · have h1 := c1
    have h1e := inB_t.mp h1
    have h1n : ¬ inB k 0 1 = false := by rw [h1]; decide
    refine g_aload_n C dX0_back_13 (gr _) rfl ?_
    refine X_g_kept C q220 dX0_back_14 ?_
    refine g_iload_n C dX0_back_17 (gi _) rfl ?_
    refine X_ld_kept C (by omega) dX0_back_18 ?_
    refine g_ifnonnull C (tgt := 25) dX0_back_19 (by decide) (fun oc2 c2 => ?_) (fun c2 => ?_)
    · have hl2 : S 2 k = 1 := by
        have hz := ((hr0.2.1 (8 + k) (by omega) (by omega)).2 _ (by unfold rfS; rw [if_neg (by omega), if_pos (by omega), show 8 + k - 8 = k by omega]; exact c2)).1 (by omega)
        unfold live at hz; rw [if_neg (by omega), if_pos (by omega), show 8 + k - 8 = k by omega] at hz; exact hz
      obtain ⟨p, F, hp, hF, hpx, hps, hFb⟩ := rep_get hr0 (i := 8 + k) (by omega) (by unfold live; rw [if_neg (by omega), if_pos (by omega), show 8 + k - 8 = k by omega]; exact hl2)
      have hp1 : P 0 k = some p := by unfold rfS at hp; rw [if_neg (by omega), if_pos (by omega), show 8 + k - 8 = k by omega] at hp; exact hp
      have hl0 : ¬ S 2 k = 0 := by omega
      refine g_aload_n C dX0_back_25 (gr _) rfl ?_
      refine X_g_now C q218 dX0_back_26 ?_
      refine g_aload_n C dX0_back_29 (gr _) rfl ?_
      refine X_g_kept C q220 dX0_back_30 ?_
      refine g_iload_n C dX0_back_33 (gi _) rfl ?_
      refine X_ld_kept C (by omega) dX0_back_34 ?_
      refine g_topv (v' := .ref p) (by rw [hp1]; rfl) ?_
      refine g_hE (ovX_now dA x _ P h) ?_
      refine g_callV1z C (mX1_set hY (isX_out hF (by omega)) (by omega)) (lw_V q829 q830 q831 q68 q832) ⟨rfl, nd_X1_set⟩ (isD_0 (isD_ov _ _ _ _ _)) rfl ⟨by decide, by decide⟩ ⟨Nat.le_of_ble_eq_true rfl, Nat.le_of_ble_eq_true rfl⟩ rfl (Nat.le_of_ble_eq_true rfl) dX0_back_35 ?_
      refine g_hE (show _ = ovX dA x (cpR S (522 + 58 * k) 0) P h from ?_) ?_
      · rw [ovX_dn]; exact gx (set_cp (fun j j0 j1 => by rw [hFb j j0 j1]; unfold bkF; congr 1; omega))
      refine g_pop C dX0_back_38 rfl ?_
      refine g_aload_n C dX0_back_39 (gr _) rfl ?_
      refine g_iconst C dX0_back_40 ?_
      refine X_p_backMany C q222 dX0_back_41 ?_
      refine g_aload_n C dX0_back_44 (gr _) rfl ?_
      refine X_g_now C q218 dX0_back_45 ?_
      refine D_g_ends C (isX_now _ _ _ _ _) q175 dX0_back_48 ?_
      refine g_top (b := S 0 (522 + 58 * k)) (by rw [us_n _ _ _ (by omega), cpR_in (by omega)]; congr 1; omega) ?_
      exact g_iret C hQ rfl dX0_back_51 ⟨gv (by rw [backV, if_neg h1n, if_neg hl0]), P, h, by rw [backS, if_neg h1n, if_neg hl0], (rep_dn hr0 (fun a a0 a1 => by rw [backS, if_neg h1n, if_neg hl0, us_n _ _ _ a1, cpR_n a0]) (fun j hj => by rw [backS, if_neg h1n, if_neg hl0, us_n _ _ _ (by omega), cpR_out (by omega)]) (by rw [backS, if_neg h1n, if_neg hl0, us_s, uI_s]; omega) (Nat.le_refl _) (fun q _ => rfl)), Nat.le_refl _, fun q _ => rfl⟩
    · have hl0 : S 2 k = 0 := by
        have hz := (hr0.2.1 (8 + k) (by omega) (by omega)).1 (by unfold rfS; rw [if_neg (by omega), if_pos (by omega), show 8 + k - 8 = k by omega]; exact c2)
        unfold live at hz; rw [if_neg (by omega), if_pos (by omega), show 8 + k - 8 = k by omega] at hz; have := hK k (by omega) (by omega); omega
      refine g_bipush C dX0_back_22 (by decide +kernel) ?_
      exact g_iret C hQ rfl dX0_back_24 ⟨gv (by rw [backV, if_neg h1n, if_pos hl0]), P, h, by rw [backS, if_neg h1n, if_pos hl0], by rw [backS, if_neg h1n, if_pos hl0]; exact hr0, Nat.le_refl _, fun q _ => rfl⟩
  · have h1 := c1
    refine g_bipush C dX0_back_10 (by decide +kernel) ?_
    exact g_iret C hQ rfl dX0_back_12 ⟨gv (by rw [backV, if_pos h1]), P, h, by rw [backS, if_pos h1], by rw [backS, if_pos h1]; exact hr0, Nat.le_refl _, fun q _ => rfl⟩

theorem nd_X0_keep : yX0_keep.cls ≠ "java/lang/invoke/MethodHandle" ∧ yX0_keep.cls ≠ "java/lang/invoke/VarHandle" ∧ (parseMethodDescriptor yX0_keep.desc).map (fun d => d.parameters.length) = some 1 := by decide +kernel
theorem mX0_keep {l : Launch} {D : va_G} {dA : Nat → ClassId} {N0 : Nat} {Y : State → Prop} (hY : gYc N0 Y) {h : gH} {sz x : Nat} {S : MS} {P : PS} {k : Int} (hr0 : rep dA x S P h sz) (hrk : -2147483648 ≤ k ∧ k ≤ 2147483647)  : gM l D dA N0 Y yX0_keep cX0_keep 2 (some .int) 4 86 28 134 [.ref x, vI k] (ovX dA x S P h) sz (gPR (some (vI (keepV S k))) dA x (keepS S k) h sz) := by
  refine gM.of hY.ok (by decide +kernel) (Nat.le_of_ble_eq_true rfl) ?_
  intro X hX C hQ
  subst hX
  have C : gC X cX0_keep RX0 "keep" 2 (some .int) D dA N0 Y ({ frames := 4, cells := 28, slots := 134, locals := 86 }) := C
  show G X 0 0 _ _ 0 [some (.ref x), some (vI k)] []
  have hsz := hr0.1.2
  refine g_iload_n C dX0_keep_0 (gi _) rfl ?_
  refine g_i2lz C dX0_keep_1 (by omega) ?_
  refine g_lconstz C 0 rfl dX0_keep_2 ?_
  refine g_lconstz C 1 rfl dX0_keep_3 ?_
  refine g_callS1z C (mX0_in hY (by omega)) (lw_S q265 q266 q67 q267) nd_X0_in ⟨by decide, by decide⟩ ⟨Nat.le_of_ble_eq_true rfl, Nat.le_of_ble_eq_true rfl⟩ rfl (Nat.le_of_ble_eq_true rfl) dX0_keep_4 ?_
  refine g_ifne_b C (tgt := 13) dX0_keep_7 (by decide) (fun c1 => ?_) (fun c1 => ?_)
  · have h1 := c1
    have h1e := inB_t.mp h1
    have h1n : ¬ inB k 0 1 = false := by rw [h1]; decide
    refine g_aload_n C dX0_keep_13 (gr _) rfl ?_
    refine X_g_kept C q220 dX0_keep_14 ?_
    refine g_iload_n C dX0_keep_17 (gi _) rfl ?_
    refine g_new C (ci := 1) (fs := [vI 0, vI 0, vI 0, vI 0, .null, .null, .null, .null]) rfl in_X1 tyX1 tyX1_ok q108 q109 q68 (by decide +kernel) ⟨Nat.le_of_ble_eq_true rfl, Nat.le_of_ble_eq_true rfl⟩ dX0_keep_18 (fun _ => ?_)
    refine g_dup C dX0_keep_21 rfl ?_
    refine g_aload_n C dX0_keep_22 (gr _) rfl ?_
    refine g_callI0 C (mX1_init hY) (lw_meth q112) q68 q110 q111 rfl nd_X1_init ⟨by decide, by decide⟩ ⟨Nat.le_of_ble_eq_true rfl, Nat.le_of_ble_eq_true rfl⟩ rfl (Nat.le_of_ble_eq_true rfl) dX0_keep_23 ?_
    refine g_aload_n C dX0_keep_26 (gr _) rfl ?_
    refine g_get C ((ovD_off _ _ _ _ _ (by omega)).trans (ovX_0 dA x S P h)) rfl in_X0 0 (by decide) q218 (Or.inl rfl) rfl dX0_keep_27 ?_
    refine g_callV1z C (mX1_set hY (isX_now dA x S P h) (by omega)) (lw_V q829 q830 q831 q68 q832) ⟨rfl, nd_X1_set⟩ (isD_0 (isD_ov _ _ _ _ _)) rfl ⟨by decide, by decide⟩ ⟨Nat.le_of_ble_eq_true rfl, Nat.le_of_ble_eq_true rfl⟩ rfl (Nat.le_of_ble_eq_true rfl) dX0_keep_30 ?_
    refine g_hE (ovX_ovD _ _ _ _ _ _ _ _ (by omega)) ?_
    refine X_st_kept C (fs := _) ((ovX_off _ _ _ _ _ (by omega)).trans (isD_0 (isD_ov dA x sz _ h))) (by omega) dX0_keep_33 ?_
    refine g_aload_n C dX0_keep_34 (gr _) rfl ?_
    refine X_g_now C q218 dX0_keep_35 ?_
    refine D_g_ends C (isX_now _ _ _ _ _) q175 dX0_keep_38 ?_
    refine g_widen (k' := 28) (n' := 134) (Nat.le_of_ble_eq_true rfl) (Nat.le_of_ble_eq_true rfl) ?_
    exact g_iret C hQ rfl dX0_keep_41 ⟨gv (by rw [keepV, if_neg h1n]), _, _, (by rw [keepS, if_neg h1n]; exact (ovX_ext (by rw [us_n _ _ _ (by omega), cpR_n (by omega)]) (fun j j0 j1 => by rw [us_n _ _ _ (by omega), cpR_out (by omega)]) (by rw [us_n _ _ _ (by omega), cpR_n (by omega)]) (by rw [us_n _ _ _ (by omega), cpR_n (by omega)]) (by rw [us_n _ _ _ (by omega), cpR_n (by omega)])).symm), (by rw [keepS, if_neg h1n]; exact rep_keep hr0 (by omega) (fun j j0 j1 => by unfold dSet; rw [if_pos ⟨j0, j1⟩])), by omega, fun q hq => ovD_off _ _ _ _ _ (by omega)⟩
  · have h1 := c1
    refine g_bipush C dX0_keep_10 (by decide +kernel) ?_
    refine g_widen (k' := 28) (n' := 134) (Nat.le_of_ble_eq_true rfl) (Nat.le_of_ble_eq_true rfl) ?_
    exact g_iret C hQ rfl dX0_keep_12 ⟨gv (by rw [keepV, if_pos h1]), P, h, by rw [keepS, if_pos h1], by rw [keepS, if_pos h1]; exact hr0, Nat.le_refl _, fun q _ => rfl⟩
