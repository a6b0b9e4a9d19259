/-! THE COMPONENT: spool, drop -/
set_option maxRecDepth 100000
theorem rep_spool {dA : Nat → ClassId} {x sz : Nat} {S : MS} {P : PS} {h : gH} {t : Int} (hr : rep dA x S P h sz) (ht : 0 ≤ t ∧ t < 3) : rep dA x (us S 4 t 0) (up P 2 t (some sz)) (gup (gup h sz (gO 9 [.ref (sz + 1), vI 0])) (sz + 1) (gI (dA 0) 8 (fun _ => 0))) (sz + 2) := by
  have h1 := hr.1
  have en : ∀ a : Nat, a ≠ 4 → us S 4 t 0 a = S a := fun a ha => us_n _ _ _ ha
  have e4 : us S 4 t 0 4 = uI (S 4) t 0 := us_s _ _ _ _
  refine rep_step hr (by rw [en 10 (by omega)]; exact h1.1) (by omega) (10 + t) (by omega) sz (fun i a b c => ?_) ?_ (Or.inr (Nat.le_refl _)) ⟨h1.2, by unfold lnS; rw [if_neg (by omega)]; omega⟩ (fun q q1 _ => by rw [gup_n _ _ (by omega), gup_n _ _ (by omega)]) (fun _ => ?_) ?_ (fun i a b c => ⟨?_, fun g w j j0 j1 => ?_, fun g => ⟨by rw [e4, uI_n _ _ (by omega)], fun j _ _ => by rw [en 5 (by omega)]⟩⟩)
  · unfold rfS
    by_cases g1 : i < 8
    · rw [if_pos g1, if_pos g1, up_n _ _ _ (by omega)]
    rw [if_neg g1, if_neg g1]
    by_cases g2 : i < 10
    · rw [if_pos g2, if_pos g2, up_n _ _ _ (by omega)]
    · rw [if_neg g2, if_neg g2, up_s, uI_n _ _ (by omega)]
  · unfold rfS
    rw [if_neg (by omega), if_neg (by omega), up_s, show 10 + t - 10 = t by omega, uI_s]
  · unfold live
    rw [if_neg (by omega), if_neg (by omega), e4, show 10 + t - 10 = t by omega, uI_s]
    omega
  · unfold slotOk
    rw [if_neg (by omega)]
    refine ⟨fun _ => 0, ?_, gup_s _ _ _, fun j j0 j1 => ?_⟩
    · rw [gup_n _ _ (by omega), gup_s, e4, show 10 + t - 10 = t by omega, uI_s]
    · rw [e4, show 10 + t - 10 = t by omega, uI_s] at j1
      omega
  · unfold live
    rw [en 10 (by omega), en 2 (by omega), e4]
    by_cases g1 : i < 8
    · rw [if_pos g1, if_pos g1]
    rw [if_neg g1, if_neg g1]
    by_cases g2 : i < 10
    · rw [if_pos g2, if_pos g2]
    · rw [if_neg g2, if_neg g2, uI_n _ _ (by omega)]
  · unfold bkF
    rw [en 0 (by omega)]
theorem rep_drop {dA : Nat → ClassId} {x sz : Nat} {S : MS} {P : PS} {h : gH} {t : Int} (hr : rep dA x S P h sz) (ht : 0 ≤ t ∧ t < 3) : rep dA x (us S 4 t (-1)) (up P 2 t none) h sz := by
  obtain ⟨⟨r1, r1x⟩, r2, r3⟩ := hr
  have en : ∀ a : Nat, a ≠ 4 → us S 4 t (-1) a = S a := fun a ha => us_n _ _ _ ha
  have e4 : us S 4 t (-1) 4 = uI (S 4) t (-1) := us_s _ _ _ _
  have hrf : ∀ i : Int, 0 ≤ i → i < 13 → rfS (up P 2 t none) i = if i = 10 + t then none else rfS P i := by
    intro i a b
    unfold rfS
    by_cases g1 : i < 8
    · rw [if_pos g1, if_pos g1, up_n _ _ _ (by omega), if_neg (by omega)]
    rw [if_neg g1, if_neg g1]
    by_cases g2 : i < 10
    · rw [if_pos g2, if_pos g2, up_n _ _ _ (by omega), if_neg (by omega)]
    rw [if_neg g2, if_neg g2, up_s]
    by_cases g3 : i = 10 + t
    · rw [if_pos g3, g3, show 10 + t - 10 = t by omega, uI_s]
    · rw [if_neg g3, uI_n _ _ (by omega)]
  have hl : ∀ i : Int, i ≠ 10 + t → (live (us S 4 t (-1)) i ↔ live S i) := by
    intro i hi
    unfold live
    rw [en 10 (by omega), en 2 (by omega), e4]
    by_cases g1 : i < 8
    · rw [if_pos g1, if_pos g1]
    rw [if_neg g1, if_neg g1]
    by_cases g2 : i < 10
    · rw [if_pos g2, if_pos g2]
    · rw [if_neg g2, if_neg g2, uI_n _ _ (by omega)]
  refine ⟨⟨by rw [en 10 (by omega)]; exact r1, r1x⟩, fun i a b => ?_, fun i j p q a b c d e => ?_⟩
  · rw [hrf i a b]
    by_cases g : i = 10 + t
    · rw [if_pos g]
      refine ⟨fun _ w => ?_, fun p hp => by cases hp⟩
      unfold live at w
      rw [if_neg (by omega), if_neg (by omega), e4, show i - 10 = t by omega, uI_s] at w
      omega
    · rw [if_neg g]
      refine ⟨fun z w => (r2 i a b).1 z ((hl i g).mp w), fun p hp => ?_⟩
      obtain ⟨t1, t2, t3, t4⟩ := (r2 i a b).2 p hp
      exact ⟨fun z => (hl i g).mpr (t1 z), t2, t3, slotOk_fr t4 (fun _ _ _ => rfl) (fun z w => ⟨(hl i g).mp w, fun j j0 j1 => by unfold bkF; rw [en 0 (by omega)]⟩) (fun z => ⟨by rw [e4, uI_n _ _ (by omega)], fun j _ _ => by rw [en 5 (by omega)]⟩)⟩
  · rw [hrf i a (by omega)] at d
    rw [hrf j (by omega) c] at e
    by_cases g1 : i = 10 + t
    · rw [if_pos g1] at d; cases d
    by_cases g2 : j = 10 + t
    · rw [if_pos g2] at e; cases e
    rw [if_neg g1] at d
    rw [if_neg g2] at e
    exact r3 i j p q a b c d e
/-- a spool in its slot -/
theorem rep_sp {dA : Nat → ClassId} {x sz p : Nat} {S : MS} {P : PS} {h : gH} {t : Int} (hr : rep dA x S P h sz) (ht : 0 ≤ t ∧ t < 3) (hp : P 2 t = some p) : (∃ L1 : Int → Int, h p = some (gO 9 [.ref (p + 1), vI (S 4 t)]) ∧ h (p + 1) = some (gI (dA 0) 8 L1) ∧ ∀ j : Int, 0 ≤ j → j < S 4 t → L1 j = S 5 (8 * t + j)) ∧ 0 ≤ S 4 t ∧ x + 73 ≤ p ∧ p + 2 ≤ sz := by
  have hrf : rfS P (10 + t) = some p := by unfold rfS; rw [if_neg (by omega), if_neg (by omega), show 10 + t - 10 = t by omega]; exact hp
  obtain ⟨t1, t2, t3, t4⟩ := (hr.2.1 (10 + t) (by omega) (by omega)).2 p hrf
  have hl := t1 (by omega)
  unfold slotOk at t4
  unfold live at hl
  unfold lnS at t3
  rw [if_neg (by omega), show 10 + t - 10 = t by omega] at t4
  rw [if_neg (by omega), if_neg (by omega), show 10 + t - 10 = t by omega] at hl
  rw [if_neg (by omega)] at t3
  exact ⟨t4, hl, t2, t3⟩
theorem rep_sn {dA : Nat → ClassId} {x sz : Nat} {S : MS} {P : PS} {h : gH} {t : Int} (hr : rep dA x S P h sz) (ht : 0 ≤ t ∧ t < 3) (hp : P 2 t = none) : S 4 t < 0 := by
  have hrf : rfS P (10 + t) = none := by unfold rfS; rw [if_neg (by omega), if_neg (by omega), show 10 + t - 10 = t by omega]; exact hp
  have hl := (hr.2.1 (10 + t) (by omega) (by omega)).1 hrf
  unfold live at hl
  rw [if_neg (by omega), if_neg (by omega), show 10 + t - 10 = t by omega] at hl
  omega

theorem nd_X10_init : yX10_init.cls ≠ "java/lang/invoke/MethodHandle" ∧ yX10_init.cls ≠ "java/lang/invoke/VarHandle" ∧ (parseMethodDescriptor yX10_init.desc).map (fun d => d.parameters.length) = some 0 := by decide +kernel
theorem mX10_init {l : Launch} {D : va_G} {dA : Nat → ClassId} {N0 : Nat} {Y : State → Prop} (hY : gYc N0 Y) {h : gH} {p : Nat} {v0 v1 : Value} : gM l D dA N0 Y yX10_init cX10_init 1 none 1 20 1 8 [.ref p] (gup h p (gO 9 [v0, v1])) (p + 1) (gP none (gup (gup h p (gO 9 [.ref (p + 1), v1])) (p + 1) (gI (dA 0) 8 (fun _ => 0))) (p + 2)) := by
  refine gM.of hY.ok (by decide +kernel) (Nat.le_of_ble_eq_true rfl) ?_
  intro X hX C hQ
  subst hX
  have C : gC X cX10_init RX10 "<init>" 1 none D dA N0 Y ({ frames := 1, cells := 1, slots := 8, locals := 20 }) := C
  show G X 0 0 _ _ 0 [some (.ref p)] []
  refine g_aload_n C dX10_init_0 (gr _) rfl ?_
  refine g_objInit C q988 q106 q107 (Nat.le_of_ble_eq_true rfl) ⟨by decide, by decide⟩ dX10_init_1 ?_
  refine g_aload_n C dX10_init_4 (gr _) rfl ?_
  refine g_bipush C dX10_init_5 (by decide +kernel) ?_
  refine g_newa (N := 8) (atype := .int) (ty := .int) C 0 rfl rfl (fun _ _ => rfl) rfl q153 (Nat.le_of_ble_eq_true rfl) (by decide) ⟨Nat.le_of_ble_eq_true rfl, Nat.le_of_ble_eq_true rfl⟩ dX10_init_7 (fun _ => ?_)
  refine g_putF C ((gup_n _ _ (by omega)).trans (gup_s _ _ _)) (ci := 9) rfl in_X10 0 (by decide) tyX10 tyX10_ok nmX10 q989 (Or.inl rfl) rfl rfl rfl rfl rfl (Nat.le_of_ble_eq_true rfl) dX10_init_9 ?_
  refine g_hE (gup_sw _ _ _ (by omega)) ?_
  refine g_hE (congrArg (fun z => gup z _ _) (gup_gup _ _ _ _)) ?_
  refine g_widen (k' := 1) (n' := 8) (Nat.le_of_ble_eq_true rfl) (Nat.le_of_ble_eq_true rfl) ?_
  exact g_vret C hQ rfl dX10_init_12 ⟨rfl, rfl, rfl⟩

theorem nd_X0_spool : yX0_spool.cls ≠ "java/lang/invoke/MethodHandle" ∧ yX0_spool.cls ≠ "java/lang/invoke/VarHandle" ∧ (parseMethodDescriptor yX0_spool.desc).map (fun d => d.parameters.length) = some 1 := by decide +kernel
theorem mX0_spool {l : Launch} {D : va_G} {dA : Nat → ClassId} {N0 : Nat} {Y : State → Prop} (hY : gYc N0 Y) {h : gH} {sz x : Nat} {S : MS} {P : PS} {t : Int} (hr0 : rep dA x S P h sz) (hrt : -2147483648 ≤ t ∧ t ≤ 2147483647)  : gM l D dA N0 Y yX0_spool cX0_spool 2 (some .int) 2 45 2 10 [.ref x, vI t] (ovX dA x S P h) sz (gPR (some (vI (spoolV t))) dA x (spoolS S t) h sz) := by
  refine gM.of hY.ok (by decide +kernel) (Nat.le_of_ble_eq_true rfl) ?_
  intro X hX C hQ
  subst hX
  have C : gC X cX0_spool RX0 "spool" 2 (some .int) D dA N0 Y ({ frames := 2, cells := 2, slots := 10, locals := 45 }) := C
  show G X 0 0 _ _ 0 [some (.ref x), some (vI t)] []
  have hsz := hr0.1.2
  refine g_iload_n C dX0_spool_0 (gi _) rfl ?_
  refine g_callS1z C (mX0_isSpool hY (by omega)) (lw_S q980 q981 q67 q982) nd_X0_isSpool ⟨by decide, by decide⟩ ⟨Nat.le_of_ble_eq_true rfl, Nat.le_of_ble_eq_true rfl⟩ rfl (Nat.le_of_ble_eq_true rfl) dX0_spool_1 ?_
  refine g_ifne_b C (tgt := 10) dX0_spool_4 (by decide) (fun c1 => ?_) (fun c1 => ?_)
  · have h1 := c1
    have h1e := inB_t.mp h1
    have h1n : ¬ inB t 0 2 = false := by rw [h1]; decide
    refine g_aload_n C dX0_spool_10 (gr _) rfl ?_
    refine X_g_spools C q235 dX0_spool_11 ?_
    refine g_iload_n C dX0_spool_14 (gi _) rfl ?_
    refine g_new C (ci := 9) (fs := [.null, vI 0]) rfl in_X10 tyX10 tyX10_ok q211 q984 q93 (by decide +kernel) ⟨Nat.le_of_ble_eq_true rfl, Nat.le_of_ble_eq_true rfl⟩ dX0_spool_15 (fun _ => ?_)
    refine g_dup C dX0_spool_18 rfl ?_
    refine g_callIN0 C (mX10_init hY) (lw_meth q987) (gtok hY C q985 rfl) q93 q986 rfl nd_X10_init ⟨by decide, by decide⟩ ⟨Nat.le_of_ble_eq_true rfl, Nat.le_of_ble_eq_true rfl⟩ rfl (Nat.le_of_ble_eq_true rfl) dX0_spool_19 ?_
    refine g_hE (show _ = ovX dA x S P (gup (gup h sz (gO 9 [.ref (sz + 1), vI 0])) (sz + 1) (gI (dA 0) 8 (fun _ => 0))) by rw [ovX_gup _ _ _ _ _ _ (by omega), ovX_gup _ _ _ _ _ _ (by omega)]) ?_
    refine X_st_spools C (fs := _) ((ovX_off _ _ _ _ _ (by omega)).trans ((gup_n _ _ (by omega)).trans (gup_s _ _ _))) (by omega) dX0_spool_22 ?_
    refine g_iconst C dX0_spool_23 ?_
    refine g_widen (k' := 2) (n' := 10) (Nat.le_of_ble_eq_true rfl) (Nat.le_of_ble_eq_true rfl) ?_
    exact g_iret C hQ rfl dX0_spool_24 ⟨gv (by rw [spoolV, if_neg h1n]), _, _, (by rw [spoolS, if_neg h1n]; exact (ovX_ext (by rw [us_n _ _ _ (by omega)]) (fun j _ _ => by rw [us_n _ _ _ (by omega)]) (by rw [us_n _ _ _ (by omega)]) (by rw [us_n _ _ _ (by omega)]) (by rw [us_n _ _ _ (by omega)])).symm), (by rw [spoolS, if_neg h1n]; exact rep_spool hr0 (by omega)), by omega, fun q hq => by rw [gup_n _ _ (by omega), gup_n _ _ (by omega)]⟩
  · have h1 := c1
    refine g_bipush C dX0_spool_7 (by decide +kernel) ?_
    refine g_widen (k' := 2) (n' := 10) (Nat.le_of_ble_eq_true rfl) (Nat.le_of_ble_eq_true rfl) ?_
    exact g_iret C hQ rfl dX0_spool_9 ⟨gv (by rw [spoolV, if_pos h1]), P, h, by rw [spoolS, if_pos h1], by rw [spoolS, if_pos h1]; exact hr0, Nat.le_refl _, fun q _ => rfl⟩

theorem nd_X0_drop : yX0_drop.cls ≠ "java/lang/invoke/MethodHandle" ∧ yX0_drop.cls ≠ "java/lang/invoke/VarHandle" ∧ (parseMethodDescriptor yX0_drop.desc).map (fun d => d.parameters.length) = some 1 := by decide +kernel
theorem mX0_drop {l : Launch} {D : va_G} {dA : Nat → ClassId} {N0 : Nat} {Y : State → Prop} (hY : gYc N0 Y) {h : gH} {sz x : Nat} {S : MS} {P : PS} {t : Int} (hr0 : rep dA x S P h sz) (hrt : -2147483648 ≤ t ∧ t ≤ 2147483647) (h4 : ∀ k : Int, 0 ≤ k → k < 3 → -1 ≤ S 4 k ∧ S 4 k ≤ 8)  : gM l D dA N0 Y yX0_drop cX0_drop 3 (some .int) 2 45 0 0 [.ref x, vI t] (ovX dA x S P h) sz (gPR (some (vI (dropV S t))) dA x (dropS S t) h sz) := by
  refine gM.of hY.ok (by decide +kernel) (Nat.le_of_ble_eq_true rfl) ?_
  intro X hX C hQ
  subst hX
  have C : gC X cX0_drop RX0 "drop" 3 (some .int) D dA N0 Y ({ frames := 2, cells := 0, slots := 0, locals := 45 }) := C
  show G X 0 0 _ _ 0 [some (.ref x), some (vI t), none] []
  have hsz := hr0.1.2
  refine g_iload_n C dX0_drop_0 (gi _) rfl ?_
  refine g_callS1z C (mX0_isSpool hY (by omega)) (lw_S q980 q981 q67 q982) nd_X0_isSpool ⟨by decide, by decide⟩ ⟨Nat.le_of_ble_eq_true rfl, Nat.le_of_ble_eq_true rfl⟩ rfl (Nat.le_of_ble_eq_true rfl) dX0_drop_1 ?_
  refine g_ifne_b C (tgt := 10) dX0_drop_4 (by decide) (fun c1 => ?_) (fun c1 => ?_)
  · have h1 := c1
    have h1e := inB_t.mp h1
    have h1n : ¬ inB t 0 2 = false := by rw [h1]; decide
    refine g_aload_n C dX0_drop_10 (gr _) rfl ?_
    refine X_g_spools C q235 dX0_drop_11 ?_
    refine g_iload_n C dX0_drop_14 (gi _) rfl ?_
    refine X_ld_spools C (by omega) dX0_drop_15 ?_
    refine g_astore_n1002 C dX0_drop_16 (grf _) rfl ?_
    refine g_aload_n C dX0_drop_17 (gr _) rfl ?_
    refine X_g_spools C q235 dX0_drop_18 ?_
    refine g_iload_n C dX0_drop_21 (gi _) rfl ?_
    refine g_null C dX0_drop_22 ?_
    refine X_sn_spools C (by omega) dX0_drop_23 ?_
    refine g_aload_n C dX0_drop_24 (grf _) rfl ?_
    refine g_ifnonnull C (tgt := 33) dX0_drop_25 (by decide) (fun oc2 c2 => ?_) (fun c2 => ?_)
    · obtain ⟨p, hp⟩ : ∃ p, P 2 t = some p := ⟨_, c2⟩
      obtain ⟨⟨L1, q1, q2, q3⟩, q4, q5, q6⟩ := rep_sp hr0 (by omega) hp
      refine g_aload_n C dX0_drop_33 (grf _) rfl ?_
      refine g_topv (v' := .ref p) (by rw [hp]; rfl) ?_
      refine g_getN C ((ovX_off _ _ _ _ _ (by omega)).trans q1) rfl in_X10 1 (by decide) (gtok hY C q993 rfl) rfl rfl dX0_drop_34 ?_
      exact g_iret C hQ rfl dX0_drop_37 ⟨gv (by rw [dropV, if_neg h1n, if_neg (by omega)]), _, h, (by rw [dropS, if_neg h1n]; exact (ovX_ext (by rw [us_n _ _ _ (by omega)]) (fun j _ _ => by rw [us_n _ _ _ (by omega)]) (by rw [us_n _ _ _ (by omega)]) (by rw [us_n _ _ _ (by omega)]) (by rw [us_n _ _ _ (by omega)])).symm), (by rw [dropS, if_neg h1n]; exact rep_drop hr0 (by omega)), Nat.le_refl _, fun q _ => rfl⟩
    · have hp : P 2 t = none := c2
      have q4 := rep_sn hr0 (by omega) hp
      refine g_bipush C dX0_drop_28 (by decide +kernel) ?_
      refine g_goto C (tgt := 37) dX0_drop_30 (by decide) ?_
      exact g_iret C hQ rfl dX0_drop_37 ⟨gv (by rw [dropV, if_neg h1n, if_pos (by omega)]), _, h, (by rw [dropS, if_neg h1n]; exact (ovX_ext (by rw [us_n _ _ _ (by omega)]) (fun j _ _ => by rw [us_n _ _ _ (by omega)]) (by rw [us_n _ _ _ (by omega)]) (by rw [us_n _ _ _ (by omega)]) (by rw [us_n _ _ _ (by omega)])).symm), (by rw [dropS, if_neg h1n]; exact rep_drop hr0 (by omega)), Nat.le_refl _, fun q _ => rfl⟩
  · have h1 := c1
    refine g_bipush C dX0_drop_7 (by decide +kernel) ?_
    exact g_iret C hQ rfl dX0_drop_9 ⟨gv (by rw [dropV, if_pos h1]), P, h, by rw [dropS, if_pos h1], by rw [dropS, if_pos h1]; exact hr0, Nat.le_refl _, fun q _ => rfl⟩
