/-! THE COMPONENT: a spool's iterator -/
set_option maxRecDepth 100000

theorem nd_X11_init : yX11_init.cls ≠ "java/lang/invoke/MethodHandle" ∧ yX11_init.cls ≠ "java/lang/invoke/VarHandle" ∧ (parseMethodDescriptor yX11_init.desc).map (fun d => d.parameters.length) = some 1 := by decide +kernel
theorem mX11_init {l : Launch} {D : va_G} {dA : Nat → ClassId} {N0 : Nat} {Y : State → Prop} (hY : gYc N0 Y) {h : gH} {sz a p : Nat} {n1 : Int} {v0 v1 : Value} (hS : h p = some (gO 9 [.ref (p + 1), vI n1])) (hne : p ≠ a) : gM l D dA N0 Y yX11_init cX11_init 2 none 1 20 0 0 [.ref a, .ref p] (gup h a (gO 10 [v0, v1])) sz (gP none (gup h a (gO 10 [vI n1, .ref p])) sz) := by
  refine gM.of hY.ok (by decide +kernel) (Nat.le_of_ble_eq_true rfl) ?_
  intro X hX C hQ
  subst hX
  have C : gC X cX11_init RX11 "<init>" 2 none D dA N0 Y ({ frames := 1, cells := 0, slots := 0, locals := 20 }) := C
  show G X 0 0 _ _ 0 [some (.ref a), some (.ref p)] []
  refine g_aload_n C dX11_init_0 (gr _) rfl ?_
  refine g_aload_n C dX11_init_1 (gr _) rfl ?_
  refine g_putF C (gup_s _ _ _) (ci := 10) rfl in_X11 1 (by decide) tyX11 tyX11_ok nmX11 q1024 (Or.inl rfl) rfl rfl rfl rfl rfl (Nat.le_of_ble_eq_true rfl) dX11_init_2 ?_
  refine g_hE (gup_gup _ _ _ _) ?_
  refine g_aload_n C dX11_init_5 (gr _) rfl ?_
  refine g_objInit C q1022 q106 q107 (Nat.le_of_ble_eq_true rfl) ⟨by decide, by decide⟩ dX11_init_6 ?_
  refine g_aload_n C dX11_init_9 (gr _) rfl ?_
  refine g_aload_n C dX11_init_10 (gr _) rfl ?_
  refine g_get C (gup_s _ _ _) (ci := 10) rfl in_X11 1 (by decide) q1024 (Or.inl rfl) rfl dX11_init_11 ?_
  refine g_getN C ((gup_n _ _ hne).trans hS) rfl in_X10 1 (by decide) (gtok hY C q992 rfl) rfl rfl dX11_init_14 ?_
  refine g_put C (gup_s _ _ _) (ci := 10) rfl in_X11 0 (by decide) tyX11 tyX11_ok nmX11 q1023 (Or.inl rfl) rfl rfl rfl (Nat.le_of_ble_eq_true rfl) dX11_init_17 ?_
  refine g_hE (gup_gup _ _ _ _) ?_
  exact g_vret C hQ rfl dX11_init_20 ⟨rfl, rfl, rfl⟩

theorem nd_X11_hasNext : yX11_hasNext.cls ≠ "java/lang/invoke/MethodHandle" ∧ yX11_hasNext.cls ≠ "java/lang/invoke/VarHandle" ∧ (parseMethodDescriptor yX11_hasNext.desc).map (fun d => d.parameters.length) = some 0 := by decide +kernel
theorem mX11_hasNext {l : Launch} {D : va_G} {dA : Nat → ClassId} {N0 : Nat} {Y : State → Prop} (hY : gYc N0 Y) {h : gH} {sz a p : Nat} {l1 : Int} (hU : h a = some (gO 10 [vI l1, .ref p])) (hl : 0 ≤ l1 ∧ l1 ≤ 8) : gM l D dA N0 Y yX11_hasNext cX11_hasNext 1 (some .boolean) 0 0 0 0 [.ref a] (h) sz (gP (some (vI (bI (decide (0 < l1))))) h sz) := by
  refine gM.of hY.ok (by decide +kernel) (Nat.le_of_ble_eq_true rfl) ?_
  intro X hX C hQ
  subst hX
  have C : gC X cX11_hasNext RX11 "hasNext" 1 (some .boolean) D dA N0 Y ({ frames := 0, cells := 0, slots := 0, locals := 0 }) := C
  show G X 0 0 _ _ 0 [some (.ref a)] []
  refine g_aload_n C dX11_hasNext_0 (gr _) rfl ?_
  refine g_get C hU rfl in_X11 0 (by decide) q1023 (Or.inl rfl) rfl dX11_hasNext_1 ?_
  refine g_if_le C (tgt := 11) dX11_hasNext_4 (by decide) (by omega) (fun c1 => ?_) (fun c1 => ?_)
  · refine g_iconst C dX11_hasNext_11 ?_
    refine g_topv (v' := vI (bI false)) rfl ?_
    exact g_zret C hQ rfl dX11_hasNext_12 ⟨gz (by first | rw [decide_eq_true (by omega)] | rw [decide_eq_false (by omega)]), rfl, rfl⟩
  · refine g_iconst C dX11_hasNext_7 ?_
    refine g_goto C (tgt := 12) dX11_hasNext_8 (by decide) ?_
    refine g_topv (v' := vI (bI true)) rfl ?_
    exact g_zret C hQ rfl dX11_hasNext_12 ⟨gz (by first | rw [decide_eq_true (by omega)] | rw [decide_eq_false (by omega)]), rfl, rfl⟩

theorem nd_X10_iterator : yX10_iterator.cls ≠ "java/lang/invoke/MethodHandle" ∧ yX10_iterator.cls ≠ "java/lang/invoke/VarHandle" ∧ (parseMethodDescriptor yX10_iterator.desc).map (fun d => d.parameters.length) = some 0 := by decide +kernel
theorem mX10_iterator {l : Launch} {D : va_G} {dA : Nat → ClassId} {N0 : Nat} {Y : State → Prop} (hY : gYc N0 Y) {h : gH} {sz p : Nat} {n1 : Int} (hS : h p = some (gO 9 [.ref (p + 1), vI n1])) : gM l D dA N0 Y yX10_iterator cX10_iterator 1 (some ((.object "java/util/Iterator"))) 2 41 1 2 [.ref p] (h) sz (gP (some (.ref sz)) (gup h sz (gO 10 [vI n1, .ref p])) (sz + 1)) := by
  refine gM.of hY.ok (by decide +kernel) (Nat.le_of_ble_eq_true rfl) ?_
  intro X hX C hQ
  subst hX
  have C : gC X cX10_iterator RX10 "iterator" 1 (some ((.object "java/util/Iterator"))) D dA N0 Y ({ frames := 2, cells := 1, slots := 2, locals := 41 }) := C
  show G X 0 0 _ _ 0 [some (.ref p)] []
  refine g_ex (P := p < sz) (fun hb _ => (hb _ _ hS).2) C (fun hps => ?_)
  refine g_new C (ci := 10) (fs := [vI 0, .null]) rfl in_X11 tyX11 tyX11_ok q1017 q1018 q94 (by decide +kernel) ⟨Nat.le_of_ble_eq_true rfl, Nat.le_of_ble_eq_true rfl⟩ dX10_iterator_0 (fun _ => ?_)
  refine g_dup C dX10_iterator_3 rfl ?_
  refine g_aload_n C dX10_iterator_4 (gr _) rfl ?_
  refine g_callIN0z C (mX11_init hY (hS) (by omega)) (lw_meth q1021) (gtok hY C q1019 rfl) q94 q1020 rfl nd_X11_init ⟨by decide, by decide⟩ ⟨Nat.le_of_ble_eq_true rfl, Nat.le_of_ble_eq_true rfl⟩ rfl (Nat.le_of_ble_eq_true rfl) dX10_iterator_5 ?_
  refine g_widen (k' := 1) (n' := 2) (Nat.le_of_ble_eq_true rfl) (Nat.le_of_ble_eq_true rfl) ?_
  exact g_aret C hQ rfl (Or.inl ⟨_, rfl⟩) (gr _) dX10_iterator_8 ⟨rfl, rfl, rfl⟩
