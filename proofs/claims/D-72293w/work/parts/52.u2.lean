/-! THE COMPONENT: Unwinding.next -/
set_option maxRecDepth 100000

theorem nd_X11_next_2 : yX11_next_2.cls ≠ "java/lang/invoke/MethodHandle" ∧ yX11_next_2.cls ≠ "java/lang/invoke/VarHandle" ∧ (parseMethodDescriptor yX11_next_2.desc).map (fun d => d.parameters.length) = some 0 := by decide +kernel
theorem mX11_next_2 {l : Launch} {D : va_G} {dA : Nat → ClassId} {N0 : Nat} {Y : State → Prop} (hY : gYc N0 Y) {h : gH} {sz a p : Nat} {n1 l1 : Int} {L1 : Int → Int} {ad : Nat → Nat} {tc : Nat} (hZ1 : ∀ U, Y U → va_Z "java/lang/Integer$IntegerCache" "high" "I" (vI 127) (gA N0) U U.heap) (hZ2 : ∀ U, Y U → va_Z "java/lang/Integer$IntegerCache" "cache" "[Ljava/lang/Integer;" (.ref tc) (gA N0) U U.heap) (hT : ∀ U, Y U → va_T (.object "java/lang/Integer") tc 256 (fun j => .ref (ad j)) (gA N0) U U.heap) (hS : h p = some (gO 9 [.ref (p + 1), vI n1])) (hL : h (p + 1) = some (gI (dA 0) 8 L1)) (hpa : p ≠ a ∧ p + 1 ≠ a) (hl : 1 ≤ l1 ∧ l1 ≤ 8) (hv : -128 ≤ L1 (l1 - 1) ∧ L1 (l1 - 1) ≤ 127) : gM l D dA N0 Y yX11_next_2 cX11_next_2 1 (some ((.object "java/lang/Integer"))) 1 20 0 0 [.ref a] (gup h a (gO 10 [vI (l1), .ref p])) sz (gP (some (.ref (ad (L1 (l1 - 1) + 128).toNat))) (gup h a (gO 10 [vI (l1 - 1), .ref p])) sz) := by
  refine gM.of hY.ok (by decide +kernel) (Nat.le_of_ble_eq_true rfl) ?_
  intro X hX C hQ
  subst hX
  have C : gC X cX11_next_2 RX11 "next" 1 (some ((.object "java/lang/Integer"))) D dA N0 Y ({ frames := 1, cells := 0, slots := 0, locals := 20 }) := C
  show G X 0 0 _ _ 0 [some (.ref a)] []
  refine g_aload_n C dX11_next_2_0 (gr _) rfl ?_
  refine g_get C (gup_s _ _ _) (ci := 10) rfl in_X11 0 (by decide) q1023 (Or.inl rfl) rfl dX11_next_2_1 ?_
  refine g_if_ne C (tgt := 15) dX11_next_2_4 (by decide) (by omega) (fun c1 => ?_) (fun c1 => ?_)
  · refine g_aload_n C dX11_next_2_15 (gr _) rfl ?_
    refine g_get C (gup_s _ _ _) (ci := 10) rfl in_X11 1 (by decide) q1024 (Or.inl rfl) rfl dX11_next_2_16 ?_
    refine g_getN C ((gup_n _ _ hpa.1).trans hS) rfl in_X10 0 (by decide) (gtok hY C q990 rfl) rfl rfl dX11_next_2_19 ?_
    refine g_aload_n C dX11_next_2_22 (gr _) rfl ?_
    refine g_dup C dX11_next_2_23 rfl ?_
    refine g_get C (gup_s _ _ _) (ci := 10) rfl in_X11 0 (by decide) q1023 (Or.inl rfl) rfl dX11_next_2_24 ?_
    refine g_iconst C dX11_next_2_27 ?_
    refine g_isub C dX11_next_2_28 ?_
    refine g_dup_x1 C dX11_next_2_29 rfl rfl ?_
    refine g_put C (gup_s _ _ _) (ci := 10) rfl in_X11 0 (by decide) tyX11 tyX11_ok nmX11 q1023 (Or.inl rfl) rfl rfl rfl (Nat.le_of_ble_eq_true rfl) dX11_next_2_30 ?_
    refine g_hE (gup_gup _ _ _ _) ?_
    refine g_iald C ((gup_n _ _ hpa.2).trans hL) (by omega) dX11_next_2_33 ?_
    refine g_callS1z C (mJ18_valueOf hY (hZ1) (hZ2) (hT) (by omega)) (lw_S q1076 q1077 q98 q1078) nd_J18_valueOf ⟨by decide, by decide⟩ ⟨Nat.le_of_ble_eq_true rfl, Nat.le_of_ble_eq_true rfl⟩ rfl (Nat.le_of_ble_eq_true rfl) dX11_next_2_34 ?_
    exact g_aret C hQ rfl (Or.inl ⟨_, rfl⟩) (gr _) dX11_next_2_37 ⟨rfl, rfl, rfl⟩
  · omega

theorem nd_X11_next : yX11_next.cls ≠ "java/lang/invoke/MethodHandle" ∧ yX11_next.cls ≠ "java/lang/invoke/VarHandle" ∧ (parseMethodDescriptor yX11_next.desc).map (fun d => d.parameters.length) = some 0 := by decide +kernel
theorem mX11_next {l : Launch} {D : va_G} {dA : Nat → ClassId} {N0 : Nat} {Y : State → Prop} (hY : gYc N0 Y) {h : gH} {sz a p : Nat} {n1 l1 : Int} {L1 : Int → Int} {ad : Nat → Nat} {tc : Nat} (hZ1 : ∀ U, Y U → va_Z "java/lang/Integer$IntegerCache" "high" "I" (vI 127) (gA N0) U U.heap) (hZ2 : ∀ U, Y U → va_Z "java/lang/Integer$IntegerCache" "cache" "[Ljava/lang/Integer;" (.ref tc) (gA N0) U U.heap) (hT : ∀ U, Y U → va_T (.object "java/lang/Integer") tc 256 (fun j => .ref (ad j)) (gA N0) U U.heap) (hS : h p = some (gO 9 [.ref (p + 1), vI n1])) (hL : h (p + 1) = some (gI (dA 0) 8 L1)) (hpa : p ≠ a ∧ p + 1 ≠ a) (hl : 1 ≤ l1 ∧ l1 ≤ 8) (hv : -128 ≤ L1 (l1 - 1) ∧ L1 (l1 - 1) ≤ 127) : gM l D dA N0 Y yX11_next cX11_next 1 (some ((.object "java/lang/Object"))) 2 40 0 0 [.ref a] (gup h a (gO 10 [vI (l1), .ref p])) sz (gP (some (.ref (ad (L1 (l1 - 1) + 128).toNat))) (gup h a (gO 10 [vI (l1 - 1), .ref p])) sz) := by
  refine gM.of hY.ok (by decide +kernel) (Nat.le_of_ble_eq_true rfl) ?_
  intro X hX C hQ
  subst hX
  have C : gC X cX11_next RX11 "next" 1 (some ((.object "java/lang/Object"))) D dA N0 Y ({ frames := 2, cells := 0, slots := 0, locals := 40 }) := C
  show G X 0 0 _ _ 0 [some (.ref a)] []
  refine g_aload_n C dX11_next_0 (gr _) rfl ?_
  refine g_callV1z C (mX11_next_2 hY (hZ1) (hZ2) (hT) (hS) (hL) (hpa) (by omega) (hv)) (lw_V q1049 q1050 q1051 q94 q1052) ⟨rfl, nd_X11_next_2⟩ (gup_s _ _ _) rfl ⟨by decide, by decide⟩ ⟨Nat.le_of_ble_eq_true rfl, Nat.le_of_ble_eq_true rfl⟩ rfl (Nat.le_of_ble_eq_true rfl) dX11_next_1 ?_
  exact g_aret C hQ rfl (Or.inl ⟨_, rfl⟩) (gr _) dX11_next_4 ⟨rfl, rfl, rfl⟩
