/-! THE JDK: Integer.intValue of a cached box -/
set_option maxRecDepth 100000

theorem nd_J18_intValue : yJ18_intValue.cls ≠ "java/lang/invoke/MethodHandle" ∧ yJ18_intValue.cls ≠ "java/lang/invoke/VarHandle" ∧ (parseMethodDescriptor yJ18_intValue.desc).map (fun d => d.parameters.length) = some 0 := by decide +kernel
theorem mJ18_intValue {l : Launch} {D : va_G} {dA : Nat → ClassId} {N0 : Nat} {Y : State → Prop} (hY : gYc N0 Y) {h : gH} {sz y : Nat} {ad : Nat → Nat} (hB : ∀ U, Y U → vb_C ad (gA N0) U U.heap) (hy : y < 256) : gM l D dA N0 Y yJ18_intValue cJ18_intValue 1 (some .int) 0 0 0 0 [.ref (ad y)] (h) sz (gP (some (vI ((y : Int) - 128))) h sz) := by
  refine gM.ofF hY.ok (by decide +kernel) (Nat.le_of_ble_eq_true rfl) ?_
  intro X hX C hQ
  subst hX
  have C : gC X cJ18_intValue RJ18 "intValue" 1 (some .int) D dA N0 Y ({ frames := 0, cells := 0, slots := 0, locals := 0 }) := C
  show G X 0 0 _ _ 0 [some (.ref (ad y))] []
  refine g_aload_n C dJ18_intValue_0 (gr _) rfl ?_
  refine g_boxget C hB hy q1091 dJ18_intValue_1 ?_
  exact g_iret C hQ rfl dJ18_intValue_4 ⟨rfl, rfl, rfl⟩

theorem nd_J18_valueOf : yJ18_valueOf.cls ≠ "java/lang/invoke/MethodHandle" ∧ yJ18_valueOf.cls ≠ "java/lang/invoke/VarHandle" ∧ (parseMethodDescriptor yJ18_valueOf.desc).map (fun d => d.parameters.length) = some 1 := by decide +kernel
theorem mJ18_valueOf {l : Launch} {D : va_G} {dA : Nat → ClassId} {N0 : Nat} {Y : State → Prop} (hY : gYc N0 Y) {h : gH} {sz : Nat} {v : Int} {ad : Nat → Nat} {tc : Nat} (hZ1 : ∀ U, Y U → va_Z "java/lang/Integer$IntegerCache" "high" "I" (vI 127) (gA N0) U U.heap) (hZ2 : ∀ U, Y U → va_Z "java/lang/Integer$IntegerCache" "cache" "[Ljava/lang/Integer;" (.ref tc) (gA N0) U U.heap) (hT : ∀ U, Y U → va_T (.object "java/lang/Integer") tc 256 (fun j => .ref (ad j)) (gA N0) U U.heap) (hv : -128 ≤ v ∧ v ≤ 127) : gM l D dA N0 Y yJ18_valueOf cJ18_valueOf 1 (some ((.object "java/lang/Integer"))) 0 0 0 0 [vI v] (h) sz (gP (some (.ref (ad (v + 128).toNat))) h sz) := by
  refine gM.ofF hY.ok (by decide +kernel) (Nat.le_of_ble_eq_true rfl) ?_
  intro X hX C hQ
  subst hX
  have C : gC X cJ18_valueOf RJ18 "valueOf" 1 (some ((.object "java/lang/Integer"))) D dA N0 Y ({ frames := 0, cells := 0, slots := 0, locals := 0 }) := C
  show G X 0 0 _ _ 0 [some (vI v)] []
  refine g_iload_n C dJ18_valueOf_0 (gi _) rfl ?_
  refine g_bipush C dJ18_valueOf_1 (by decide +kernel) ?_
  refine g_icmp_lt C (tgt := 23) dJ18_valueOf_3 (by decide) (by omega) (fun c1 => ?_) (fun c1 => ?_)
  · omega
  · refine g_iload_n C dJ18_valueOf_6 (gi _) rfl ?_
    refine g_gets C hZ1 q1079 dJ18_valueOf_7 ?_
    refine g_icmp_gt C (tgt := 23) dJ18_valueOf_10 (by decide) (by omega) (fun c2 => ?_) (fun c2 => ?_)
    · omega
    · refine g_gets C hZ2 q1081 dJ18_valueOf_13 ?_
      refine g_iload_n C dJ18_valueOf_16 (gi _) rfl ?_
      refine g_sipush C dJ18_valueOf_17 (by decide +kernel) ?_
      refine g_iadd C dJ18_valueOf_20 ?_
      refine g_tq C hT (by omega) rfl dJ18_valueOf_21 ?_
      exact g_aret C hQ rfl (Or.inl ⟨_, rfl⟩) (gr _) dJ18_valueOf_22 ⟨rfl, rfl, rfl⟩
