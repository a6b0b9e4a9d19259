/-! THE JDK: Integer.intValue of a cached box -/
set_option maxRecDepth 100000

theorem nd_J18_intValue : yJ18_intValue.cls ≠ "java/lang/invoke/MethodHandle" ∧ yJ18_intValue.cls ≠ "java/lang/invoke/VarHandle" ∧ (parseMethodDescriptor yJ18_intValue.desc).map (fun d => d.parameters.length) = some 0 := by decide +kernel
theorem mJ18_intValue {l : Launch} {D : va_G} {dA : Nat → ClassId} {N0 : Nat} {Y : State → Prop} (hY : gYc N0 Y) {h : gH} {sz y : Nat} {ad : Nat → Nat} (hB : ∀ U, Y U → vb_C ad (gA N0) U U.heap) (hy : y < 256) : gM l D dA N0 Y yJ18_intValue cJ18_intValue 1 (some .int) 0 0 0 0 [.ref (ad y)] (h) sz (gP (some (vI ((y : Int) - 128))) h sz) := by
  refine gM.ofF hY.ok (by decide +kernel) (Nat.le_of_ble_eq_true rfl) ?_
  intro X hX C hQ
  subst hX
  have C : gC X cJ18_intValue RJ18 "intValue" 1 (some .int) D dA N0 Y ({ frames := 0, cells := 0, slots := 0, locals := 0 }) := C
  show G X 0 0 _ _ 0 [some (.ref (ad y))] []
  refine g_aload_n C dJ18_intValue_0 (gr _) rfl ?_
  refine g_boxget C hB hy q1091 dJ18_intValue_1 ?_
  exact g_iret C hQ rfl dJ18_intValue_4 ⟨rfl, rfl, rfl⟩
