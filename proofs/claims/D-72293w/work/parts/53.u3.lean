/-! THE COMPONENT: a spool's sum -/
set_option maxRecDepth 100000
def smF (L1 : Int → Int) (j n : Int) : Int := n + L1 j
def smV (L1 : Int → Int) (n : Int) : Int := fo (smF L1) 0 n.toNat
theorem smV_s (L1 : Int → Int) {k : Int} (hk : 1 ≤ k) : smV L1 k = smV L1 (k - 1) + L1 (k - 1) := by
  have := fo_s (f := smF L1) (s := 0) (k := k - 1) (by omega)
  rw [show k - 1 + 1 = k by omega] at this
  exact this

theorem ndx_5 : (⟨"java/util/Iterator", "hasNext", "()Z"⟩ : MethodName).cls ≠ "java/lang/invoke/MethodHandle" ∧ (⟨"java/util/Iterator", "hasNext", "()Z"⟩ : MethodName).cls ≠ "java/lang/invoke/VarHandle" ∧ (parseMethodDescriptor "()Z").map (fun d => d.parameters.length) = some 0 := by decide +kernel
theorem ndx_6 : (⟨"java/util/Iterator", "next", "()Ljava/lang/Object;"⟩ : MethodName).cls ≠ "java/lang/invoke/MethodHandle" ∧ (⟨"java/util/Iterator", "next", "()Ljava/lang/Object;"⟩ : MethodName).cls ≠ "java/lang/invoke/VarHandle" ∧ (parseMethodDescriptor "()Ljava/lang/Object;").map (fun d => d.parameters.length) = some 0 := by decide +kernel
theorem nd_X10_sum : yX10_sum.cls ≠ "java/lang/invoke/MethodHandle" ∧ yX10_sum.cls ≠ "java/lang/invoke/VarHandle" ∧ (parseMethodDescriptor yX10_sum.desc).map (fun d => d.parameters.length) = some 0 := by decide +kernel
theorem mX10_sum {l : Launch} {D : va_G} {dA : Nat → ClassId} {N0 : Nat} {Y : State → Prop} (hY : gYc N0 Y) {h : gH} {sz p : Nat} {n1 : Int} {L1 : Int → Int} {ad : Nat → Nat} {tc : Nat} (hZ1 : ∀ U, Y U → va_Z "java/lang/Integer$IntegerCache" "high" "I" (vI 127) (gA N0) U U.heap) (hZ2 : ∀ U, Y U → va_Z "java/lang/Integer$IntegerCache" "cache" "[Ljava/lang/Integer;" (.ref tc) (gA N0) U U.heap) (hT : ∀ U, Y U → va_T (.object "java/lang/Integer") tc 256 (fun j => .ref (ad j)) (gA N0) U U.heap) (hB : ∀ U, Y U → vb_C ad (gA N0) U U.heap) (hS : h p = some (gO 9 [.ref (p + 1), vI n1])) (hL : h (p + 1) = some (gI (dA 0) 8 L1)) (hn : 0 ≤ n1 ∧ n1 ≤ 8) (hv : ∀ j : Int, 0 ≤ j → j < n1 → 1 ≤ L1 j ∧ L1 j ≤ 99)  : gM l D dA N0 Y yX10_sum cX10_sum 4 (some .int) 3 61 1 2 [.ref p] (h) sz (gP (some (vI (smV L1 n1))) (gup h sz (gO 10 [vI 0, .ref p])) (sz + 1)) := by
  refine gM.of hY.ok (by decide +kernel) (Nat.le_of_ble_eq_true rfl) ?_
  intro X hX C hQ
  subst hX
  have C : gC X cX10_sum RX10 "sum" 4 (some .int) D dA N0 Y ({ frames := 3, cells := 1, slots := 2, locals := 61 }) := C
  show G X 0 0 _ _ 0 [some (.ref p), none, none, none] []
  refine g_ex (P := p + 1 < sz ∧ p < sz) (fun hb _ => ⟨(hb _ _ hL).2, (hb _ _ hS).2⟩) C (fun hps => ?_)
  refine g_iconst C dX10_sum_0 ?_
  refine g_istore_n1001 C dX10_sum_1 (gi _) rfl ?_
  refine g_aload_n C dX10_sum_2 (gr _) rfl ?_
  refine g_callV1 C (mX10_iterator hY (hS)) (lw_V q1013 q1014 q1015 q93 q1016) ⟨rfl, nd_X10_iterator⟩ hS rfl ⟨by decide, by decide⟩ ⟨Nat.le_of_ble_eq_true rfl, Nat.le_of_ble_eq_true rfl⟩ rfl (Nat.le_of_ble_eq_true rfl) dX10_sum_3 ?_
  refine g_astore_n1002 C dX10_sum_6 (gr _) rfl ?_
  have lp7_1 : ∀ (fuel : Nat) (acc l1 : Int), ((0 ≤ l1 ∧ l1 ≤ n1) ∧ acc = smV L1 n1 - smV L1 l1) → (l1).toNat < fuel → G X (0 + 1) (0 + 2) (gup h sz (gO 10 [vI l1, .ref p])) (sz + 1) 7 [some (.ref p), some (vI acc), some (.ref sz), none] [] := by
    intro fuel
    induction fuel with
    | zero => intro acc l1 hI hfu; exact absurd hfu (Nat.not_lt_zero _)
    | succ fuel ih =>
      intro acc l1 hI hfu
      have ih1 := ih
      obtain ⟨hI1, hI2⟩ := hI
      refine g_aload_n C dX10_sum_7 (gr _) rfl ?_
      refine g_callF1z C (mX11_hasNext hY (gup_s _ _ _) (by omega)) (lw_F q1031 q1035 q1037 q94 q1039) ⟨gtok hY C q1033 rfl, gtok hY C q1032 rfl, gtok hY C q1038 rfl, gtok hY C q1036 rfl, gtok hY C q1034 rfl⟩ ndx_5 (gup_s _ _ _) rfl ⟨by decide, by decide⟩ ⟨Nat.le_of_ble_eq_true rfl, Nat.le_of_ble_eq_true rfl⟩ rfl (Nat.le_of_ble_eq_true rfl) dX10_sum_8 ?_
      refine g_ifeq_b C (tgt := 36) dX10_sum_13 (by decide) (fun c1 => ?_) (fun c1 => ?_)
      · have hl0 : ¬ 0 < l1 := of_decide_eq_false c1
        refine g_iload_n C dX10_sum_36 (gi _) rfl ?_
        refine g_widen (k' := 1) (n' := 2) (Nat.le_of_ble_eq_true rfl) (Nat.le_of_ble_eq_true rfl) ?_
        exact g_iret C hQ rfl dX10_sum_37 ⟨gv (by rw [hI2, show l1 = 0 by omega]; show smV L1 n1 - 0 = _; omega), by rw [show l1 = 0 by omega], rfl⟩
      · have hl1 : 0 < l1 := of_decide_eq_true c1
        have hvl := hv (l1 - 1) (by omega) (by omega)
        refine g_aload_n C dX10_sum_16 (gr _) rfl ?_
        refine g_callF1z C (mX11_next hY (hZ1) (hZ2) (hT) (hS) (hL) (by omega) (by omega) (by omega)) (lw_F q1041 q1044 q1046 q94 q1048) ⟨gtok hY C q1043 rfl, gtok hY C q1042 rfl, gtok hY C q1047 rfl, gtok hY C q1045 rfl, gtok hY C q1034 rfl⟩ ndx_6 (gup_s _ _ _) rfl ⟨by decide, by decide⟩ ⟨Nat.le_of_ble_eq_true rfl, Nat.le_of_ble_eq_true rfl⟩ rfl (Nat.le_of_ble_eq_true rfl) dX10_sum_17 ?_
        refine g_castB C hB (by omega) q1095 dX10_sum_22 ?_
        refine g_callVB1z C (mJ18_intValue hY hB (by omega)) (lw_V q1096 q591 q592 q98 q593) ⟨rfl, nd_J18_intValue⟩ hB (by omega) ⟨by decide, by decide⟩ ⟨Nat.le_of_ble_eq_true rfl, Nat.le_of_ble_eq_true rfl⟩ rfl (Nat.le_of_ble_eq_true rfl) dX10_sum_25 ?_
        refine g_top (b := L1 (l1 - 1)) (by omega) ?_
        refine g_istore_n1003 C dX10_sum_28 (gi _) rfl ?_
        refine g_iload_n C dX10_sum_29 (gi _) rfl ?_
        refine g_iload_n C dX10_sum_30 (gi _) rfl ?_
        refine g_iadd C dX10_sum_31 ?_
        refine g_istore_n1001 C dX10_sum_32 (gi _) rfl ?_
        refine g_goto C (tgt := 7) dX10_sum_33 (by decide) ?_
        refine g_sub (L' := [some _, some _, some _, none]) ⟨rfl, ⟨rfl, ⟨rfl, trivial⟩⟩⟩ ?_
        exact ih1 _ (l1 - 1) (⟨by omega, by rw [hI2, smV_s L1 (k := l1) (by omega)]; omega⟩) (by omega)
  refine g_sub (L' := [some _, some _, some _, none]) ⟨rfl, ⟨rfl, ⟨rfl, trivial⟩⟩⟩ ?_
  exact lp7_1 _ 0 n1 (⟨by omega, by omega⟩) (Nat.lt_succ_self _)

def lmF (L1 : Int → Int) (n : Int) (i m : Int) : Int := mxI m (L1 (n - 1 - i))
def lmV (L1 : Int → Int) (n : Int) : Int := fo (lmF L1 n) 0 n.toNat

theorem nd_X10_longest : yX10_longest.cls ≠ "java/lang/invoke/MethodHandle" ∧ yX10_longest.cls ≠ "java/lang/invoke/VarHandle" ∧ (parseMethodDescriptor yX10_longest.desc).map (fun d => d.parameters.length) = some 0 := by decide +kernel
theorem mX10_longest {l : Launch} {D : va_G} {dA : Nat → ClassId} {N0 : Nat} {Y : State → Prop} (hY : gYc N0 Y) {h : gH} {sz p : Nat} {n1 : Int} {L1 : Int → Int} {ad : Nat → Nat} {tc : Nat} (hZ1 : ∀ U, Y U → va_Z "java/lang/Integer$IntegerCache" "high" "I" (vI 127) (gA N0) U U.heap) (hZ2 : ∀ U, Y U → va_Z "java/lang/Integer$IntegerCache" "cache" "[Ljava/lang/Integer;" (.ref tc) (gA N0) U U.heap) (hT : ∀ U, Y U → va_T (.object "java/lang/Integer") tc 256 (fun j => .ref (ad j)) (gA N0) U U.heap) (hB : ∀ U, Y U → vb_C ad (gA N0) U U.heap) (hS : h p = some (gO 9 [.ref (p + 1), vI n1])) (hL : h (p + 1) = some (gI (dA 0) 8 L1)) (hn : 0 ≤ n1 ∧ n1 ≤ 8) (hv : ∀ j : Int, 0 ≤ j → j < n1 → 1 ≤ L1 j ∧ L1 j ≤ 99)  : gM l D dA N0 Y yX10_longest cX10_longest 4 (some .int) 3 61 1 2 [.ref p] (h) sz (gP (some (vI (lmV L1 n1))) (gup h sz (gO 10 [vI 0, .ref p])) (sz + 1)) := by
  refine gM.of hY.ok (by decide +kernel) (Nat.le_of_ble_eq_true rfl) ?_
  intro X hX C hQ
  subst hX
  have C : gC X cX10_longest RX10 "longest" 4 (some .int) D dA N0 Y ({ frames := 3, cells := 1, slots := 2, locals := 61 }) := C
  show G X 0 0 _ _ 0 [some (.ref p), none, none, none] []
  refine g_ex (P := p + 1 < sz ∧ p < sz) (fun hb _ => ⟨(hb _ _ hL).2, (hb _ _ hS).2⟩) C (fun hps => ?_)
  refine g_iconst C dX10_longest_0 ?_
  refine g_istore_n1001 C dX10_longest_1 (gi _) rfl ?_
  refine g_aload_n C dX10_longest_2 (gr _) rfl ?_
  refine g_callV1 C (mX10_iterator hY (hS)) (lw_V q1013 q1014 q1015 q93 q1016) ⟨rfl, nd_X10_iterator⟩ hS rfl ⟨by decide, by decide⟩ ⟨Nat.le_of_ble_eq_true rfl, Nat.le_of_ble_eq_true rfl⟩ rfl (Nat.le_of_ble_eq_true rfl) dX10_longest_3 ?_
  refine g_astore_n1002 C dX10_longest_6 (gr _) rfl ?_
  have lp7_1 : ∀ (fuel : Nat) (acc l1 : Int), ((0 ≤ l1 ∧ l1 ≤ n1) ∧ acc = fo (lmF L1 n1) 0 (n1 - l1).toNat ∧ 0 ≤ acc ∧ acc ≤ 99) → (l1).toNat < fuel → G X (0 + 1) (0 + 2) (gup h sz (gO 10 [vI l1, .ref p])) (sz + 1) 7 [some (.ref p), some (vI acc), some (.ref sz), none] [] := by
    intro fuel
    induction fuel with
    | zero => intro acc l1 hI hfu; exact absurd hfu (Nat.not_lt_zero _)
    | succ fuel ih =>
      intro acc l1 hI hfu
      have ih1 := ih
      obtain ⟨hI1, hI2, hI3⟩ := hI
      refine g_aload_n C dX10_longest_7 (gr _) rfl ?_
      refine g_callF1z C (mX11_hasNext hY (gup_s _ _ _) (by omega)) (lw_F q1031 q1035 q1037 q94 q1039) ⟨gtok hY C q1033 rfl, gtok hY C q1032 rfl, gtok hY C q1038 rfl, gtok hY C q1036 rfl, gtok hY C q1034 rfl⟩ ndx_5 (gup_s _ _ _) rfl ⟨by decide, by decide⟩ ⟨Nat.le_of_ble_eq_true rfl, Nat.le_of_ble_eq_true rfl⟩ rfl (Nat.le_of_ble_eq_true rfl) dX10_longest_8 ?_
      refine g_ifeq_b C (tgt := 38) dX10_longest_13 (by decide) (fun c1 => ?_) (fun c1 => ?_)
      · have hl0 : ¬ 0 < l1 := of_decide_eq_false c1
        refine g_iload_n C dX10_longest_38 (gi _) rfl ?_
        refine g_widen (k' := 1) (n' := 2) (Nat.le_of_ble_eq_true rfl) (Nat.le_of_ble_eq_true rfl) ?_
        exact g_iret C hQ rfl dX10_longest_39 ⟨gv (by rw [hI2, show l1 = 0 by omega, show n1 - 0 = n1 by omega]; rfl), by rw [show l1 = 0 by omega], rfl⟩
      · have hl1 : 0 < l1 := of_decide_eq_true c1
        have hvl := hv (l1 - 1) (by omega) (by omega)
        refine g_aload_n C dX10_longest_16 (gr _) rfl ?_
        refine g_callF1z C (mX11_next hY (hZ1) (hZ2) (hT) (hS) (hL) (by omega) (by omega) (by omega)) (lw_F q1041 q1044 q1046 q94 q1048) ⟨gtok hY C q1043 rfl, gtok hY C q1042 rfl, gtok hY C q1047 rfl, gtok hY C q1045 rfl, gtok hY C q1034 rfl⟩ ndx_6 (gup_s _ _ _) rfl ⟨by decide, by decide⟩ ⟨Nat.le_of_ble_eq_true rfl, Nat.le_of_ble_eq_true rfl⟩ rfl (Nat.le_of_ble_eq_true rfl) dX10_longest_17 ?_
        refine g_castB C hB (by omega) q1095 dX10_longest_22 ?_
        refine g_callVB1z C (mJ18_intValue hY hB (by omega)) (lw_V q1096 q591 q592 q98 q593) ⟨rfl, nd_J18_intValue⟩ hB (by omega) ⟨by decide, by decide⟩ ⟨Nat.le_of_ble_eq_true rfl, Nat.le_of_ble_eq_true rfl⟩ rfl (Nat.le_of_ble_eq_true rfl) dX10_longest_25 ?_
        refine g_top (b := L1 (l1 - 1)) (by omega) ?_
        refine g_istore_n1003 C dX10_longest_28 (gi _) rfl ?_
        refine g_iload_n C dX10_longest_29 (gi _) rfl ?_
        refine g_iload_n C dX10_longest_30 (gi _) rfl ?_
        refine g_mmax C q1110 q396 q79 q397 (by omega) (Nat.le_of_ble_eq_true rfl) ⟨by decide, by decide⟩ ⟨Nat.le_of_ble_eq_true rfl, Nat.le_of_ble_eq_true rfl⟩ dX10_longest_31 ?_
        refine g_istore_n1001 C dX10_longest_34 (gi _) rfl ?_
        refine g_goto C (tgt := 7) dX10_longest_35 (by decide) ?_
        refine g_sub (L' := [some _, some _, some _, none]) ⟨rfl, ⟨rfl, ⟨rfl, trivial⟩⟩⟩ ?_
        exact ih1 _ (l1 - 1) (⟨by omega, by rw [show n1 - (l1 - 1) = (n1 - l1) + 1 by omega, fo_s (by omega), ← hI2, lmF, show n1 - 1 - (n1 - l1) = l1 - 1 by omega], mxI_rg (by omega)⟩) (by omega)
  refine g_sub (L' := [some _, some _, some _, none]) ⟨rfl, ⟨rfl, ⟨rfl, trivial⟩⟩⟩ ?_
  exact lp7_1 _ 0 n1 (⟨by omega, by rw [show n1 - n1 = 0 by omega]; rfl, by omega⟩) (Nat.lt_succ_self _)
