/-! THE COMPONENT: Spool.longer -/
set_option maxRecDepth 100000
def lrF (L1 : Int → Int) (n : Int) (i : Int) (y : Int × Int) : Int × Int := (y.1 + (if L1 (n - 1 - i) < y.2 then 1 else 0), L1 (n - 1 - i))
def lrV (L1 : Int → Int) (n : Int) : Int := (fo (lrF L1 n) (0, 0) n.toNat).1

theorem nd_X10_longer : yX10_longer.cls ≠ "java/lang/invoke/MethodHandle" ∧ yX10_longer.cls ≠ "java/lang/invoke/VarHandle" ∧ (parseMethodDescriptor yX10_longer.desc).map (fun d => d.parameters.length) = some 0 := by decide +kernel
theorem mX10_longer {l : Launch} {D : va_G} {dA : Nat → ClassId} {N0 : Nat} {Y : State → Prop} (hY : gYc N0 Y) {h : gH} {sz p : Nat} {n1 : Int} {L1 : Int → Int} {ad : Nat → Nat} {tc : Nat} (hZ1 : ∀ U, Y U → va_Z "java/lang/Integer$IntegerCache" "high" "I" (vI 127) (gA N0) U U.heap) (hZ2 : ∀ U, Y U → va_Z "java/lang/Integer$IntegerCache" "cache" "[Ljava/lang/Integer;" (.ref tc) (gA N0) U U.heap) (hT : ∀ U, Y U → va_T (.object "java/lang/Integer") tc 256 (fun j => .ref (ad j)) (gA N0) U U.heap) (hB : ∀ U, Y U → vb_C ad (gA N0) U U.heap) (hS : h p = some (gO 9 [.ref (p + 1), vI n1])) (hL : h (p + 1) = some (gI (dA 0) 8 L1)) (hn : 0 ≤ n1 ∧ n1 ≤ 8) (hv : ∀ j : Int, 0 ≤ j → j < n1 → 1 ≤ L1 j ∧ L1 j ≤ 99)  : gM l D dA N0 Y yX10_longer cX10_longer 5 (some .int) 3 61 1 2 [.ref p] (h) sz (gP (some (vI (lrV L1 n1))) (gup h sz (gO 10 [vI 0, .ref p])) (sz + 1)) := by
  refine gM.of hY.ok (by decide +kernel) (Nat.le_of_ble_eq_true rfl) ?_
  intro X hX C hQ
  subst hX
  have C : gC X cX10_longer RX10 "longer" 5 (some .int) D dA N0 Y ({ frames := 3, cells := 1, slots := 2, locals := 61 }) := C
  show G X 0 0 _ _ 0 [some (.ref p), none, none, none, none] []
  refine g_ex (P := p + 1 < sz ∧ p < sz) (fun hb _ => ⟨(hb _ _ hL).2, (hb _ _ hS).2⟩) C (fun hps => ?_)
  refine g_iconst C dX10_longer_0 ?_
  refine g_istore_n1001 C dX10_longer_1 (gi _) rfl ?_
  refine g_iconst C dX10_longer_2 ?_
  refine g_istore_n1002 C dX10_longer_3 (gi _) rfl ?_
  refine g_aload_n C dX10_longer_4 (gr _) rfl ?_
  refine g_callV1 C (mX10_iterator hY (hS)) (lw_V q1013 q1014 q1015 q93 q1016) ⟨rfl, nd_X10_iterator⟩ hS rfl ⟨by decide, by decide⟩ ⟨Nat.le_of_ble_eq_true rfl, Nat.le_of_ble_eq_true rfl⟩ rfl (Nat.le_of_ble_eq_true rfl) dX10_longer_5 ?_
  refine g_astore_n1003 C dX10_longer_8 (gr _) rfl ?_
  have lp9_1 : ∀ (fuel : Nat) (acc ab l1 : Int), ((0 ≤ l1 ∧ l1 ≤ n1) ∧ (acc, ab) = fo (lrF L1 n1) (0, 0) (n1 - l1).toNat ∧ (0 ≤ acc ∧ acc ≤ n1 - l1) ∧ 0 ≤ ab ∧ ab ≤ 99) → (l1).toNat < fuel → G X (0 + 1) (0 + 2) (gup h sz (gO 10 [vI l1, .ref p])) (sz + 1) 9 [some (.ref p), some (vI acc), some (vI ab), some (.ref sz), none] [] := by
    intro fuel
    induction fuel with
    | zero => intro acc ab l1 hI hfu; exact absurd hfu (Nat.not_lt_zero _)
    | succ fuel ih =>
      intro acc ab l1 hI hfu
      have ih1 := ih
      obtain ⟨hI1, hI2, hI3, hI4⟩ := hI
      refine g_aload_n C dX10_longer_9 (gr _) rfl ?_
      refine g_callF1z C (mX11_hasNext hY (gup_s _ _ _) (by omega)) (lw_F q1031 q1035 q1037 q94 q1039) ⟨gtok hY C q1033 rfl, gtok hY C q1032 rfl, gtok hY C q1038 rfl, gtok hY C q1036 rfl, gtok hY C q1034 rfl⟩ ndx_5 (gup_s _ _ _) rfl ⟨by decide, by decide⟩ ⟨Nat.le_of_ble_eq_true rfl, Nat.le_of_ble_eq_true rfl⟩ rfl (Nat.le_of_ble_eq_true rfl) dX10_longer_10 ?_
      refine g_ifeq_b C (tgt := 52) dX10_longer_15 (by decide) (fun c1 => ?_) (fun c1 => ?_)
      · have hl0 : ¬ 0 < l1 := of_decide_eq_false c1
        refine g_iload_n C dX10_longer_52 (gi _) rfl ?_
        refine g_widen (k' := 1) (n' := 2) (Nat.le_of_ble_eq_true rfl) (Nat.le_of_ble_eq_true rfl) ?_
        exact g_iret C hQ rfl dX10_longer_53 ⟨gv (by rw [lrV, ← show (n1 - l1).toNat = n1.toNat by omega, ← hI2]), by rw [show l1 = 0 by omega], rfl⟩
      · have hl1 : 0 < l1 := of_decide_eq_true c1
        have hvl := hv (l1 - 1) (by omega) (by omega)
        refine g_aload_n C dX10_longer_18 (gr _) rfl ?_
        refine g_callF1z C (mX11_next hY (hZ1) (hZ2) (hT) (hS) (hL) (by omega) (by omega) (by omega)) (lw_F q1041 q1044 q1046 q94 q1048) ⟨gtok hY C q1043 rfl, gtok hY C q1042 rfl, gtok hY C q1047 rfl, gtok hY C q1045 rfl, gtok hY C q1034 rfl⟩ ndx_6 (gup_s _ _ _) rfl ⟨by decide, by decide⟩ ⟨Nat.le_of_ble_eq_true rfl, Nat.le_of_ble_eq_true rfl⟩ rfl (Nat.le_of_ble_eq_true rfl) dX10_longer_19 ?_
        refine g_castB C hB (by omega) q1095 dX10_longer_24 ?_
        refine g_callVB1z C (mJ18_intValue hY hB (by omega)) (lw_V q1096 q591 q592 q98 q593) ⟨rfl, nd_J18_intValue⟩ hB (by omega) ⟨by decide, by decide⟩ ⟨Nat.le_of_ble_eq_true rfl, Nat.le_of_ble_eq_true rfl⟩ rfl (Nat.le_of_ble_eq_true rfl) dX10_longer_27 ?_
        refine g_top (b := L1 (l1 - 1)) (by omega) ?_
        refine g_istore1004 C dX10_longer_30 (gi _) rfl ?_
        refine g_iload_n C dX10_longer_32 (gi _) rfl ?_
        refine g_iload_n C dX10_longer_33 (gi _) rfl ?_
        refine g_iload C dX10_longer_34 (gi _) rfl ?_
        refine g_icmp_le C (tgt := 43) dX10_longer_36 (by decide) (by omega) (fun c2 => ?_) (fun c2 => ?_)
        · have hc : ¬ L1 (l1 - 1) < ab := by omega
          refine g_iconst C dX10_longer_43 ?_
          refine g_iadd C dX10_longer_44 ?_
          refine g_istore_n1001 C dX10_longer_45 (gi _) rfl ?_
          refine g_iload C dX10_longer_46 (gi _) rfl ?_
          refine g_istore_n1002 C dX10_longer_48 (gi _) rfl ?_
          refine g_goto C (tgt := 9) dX10_longer_49 (by decide) ?_
          refine g_sub (L' := [some _, some _, some _, some _, none]) ⟨rfl, ⟨rfl, ⟨rfl, ⟨rfl, trivial⟩⟩⟩⟩ ?_
          exact ih1 _ _ (l1 - 1) (⟨by omega, by rw [show n1 - (l1 - 1) = (n1 - l1) + 1 by omega, fo_s (by omega), ← hI2, lrF, show n1 - 1 - (n1 - l1) = l1 - 1 by omega]; simp only [if_neg hc], by omega, by omega⟩) (by omega)
        · have hc : L1 (l1 - 1) < ab := by omega
          refine g_iconst C dX10_longer_39 ?_
          refine g_goto C (tgt := 44) dX10_longer_40 (by decide) ?_
          refine g_iadd C dX10_longer_44 ?_
          refine g_istore_n1001 C dX10_longer_45 (gi _) rfl ?_
          refine g_iload C dX10_longer_46 (gi _) rfl ?_
          refine g_istore_n1002 C dX10_longer_48 (gi _) rfl ?_
          refine g_goto C (tgt := 9) dX10_longer_49 (by decide) ?_
          refine g_sub (L' := [some _, some _, some _, some _, none]) ⟨rfl, ⟨rfl, ⟨rfl, ⟨rfl, trivial⟩⟩⟩⟩ ?_
          exact ih1 _ _ (l1 - 1) (⟨by omega, by rw [show n1 - (l1 - 1) = (n1 - l1) + 1 by omega, fo_s (by omega), ← hI2, lrF, show n1 - 1 - (n1 - l1) = l1 - 1 by omega]; simp only [if_pos hc], by omega, by omega⟩) (by omega)
  refine g_sub (L' := [some _, some _, some _, some _, none]) ⟨rfl, ⟨rfl, ⟨rfl, ⟨rfl, trivial⟩⟩⟩⟩ ?_
  exact lp9_1 _ 0 0 n1 (⟨by omega, by rw [show n1 - n1 = 0 by omega]; rfl, by omega, by omega⟩) (Nat.lt_succ_self _)
