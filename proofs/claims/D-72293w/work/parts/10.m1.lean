/-! THE REFERENCE: small methods -/
set_option maxRecDepth 100000

theorem gv {a b : Int} (h : a = b) : some (vI a) = some (vI b) := by rw [h]
theorem gz {a b : Bool} (h : a = b) : some (vI (bI a)) = some (vI (bI b)) := by rw [h]
def inB (v a b : Int) : Bool := decide (a ≤ v ∧ v ≤ b)
theorem inB_t {v a b : Int} : inB v a b = true ↔ a ≤ v ∧ v ≤ b := by simp [inB]
theorem inB_f {v a b : Int} : inB v a b = false ↔ v < a ∨ b < v := by
  simp only [inB, decide_eq_false_iff_not]; omega
theorem cmpI_neg {a b : Int} : cmpI a b < 0 ↔ a < b := by unfold cmpI; split <;> (try split) <;> omega
theorem cmpI_pos {a b : Int} : 0 < cmpI a b ↔ b < a := by unfold cmpI; split <;> (try split) <;> omega
theorem cmpI_rg (a b : Int) : -1 ≤ cmpI a b ∧ cmpI a b ≤ 1 := by unfold cmpI; split <;> (try split) <;> omega

theorem nd_X5_in : yX5_in.cls ≠ "java/lang/invoke/MethodHandle" ∧ yX5_in.cls ≠ "java/lang/invoke/VarHandle" ∧ (parseMethodDescriptor yX5_in.desc).map (fun d => d.parameters.length) = some 3 := by decide +kernel
theorem mX5_in {l : Launch} {D : va_G} {dA : Nat → ClassId} {N0 : Nat} {Y : State → Prop} (hY : gYok N0 Y) {h : gH} {sz : Nat} {a b c : Int} (hr : (-9223372036854775808 ≤ a ∧ a ≤ 9223372036854775807) ∧ (-9223372036854775808 ≤ b ∧ b ≤ 9223372036854775807) ∧ -9223372036854775808 ≤ c ∧ c ≤ 9223372036854775807) : gM l D dA N0 Y yX5_in cX5_in 6 (some .boolean) 0 0 0 0 [vL a, vL b, vL c] (h) sz (gP (some (vI (bI (inB a b c)))) h sz) := by
  refine gM.of hY (by decide +kernel) (Nat.le_of_ble_eq_true rfl) ?_
  intro X hX C hQ
  subst hX
  have C : gC X cX5_in RX5 "in" 6 (some .boolean) D dA N0 Y ({ frames := 0, cells := 0, slots := 0, locals := 0 }) := C
  show G X 0 0 _ _ 0 [some (vL a), none, some (vL b), none, some (vL c), none] []
  have r1 := cmpI_rg a b
  have r2 := cmpI_rg a c
  refine g_lload_nz C dX5_in_0 rfl ?_
  refine g_lload_nz C dX5_in_1 rfl ?_
  refine g_lcmpz C dX5_in_2 (by omega) ?_
  refine g_if_lt C (tgt := 17) dX5_in_3 (by decide) (by omega) (fun c1 => ?_) (fun c1 => ?_)
  · refine g_iconst C dX5_in_17 ?_
    refine g_topv (v' := vI (bI false)) rfl ?_
    exact g_zret C hQ rfl dX5_in_18 ⟨gz (by rw [cmpI_neg] at c1; rw [eq_comm, inB_f]; omega), rfl, rfl⟩
  · refine g_lload_nz C dX5_in_6 rfl ?_
    refine g_lloadz C dX5_in_7 rfl ?_
    refine g_lcmpz C dX5_in_9 (by omega) ?_
    refine g_if_gt C (tgt := 17) dX5_in_10 (by decide) (by omega) (fun c2 => ?_) (fun c2 => ?_)
    · refine g_iconst C dX5_in_17 ?_
      refine g_topv (v' := vI (bI false)) rfl ?_
      exact g_zret C hQ rfl dX5_in_18 ⟨gz (by rw [cmpI_pos] at c2; rw [eq_comm, inB_f]; omega), rfl, rfl⟩
    · refine g_iconst C dX5_in_13 ?_
      refine g_goto C (tgt := 18) dX5_in_14 (by decide) ?_
      refine g_topv (v' := vI (bI true)) rfl ?_
      exact g_zret C hQ rfl dX5_in_18 ⟨gz (by have q1 := mt cmpI_neg.mpr (Int.not_lt.mpr c1); have q2 := mt cmpI_pos.mpr (Int.not_lt.mpr c2); rw [eq_comm, inB_t]; omega), rfl, rfl⟩

theorem nd_X5_has : yX5_has.cls ≠ "java/lang/invoke/MethodHandle" ∧ yX5_has.cls ≠ "java/lang/invoke/VarHandle" ∧ (parseMethodDescriptor yX5_has.desc).map (fun d => d.parameters.length) = some 2 := by decide +kernel
theorem mX5_has {l : Launch} {D : va_G} {dA : Nat → ClassId} {N0 : Nat} {Y : State → Prop} (hY : gYok N0 Y) {h : gH} {sz : Nat} {a b : Int} (hr : (0 ≤ a ∧ a < 2147483648) ∧ 0 ≤ b ∧ b ≤ 31) : gM l D dA N0 Y yX5_has cX5_has 2 (some .boolean) 0 0 0 0 [vI a, vI b] (h) sz (gP (some (vI (bI (hasB a b)))) h sz) := by
  refine gM.of hY (by decide +kernel) (Nat.le_of_ble_eq_true rfl) ?_
  intro X hX C hQ
  subst hX
  have C : gC X cX5_has RX5 "has" 2 (some .boolean) D dA N0 Y ({ frames := 0, cells := 0, slots := 0, locals := 0 }) := C
  show G X 0 0 _ _ 0 [some (vI a), some (vI b)] []
  refine g_iload_n C dX5_has_0 (gi _) rfl ?_
  refine g_iload_n C dX5_has_1 (gi _) rfl ?_
  refine g_ishr C dX5_has_2 (zI_shr (by omega) (by omega)) ?_
  refine g_iconst C dX5_has_3 ?_
  refine g_iand C dX5_has_4 (zI_and1 (by exact shr_rg (by omega))) ?_
  refine g_iconst C dX5_has_5 ?_
  refine g_icmp_ne C (tgt := 13) dX5_has_6 (by decide) (by have := shr_rg (a := a) (b := b) (by omega); omega) (fun c1 => ?_) (fun c1 => ?_)
  · refine g_iconst C dX5_has_13 ?_
    refine g_topv (v' := vI (bI false)) rfl ?_
    exact g_zret C hQ rfl dX5_has_14 ⟨gz (by rw [hasB_mod hr.1.1 hr.2.1] at c1; cases hh : hasB a b <;> first | rfl | (simp [hh, bI] at c1)), rfl, rfl⟩
  · refine g_iconst C dX5_has_9 ?_
    refine g_goto C (tgt := 14) dX5_has_10 (by decide) ?_
    refine g_topv (v' := vI (bI true)) rfl ?_
    exact g_zret C hQ rfl dX5_has_14 ⟨gz (by rw [hasB_mod hr.1.1 hr.2.1] at c1; cases hh : hasB a b <;> first | rfl | (simp [hh, bI] at c1)), rfl, rfl⟩

theorem nd_X5_isSmall : yX5_isSmall.cls ≠ "java/lang/invoke/MethodHandle" ∧ yX5_isSmall.cls ≠ "java/lang/invoke/VarHandle" ∧ (parseMethodDescriptor yX5_isSmall.desc).map (fun d => d.parameters.length) = some 1 := by decide +kernel
theorem mX5_isSmall {l : Launch} {D : va_G} {dA : Nat → ClassId} {N0 : Nat} {Y : State → Prop} (hY : gYok N0 Y) {h : gH} {sz : Nat} {a : Int} (hr : -2147483648 ≤ a ∧ a ≤ 2147483647) : gM l D dA N0 Y yX5_isSmall cX5_isSmall 1 (some .boolean) 1 25 0 0 [vI a] (h) sz (gP (some (vI (bI (inB a 97 122)))) h sz) := by
  refine gM.of hY (by decide +kernel) (Nat.le_of_ble_eq_true rfl) ?_
  intro X hX C hQ
  subst hX
  have C : gC X cX5_isSmall RX5 "isSmall" 1 (some .boolean) D dA N0 Y ({ frames := 1, cells := 0, slots := 0, locals := 25 }) := C
  show G X 0 0 _ _ 0 [some (vI a)] []
  refine g_iload_n C dX5_isSmall_0 (gi _) rfl ?_
  refine g_i2lz C dX5_isSmall_1 (by omega) ?_
  refine g_ldc2z C 97 (by decide +kernel) q1274 dX5_isSmall_2 ?_
  refine g_ldc2z C 122 (by decide +kernel) q1275 dX5_isSmall_5 ?_
  refine g_callS1z C (mX5_in hY (by omega)) (lw_S q1252 q1253 q72 q1254) nd_X5_in ⟨by decide, by decide⟩ ⟨Nat.le_of_ble_eq_true rfl, Nat.le_of_ble_eq_true rfl⟩ rfl (Nat.le_of_ble_eq_true rfl) dX5_isSmall_8 ?_
  exact g_zret C hQ rfl dX5_isSmall_11 ⟨rfl, rfl, rfl⟩

theorem nd_X5_isDigit : yX5_isDigit.cls ≠ "java/lang/invoke/MethodHandle" ∧ yX5_isDigit.cls ≠ "java/lang/invoke/VarHandle" ∧ (parseMethodDescriptor yX5_isDigit.desc).map (fun d => d.parameters.length) = some 1 := by decide +kernel
theorem mX5_isDigit {l : Launch} {D : va_G} {dA : Nat → ClassId} {N0 : Nat} {Y : State → Prop} (hY : gYok N0 Y) {h : gH} {sz : Nat} {a : Int} (hr : -2147483648 ≤ a ∧ a ≤ 2147483647) : gM l D dA N0 Y yX5_isDigit cX5_isDigit 1 (some .boolean) 1 25 0 0 [vI a] (h) sz (gP (some (vI (bI (inB a 48 57)))) h sz) := by
  refine gM.of hY (by decide +kernel) (Nat.le_of_ble_eq_true rfl) ?_
  intro X hX C hQ
  subst hX
  have C : gC X cX5_isDigit RX5 "isDigit" 1 (some .boolean) D dA N0 Y ({ frames := 1, cells := 0, slots := 0, locals := 25 }) := C
  show G X 0 0 _ _ 0 [some (vI a)] []
  refine g_iload_n C dX5_isDigit_0 (gi _) rfl ?_
  refine g_i2lz C dX5_isDigit_1 (by omega) ?_
  refine g_ldc2z C 48 (by decide +kernel) q1279 dX5_isDigit_2 ?_
  refine g_ldc2z C 57 (by decide +kernel) q1280 dX5_isDigit_5 ?_
  refine g_callS1z C (mX5_in hY (by omega)) (lw_S q1252 q1253 q72 q1254) nd_X5_in ⟨by decide, by decide⟩ ⟨Nat.le_of_ble_eq_true rfl, Nat.le_of_ble_eq_true rfl⟩ rfl (Nat.le_of_ble_eq_true rfl) dX5_isDigit_8 ?_
  exact g_zret C hQ rfl dX5_isDigit_11 ⟨rfl, rfl, rfl⟩

theorem nd_X5_isSpool : yX5_isSpool.cls ≠ "java/lang/invoke/MethodHandle" ∧ yX5_isSpool.cls ≠ "java/lang/invoke/VarHandle" ∧ (parseMethodDescriptor yX5_isSpool.desc).map (fun d => d.parameters.length) = some 1 := by decide +kernel
theorem mX5_isSpool {l : Launch} {D : va_G} {dA : Nat → ClassId} {N0 : Nat} {Y : State → Prop} (hY : gYok N0 Y) {h : gH} {sz : Nat} {a : Int} (hr : -2147483648 ≤ a ∧ a ≤ 2147483647) : gM l D dA N0 Y yX5_isSpool cX5_isSpool 1 (some .boolean) 1 25 0 0 [vI a] (h) sz (gP (some (vI (bI (inB a 0 2)))) h sz) := by
  refine gM.of hY (by decide +kernel) (Nat.le_of_ble_eq_true rfl) ?_
  intro X hX C hQ
  subst hX
  have C : gC X cX5_isSpool RX5 "isSpool" 1 (some .boolean) D dA N0 Y ({ frames := 1, cells := 0, slots := 0, locals := 25 }) := C
  show G X 0 0 _ _ 0 [some (vI a)] []
  refine g_iload_n C dX5_isSpool_0 (gi _) rfl ?_
  refine g_i2lz C dX5_isSpool_1 (by omega) ?_
  refine g_lconstz C 0 rfl dX5_isSpool_2 ?_
  refine g_ldc2z C 2 (by decide +kernel) q1479 dX5_isSpool_3 ?_
  refine g_callS1z C (mX5_in hY (by omega)) (lw_S q1252 q1253 q72 q1254) nd_X5_in ⟨by decide, by decide⟩ ⟨Nat.le_of_ble_eq_true rfl, Nat.le_of_ble_eq_true rfl⟩ rfl (Nat.le_of_ble_eq_true rfl) dX5_isSpool_6 ?_
  exact g_zret C hQ rfl dX5_isSpool_9 ⟨rfl, rfl, rfl⟩

theorem nd_X5_isEnd : yX5_isEnd.cls ≠ "java/lang/invoke/MethodHandle" ∧ yX5_isEnd.cls ≠ "java/lang/invoke/VarHandle" ∧ (parseMethodDescriptor yX5_isEnd.desc).map (fun d => d.parameters.length) = some 1 := by decide +kernel
theorem mX5_isEnd {l : Launch} {D : va_G} {dA : Nat → ClassId} {N0 : Nat} {Y : State → Prop} (hY : gYok N0 Y) {h : gH} {sz m : Nat} {S : MS} {a : Int} (hr : (-2147483648 ≤ a ∧ a ≤ 2147483647) ∧ 0 ≤ S 0 0 ∧ S 0 0 ≤ 12) : gM l D dA N0 Y yX5_isEnd cX5_isEnd 2 (some .boolean) 1 25 0 0 [.ref m, vI a] (ovM dA m S h) sz (gP (some (vI (bI (inB a 0 (S 0 0 - 1))))) (ovM dA m S h) sz) := by
  refine gM.of hY (by decide +kernel) (Nat.le_of_ble_eq_true rfl) ?_
  intro X hX C hQ
  subst hX
  have C : gC X cX5_isEnd RX5 "isEnd" 2 (some .boolean) D dA N0 Y ({ frames := 1, cells := 0, slots := 0, locals := 25 }) := C
  show G X 0 0 _ _ 0 [some (.ref m), some (vI a)] []
  refine g_iload_n C dX5_isEnd_0 (gi _) rfl ?_
  refine g_i2lz C dX5_isEnd_1 (by omega) ?_
  refine g_lconstz C 0 rfl dX5_isEnd_2 ?_
  refine g_aload_n C dX5_isEnd_3 (gr _) rfl ?_
  refine M_g_row C q1191 dX5_isEnd_4 ?_
  refine g_iconst C dX5_isEnd_7 ?_
  refine M_ld_row C (by omega) dX5_isEnd_8 ?_
  refine g_iconst C dX5_isEnd_9 ?_
  refine g_isub C dX5_isEnd_10 ?_
  refine g_i2lz C dX5_isEnd_11 (by omega) ?_
  refine g_callS1z C (mX5_in hY (by omega)) (lw_S q1252 q1253 q72 q1254) nd_X5_in ⟨by decide, by decide⟩ ⟨Nat.le_of_ble_eq_true rfl, Nat.le_of_ble_eq_true rfl⟩ rfl (Nat.le_of_ble_eq_true rfl) dX5_isEnd_12 ?_
  exact g_zret C hQ rfl dX5_isEnd_15 ⟨rfl, rfl, rfl⟩

theorem nd_X5_isPick : yX5_isPick.cls ≠ "java/lang/invoke/MethodHandle" ∧ yX5_isPick.cls ≠ "java/lang/invoke/VarHandle" ∧ (parseMethodDescriptor yX5_isPick.desc).map (fun d => d.parameters.length) = some 1 := by decide +kernel
theorem mX5_isPick {l : Launch} {D : va_G} {dA : Nat → ClassId} {N0 : Nat} {Y : State → Prop} (hY : gYok N0 Y) {h : gH} {sz m : Nat} {S : MS} {a : Int} (hr : (-2147483648 ≤ a ∧ a ≤ 2147483647) ∧ 0 ≤ S 0 1 ∧ S 0 1 ≤ 12) : gM l D dA N0 Y yX5_isPick cX5_isPick 2 (some .boolean) 1 25 0 0 [.ref m, vI a] (ovM dA m S h) sz (gP (some (vI (bI (inB a 0 (S 0 1 - 1))))) (ovM dA m S h) sz) := by
  refine gM.of hY (by decide +kernel) (Nat.le_of_ble_eq_true rfl) ?_
  intro X hX C hQ
  subst hX
  have C : gC X cX5_isPick RX5 "isPick" 2 (some .boolean) D dA N0 Y ({ frames := 1, cells := 0, slots := 0, locals := 25 }) := C
  show G X 0 0 _ _ 0 [some (.ref m), some (vI a)] []
  refine g_iload_n C dX5_isPick_0 (gi _) rfl ?_
  refine g_i2lz C dX5_isPick_1 (by omega) ?_
  refine g_lconstz C 0 rfl dX5_isPick_2 ?_
  refine g_aload_n C dX5_isPick_3 (gr _) rfl ?_
  refine M_g_row C q1191 dX5_isPick_4 ?_
  refine g_iconst C dX5_isPick_7 ?_
  refine M_ld_row C (by omega) dX5_isPick_8 ?_
  refine g_iconst C dX5_isPick_9 ?_
  refine g_isub C dX5_isPick_10 ?_
  refine g_i2lz C dX5_isPick_11 (by omega) ?_
  refine g_callS1z C (mX5_in hY (by omega)) (lw_S q1252 q1253 q72 q1254) nd_X5_in ⟨by decide, by decide⟩ ⟨Nat.le_of_ble_eq_true rfl, Nat.le_of_ble_eq_true rfl⟩ rfl (Nat.le_of_ble_eq_true rfl) dX5_isPick_12 ?_
  exact g_zret C hQ rfl dX5_isPick_15 ⟨rfl, rfl, rfl⟩

theorem nd_X5_isShaft : yX5_isShaft.cls ≠ "java/lang/invoke/MethodHandle" ∧ yX5_isShaft.cls ≠ "java/lang/invoke/VarHandle" ∧ (parseMethodDescriptor yX5_isShaft.desc).map (fun d => d.parameters.length) = some 1 := by decide +kernel
theorem mX5_isShaft {l : Launch} {D : va_G} {dA : Nat → ClassId} {N0 : Nat} {Y : State → Prop} (hY : gYok N0 Y) {h : gH} {sz m : Nat} {S : MS} {a : Int} (hr : (-2147483648 ≤ a ∧ a ≤ 2147483647) ∧ 0 ≤ S 0 2 ∧ S 0 2 ≤ 12) : gM l D dA N0 Y yX5_isShaft cX5_isShaft 2 (some .boolean) 1 25 0 0 [.ref m, vI a] (ovM dA m S h) sz (gP (some (vI (bI (inB a 0 (S 0 2 - 1))))) (ovM dA m S h) sz) := by
  refine gM.of hY (by decide +kernel) (Nat.le_of_ble_eq_true rfl) ?_
  intro X hX C hQ
  subst hX
  have C : gC X cX5_isShaft RX5 "isShaft" 2 (some .boolean) D dA N0 Y ({ frames := 1, cells := 0, slots := 0, locals := 25 }) := C
  show G X 0 0 _ _ 0 [some (.ref m), some (vI a)] []
  refine g_iload_n C dX5_isShaft_0 (gi _) rfl ?_
  refine g_i2lz C dX5_isShaft_1 (by omega) ?_
  refine g_lconstz C 0 rfl dX5_isShaft_2 ?_
  refine g_aload_n C dX5_isShaft_3 (gr _) rfl ?_
  refine M_g_row C q1191 dX5_isShaft_4 ?_
  refine g_iconst C dX5_isShaft_7 ?_
  refine M_ld_row C (by omega) dX5_isShaft_8 ?_
  refine g_iconst C dX5_isShaft_9 ?_
  refine g_isub C dX5_isShaft_10 ?_
  refine g_i2lz C dX5_isShaft_11 (by omega) ?_
  refine g_callS1z C (mX5_in hY (by omega)) (lw_S q1252 q1253 q72 q1254) nd_X5_in ⟨by decide, by decide⟩ ⟨Nat.le_of_ble_eq_true rfl, Nat.le_of_ble_eq_true rfl⟩ rfl (Nat.le_of_ble_eq_true rfl) dX5_isShaft_12 ?_
  exact g_zret C hQ rfl dX5_isShaft_15 ⟨rfl, rfl, rfl⟩

theorem nd_X5_isTreadle : yX5_isTreadle.cls ≠ "java/lang/invoke/MethodHandle" ∧ yX5_isTreadle.cls ≠ "java/lang/invoke/VarHandle" ∧ (parseMethodDescriptor yX5_isTreadle.desc).map (fun d => d.parameters.length) = some 1 := by decide +kernel
theorem mX5_isTreadle {l : Launch} {D : va_G} {dA : Nat → ClassId} {N0 : Nat} {Y : State → Prop} (hY : gYok N0 Y) {h : gH} {sz m : Nat} {S : MS} {a : Int} (hr : (-2147483648 ≤ a ∧ a ≤ 2147483647) ∧ 0 ≤ S 0 3 ∧ S 0 3 ≤ 12) : gM l D dA N0 Y yX5_isTreadle cX5_isTreadle 2 (some .boolean) 1 25 0 0 [.ref m, vI a] (ovM dA m S h) sz (gP (some (vI (bI (inB a 0 (S 0 3 - 1))))) (ovM dA m S h) sz) := by
  refine gM.of hY (by decide +kernel) (Nat.le_of_ble_eq_true rfl) ?_
  intro X hX C hQ
  subst hX
  have C : gC X cX5_isTreadle RX5 "isTreadle" 2 (some .boolean) D dA N0 Y ({ frames := 1, cells := 0, slots := 0, locals := 25 }) := C
  show G X 0 0 _ _ 0 [some (.ref m), some (vI a)] []
  refine g_iload_n C dX5_isTreadle_0 (gi _) rfl ?_
  refine g_i2lz C dX5_isTreadle_1 (by omega) ?_
  refine g_lconstz C 0 rfl dX5_isTreadle_2 ?_
  refine g_aload_n C dX5_isTreadle_3 (gr _) rfl ?_
  refine M_g_row C q1191 dX5_isTreadle_4 ?_
  refine g_iconst C dX5_isTreadle_7 ?_
  refine M_ld_row C (by omega) dX5_isTreadle_8 ?_
  refine g_iconst C dX5_isTreadle_9 ?_
  refine g_isub C dX5_isTreadle_10 ?_
  refine g_i2lz C dX5_isTreadle_11 (by omega) ?_
  refine g_callS1z C (mX5_in hY (by omega)) (lw_S q1252 q1253 q72 q1254) nd_X5_in ⟨by decide, by decide⟩ ⟨Nat.le_of_ble_eq_true rfl, Nat.le_of_ble_eq_true rfl⟩ rfl (Nat.le_of_ble_eq_true rfl) dX5_isTreadle_12 ?_
  exact g_zret C hQ rfl dX5_isTreadle_15 ⟨rfl, rfl, rfl⟩
