/-! THE COMPONENT: WeaveDraft, what is seen -/
set_option maxRecDepth 100000
theorem gx {dA : Nat → ClassId} {x : Nat} {S T : MS} {P : PS} {h : gH} (e : S = T) : ovX dA x S P h = ovX dA x T P h := by rw [e]
def toldE (S : MS) (i w : Int) : Int := if w = 0 then S 0 (4 + i) else if w = 1 then S 0 (34 + i) else if w = 2 ∨ w = 3 then runU (fun k => upB S k i) (S 0 1) (decide (w = 2)) else upEnd S i
def toldP (S : MS) (q w : Int) : Int := if w = 0 then S 0 (22 + q) else if w = 1 then S 0 (46 + q) else if w = 2 ∨ w = 3 then runU (fun k => upB S q k) (S 0 0) (!decide (w = 2)) else upPick S q
def sbI (c : Int) : Int := if c < 128 then c else c - 256
theorem sb_dc : ∀ c : Nat, c < 256 → (zI (c : Int)).toInt8.toInt32 = zI (sbI c) ∧ narrow .byte (vI (sbI c)) = vI (sbI c) := by decide +kernel
theorem sb_i2b {c : Int} (h : 0 ≤ c ∧ c ≤ 255) : (zI c).toInt8.toInt32 = zI (sbI c) := by
  have := (sb_dc c.toNat (by omega)).1
  rwa [show ((c.toNat : Nat) : Int) = c by omega] at this
theorem sb_nar {c : Int} (h : 0 ≤ c ∧ c ≤ 255) : narrow .byte (vI (sbI c)) = vI (sbI c) := by
  have := (sb_dc c.toNat (by omega)).2
  rwa [show ((c.toNat : Nat) : Int) = c by omega] at this

theorem nd_X0_isEnd : yX0_isEnd.cls ≠ "java/lang/invoke/MethodHandle" ∧ yX0_isEnd.cls ≠ "java/lang/invoke/VarHandle" ∧ (parseMethodDescriptor yX0_isEnd.desc).map (fun d => d.parameters.length) = some 1 := by decide +kernel
theorem mX0_isEnd {l : Launch} {D : va_G} {dA : Nat → ClassId} {N0 : Nat} {Y : State → Prop} (hY : gYc N0 Y) {h : gH} {sz x : Nat} {S : MS} {P : PS} {a : Int} (hr : (-2147483648 ≤ a ∧ a ≤ 2147483647) ∧ 0 ≤ S 0 0 ∧ S 0 0 ≤ 12) : gM l D dA N0 Y yX0_isEnd cX0_isEnd 2 (some .boolean) 1 25 0 0 [.ref x, vI a] (ovX dA x S P h) sz (gP (some (vI (bI (inB a 0 (S 0 0 - 1))))) (ovX dA x S P h) sz) := by
  refine gM.of hY.ok (by decide +kernel) (Nat.le_of_ble_eq_true rfl) ?_
  intro X hX C hQ
  subst hX
  have C : gC X cX0_isEnd RX0 "isEnd" 2 (some .boolean) D dA N0 Y ({ frames := 1, cells := 0, slots := 0, locals := 25 }) := C
  show G X 0 0 _ _ 0 [some (.ref x), some (vI a)] []
  refine g_iload_n C dX0_isEnd_0 (gi _) rfl ?_
  refine g_i2lz C dX0_isEnd_1 (by omega) ?_
  refine g_lconstz C 0 rfl dX0_isEnd_2 ?_
  refine g_aload_n C dX0_isEnd_3 (gr _) rfl ?_
  refine X_g_now C q218 dX0_isEnd_4 ?_
  refine D_g_ends C (isX_now _ _ _ _ _) q175 dX0_isEnd_7 ?_
  refine g_iconst C dX0_isEnd_10 ?_
  refine g_isub C dX0_isEnd_11 ?_
  refine g_i2lz C dX0_isEnd_12 (by omega) ?_
  refine g_callS1z C (mX0_in hY (by omega)) (lw_S q265 q266 q67 q267) nd_X0_in ⟨by decide, by decide⟩ ⟨Nat.le_of_ble_eq_true rfl, Nat.le_of_ble_eq_true rfl⟩ rfl (Nat.le_of_ble_eq_true rfl) dX0_isEnd_13 ?_
  exact g_zret C hQ rfl dX0_isEnd_16 ⟨rfl, rfl, rfl⟩

theorem nd_X0_isPick : yX0_isPick.cls ≠ "java/lang/invoke/MethodHandle" ∧ yX0_isPick.cls ≠ "java/lang/invoke/VarHandle" ∧ (parseMethodDescriptor yX0_isPick.desc).map (fun d => d.parameters.length) = some 1 := by decide +kernel
theorem mX0_isPick {l : Launch} {D : va_G} {dA : Nat → ClassId} {N0 : Nat} {Y : State → Prop} (hY : gYc N0 Y) {h : gH} {sz x : Nat} {S : MS} {P : PS} {a : Int} (hr : (-2147483648 ≤ a ∧ a ≤ 2147483647) ∧ 0 ≤ S 0 1 ∧ S 0 1 ≤ 12) : gM l D dA N0 Y yX0_isPick cX0_isPick 2 (some .boolean) 1 25 0 0 [.ref x, vI a] (ovX dA x S P h) sz (gP (some (vI (bI (inB a 0 (S 0 1 - 1))))) (ovX dA x S P h) sz) := by
  refine gM.of hY.ok (by decide +kernel) (Nat.le_of_ble_eq_true rfl) ?_
  intro X hX C hQ
  subst hX
  have C : gC X cX0_isPick RX0 "isPick" 2 (some .boolean) D dA N0 Y ({ frames := 1, cells := 0, slots := 0, locals := 25 }) := C
  show G X 0 0 _ _ 0 [some (.ref x), some (vI a)] []
  refine g_iload_n C dX0_isPick_0 (gi _) rfl ?_
  refine g_i2lz C dX0_isPick_1 (by omega) ?_
  refine g_lconstz C 0 rfl dX0_isPick_2 ?_
  refine g_aload_n C dX0_isPick_3 (gr _) rfl ?_
  refine X_g_now C q218 dX0_isPick_4 ?_
  refine D_g_picks C (isX_now _ _ _ _ _) q179 dX0_isPick_7 ?_
  refine g_iconst C dX0_isPick_10 ?_
  refine g_isub C dX0_isPick_11 ?_
  refine g_i2lz C dX0_isPick_12 (by omega) ?_
  refine g_callS1z C (mX0_in hY (by omega)) (lw_S q265 q266 q67 q267) nd_X0_in ⟨by decide, by decide⟩ ⟨Nat.le_of_ble_eq_true rfl, Nat.le_of_ble_eq_true rfl⟩ rfl (Nat.le_of_ble_eq_true rfl) dX0_isPick_13 ?_
  exact g_zret C hQ rfl dX0_isPick_16 ⟨rfl, rfl, rfl⟩

theorem nd_X0_isShaft : yX0_isShaft.cls ≠ "java/lang/invoke/MethodHandle" ∧ yX0_isShaft.cls ≠ "java/lang/invoke/VarHandle" ∧ (parseMethodDescriptor yX0_isShaft.desc).map (fun d => d.parameters.length) = some 1 := by decide +kernel
theorem mX0_isShaft {l : Launch} {D : va_G} {dA : Nat → ClassId} {N0 : Nat} {Y : State → Prop} (hY : gYc N0 Y) {h : gH} {sz x : Nat} {S : MS} {P : PS} {a : Int} (hr : (-2147483648 ≤ a ∧ a ≤ 2147483647) ∧ 0 ≤ S 0 2 ∧ S 0 2 ≤ 12) : gM l D dA N0 Y yX0_isShaft cX0_isShaft 2 (some .boolean) 1 25 0 0 [.ref x, vI a] (ovX dA x S P h) sz (gP (some (vI (bI (inB a 0 (S 0 2 - 1))))) (ovX dA x S P h) sz) := by
  refine gM.of hY.ok (by decide +kernel) (Nat.le_of_ble_eq_true rfl) ?_
  intro X hX C hQ
  subst hX
  have C : gC X cX0_isShaft RX0 "isShaft" 2 (some .boolean) D dA N0 Y ({ frames := 1, cells := 0, slots := 0, locals := 25 }) := C
  show G X 0 0 _ _ 0 [some (.ref x), some (vI a)] []
  refine g_iload_n C dX0_isShaft_0 (gi _) rfl ?_
  refine g_i2lz C dX0_isShaft_1 (by omega) ?_
  refine g_lconstz C 0 rfl dX0_isShaft_2 ?_
  refine g_aload_n C dX0_isShaft_3 (gr _) rfl ?_
  refine X_g_now C q218 dX0_isShaft_4 ?_
  refine D_g_shafts C (isX_now _ _ _ _ _) q182 dX0_isShaft_7 ?_
  refine g_iconst C dX0_isShaft_10 ?_
  refine g_isub C dX0_isShaft_11 ?_
  refine g_i2lz C dX0_isShaft_12 (by omega) ?_
  refine g_callS1z C (mX0_in hY (by omega)) (lw_S q265 q266 q67 q267) nd_X0_in ⟨by decide, by decide⟩ ⟨Nat.le_of_ble_eq_true rfl, Nat.le_of_ble_eq_true rfl⟩ rfl (Nat.le_of_ble_eq_true rfl) dX0_isShaft_13 ?_
  exact g_zret C hQ rfl dX0_isShaft_16 ⟨rfl, rfl, rfl⟩

theorem nd_X0_isTreadle : yX0_isTreadle.cls ≠ "java/lang/invoke/MethodHandle" ∧ yX0_isTreadle.cls ≠ "java/lang/invoke/VarHandle" ∧ (parseMethodDescriptor yX0_isTreadle.desc).map (fun d => d.parameters.length) = some 1 := by decide +kernel
theorem mX0_isTreadle {l : Launch} {D : va_G} {dA : Nat → ClassId} {N0 : Nat} {Y : State → Prop} (hY : gYc N0 Y) {h : gH} {sz x : Nat} {S : MS} {P : PS} {a : Int} (hr : (-2147483648 ≤ a ∧ a ≤ 2147483647) ∧ 0 ≤ S 0 3 ∧ S 0 3 ≤ 12) : gM l D dA N0 Y yX0_isTreadle cX0_isTreadle 2 (some .boolean) 1 25 0 0 [.ref x, vI a] (ovX dA x S P h) sz (gP (some (vI (bI (inB a 0 (S 0 3 - 1))))) (ovX dA x S P h) sz) := by
  refine gM.of hY.ok (by decide +kernel) (Nat.le_of_ble_eq_true rfl) ?_
  intro X hX C hQ
  subst hX
  have C : gC X cX0_isTreadle RX0 "isTreadle" 2 (some .boolean) D dA N0 Y ({ frames := 1, cells := 0, slots := 0, locals := 25 }) := C
  show G X 0 0 _ _ 0 [some (.ref x), some (vI a)] []
  refine g_iload_n C dX0_isTreadle_0 (gi _) rfl ?_
  refine g_i2lz C dX0_isTreadle_1 (by omega) ?_
  refine g_lconstz C 0 rfl dX0_isTreadle_2 ?_
  refine g_aload_n C dX0_isTreadle_3 (gr _) rfl ?_
  refine X_g_now C q218 dX0_isTreadle_4 ?_
  refine D_g_treadles C (isX_now _ _ _ _ _) q185 dX0_isTreadle_7 ?_
  refine g_iconst C dX0_isTreadle_10 ?_
  refine g_isub C dX0_isTreadle_11 ?_
  refine g_i2lz C dX0_isTreadle_12 (by omega) ?_
  refine g_callS1z C (mX0_in hY (by omega)) (lw_S q265 q266 q67 q267) nd_X0_in ⟨by decide, by decide⟩ ⟨Nat.le_of_ble_eq_true rfl, Nat.le_of_ble_eq_true rfl⟩ rfl (Nat.le_of_ble_eq_true rfl) dX0_isTreadle_13 ?_
  exact g_zret C hQ rfl dX0_isTreadle_16 ⟨rfl, rfl, rfl⟩

theorem nd_X0_isSpool : yX0_isSpool.cls ≠ "java/lang/invoke/MethodHandle" ∧ yX0_isSpool.cls ≠ "java/lang/invoke/VarHandle" ∧ (parseMethodDescriptor yX0_isSpool.desc).map (fun d => d.parameters.length) = some 1 := by decide +kernel
theorem mX0_isSpool {l : Launch} {D : va_G} {dA : Nat → ClassId} {N0 : Nat} {Y : State → Prop} (hY : gYc N0 Y) {h : gH} {sz : Nat} {a : Int} (hr : -2147483648 ≤ a ∧ a ≤ 2147483647) : gM l D dA N0 Y yX0_isSpool cX0_isSpool 1 (some .boolean) 1 25 0 0 [vI a] (h) sz (gP (some (vI (bI (inB a 0 2)))) h sz) := by
  refine gM.of hY.ok (by decide +kernel) (Nat.le_of_ble_eq_true rfl) ?_
  intro X hX C hQ
  subst hX
  have C : gC X cX0_isSpool RX0 "isSpool" 1 (some .boolean) D dA N0 Y ({ frames := 1, cells := 0, slots := 0, locals := 25 }) := C
  show G X 0 0 _ _ 0 [some (vI a)] []
  refine g_iload_n C dX0_isSpool_0 (gi _) rfl ?_
  refine g_i2lz C dX0_isSpool_1 (by omega) ?_
  refine g_lconstz C 0 rfl dX0_isSpool_2 ?_
  refine g_ldc2z C 2 (by decide +kernel) q983 dX0_isSpool_3 ?_
  refine g_callS1z C (mX0_in hY (by omega)) (lw_S q265 q266 q67 q267) nd_X0_in ⟨by decide, by decide⟩ ⟨Nat.le_of_ble_eq_true rfl, Nat.le_of_ble_eq_true rfl⟩ rfl (Nat.le_of_ble_eq_true rfl) dX0_isSpool_6 ?_
  exact g_zret C hQ rfl dX0_isSpool_9 ⟨rfl, rfl, rfl⟩

theorem nd_X0_erase : yX0_erase.cls ≠ "java/lang/invoke/MethodHandle" ∧ yX0_erase.cls ≠ "java/lang/invoke/VarHandle" ∧ (parseMethodDescriptor yX0_erase.desc).map (fun d => d.parameters.length) = some 0 := by decide +kernel
theorem mX0_erase {l : Launch} {D : va_G} {dA : Nat → ClassId} {N0 : Nat} {Y : State → Prop} (hY : gYc N0 Y) {h : gH} {sz x : Nat} {S : MS} {P : PS}  : gM l D dA N0 Y yX0_erase cX0_erase 2 (some .int) 0 0 0 0 [.ref x] (ovX dA x S P h) sz (gP (some (vI (S 10 3))) (ovX dA x (us S 10 3 0) P h) sz) := by
  refine gM.of hY.ok (by decide +kernel) (Nat.le_of_ble_eq_true rfl) ?_
  intro X hX C hQ
  subst hX
  have C : gC X cX0_erase RX0 "erase" 2 (some .int) D dA N0 Y ({ frames := 0, cells := 0, slots := 0, locals := 0 }) := C
  show G X 0 0 _ _ 0 [some (.ref x), none] []
  refine g_aload_n C dX0_erase_0 (gr _) rfl ?_
  refine X_g_letters C q234 dX0_erase_1 ?_
  refine g_istore_n1001 C dX0_erase_4 (gi _) rfl ?_
  refine g_aload_n C dX0_erase_5 (gr _) rfl ?_
  refine g_iconst C dX0_erase_6 ?_
  refine X_p_letters C q234 dX0_erase_7 ?_
  refine g_iload_n C dX0_erase_10 (gi _) rfl ?_
  exact g_iret C hQ rfl dX0_erase_11 ⟨rfl, rfl, rfl⟩

theorem nd_X0_write : yX0_write.cls ≠ "java/lang/invoke/MethodHandle" ∧ yX0_write.cls ≠ "java/lang/invoke/VarHandle" ∧ (parseMethodDescriptor yX0_write.desc).map (fun d => d.parameters.length) = some 1 := by decide +kernel
theorem mX0_write {l : Launch} {D : va_G} {dA : Nat → ClassId} {N0 : Nat} {Y : State → Prop} (hY : gYc N0 Y) {h : gH} {sz x : Nat} {S : MS} {P : PS} {c : Int} (hrc : -2147483648 ≤ c ∧ c ≤ 2147483647) (hl : 0 ≤ S 10 3 ∧ S 10 3 ≤ 200) : gM l D dA N0 Y yX0_write cX0_write 2 (some .int) 1 25 0 0 [.ref x, vI c] (ovX dA x S P h) sz (gP (some (vI (writeV S c))) (ovX dA x (if inB c 0 255 = false then S else if S 10 3 = 200 then S else us (us S 10 3 (S 10 3 + 1)) 3 (S 10 3) (sbI c)) P h) sz) := by
  refine gM.of hY.ok (by decide +kernel) (Nat.le_of_ble_eq_true rfl) ?_
  intro X hX C hQ
  subst hX
  have C : gC X cX0_write RX0 "write" 2 (some .int) D dA N0 Y ({ frames := 1, cells := 0, slots := 0, locals := 25 }) := C
  show G X 0 0 _ _ 0 [some (.ref x), some (vI c)] []
  refine g_iload_n C dX0_write_0 (gi _) rfl ?_
  refine g_i2lz C dX0_write_1 (by omega) ?_
  refine g_lconstz C 0 rfl dX0_write_2 ?_
  refine g_ldc2z C 255 (by decide +kernel) q264 dX0_write_3 ?_
  refine g_callS1z C (mX0_in hY (by omega)) (lw_S q265 q266 q67 q267) nd_X0_in ⟨by decide, by decide⟩ ⟨Nat.le_of_ble_eq_true rfl, Nat.le_of_ble_eq_true rfl⟩ rfl (Nat.le_of_ble_eq_true rfl) dX0_write_6 ?_
  refine g_ifne_b C (tgt := 15) dX0_write_9 (by decide) (fun c1 => ?_) (fun c1 => ?_)
  · have hi := inB_t.mp c1
    have hi0 : ¬ inB c 0 255 = false := by rw [c1]; decide
    refine g_aload_n C dX0_write_15 (gr _) rfl ?_
    refine X_g_letters C q234 dX0_write_16 ?_
    refine g_aload_n C dX0_write_19 (gr _) rfl ?_
    refine X_g_text C q232 dX0_write_20 ?_
    refine X_alen_text C dX0_write_23 ?_
    refine g_icmp_ne C (tgt := 30) dX0_write_24 (by decide) (by omega) (fun c2 => ?_) (fun c2 => ?_)
    · have h2 := c2
      refine g_aload_n C dX0_write_30 (gr _) rfl ?_
      refine X_g_text C q232 dX0_write_31 ?_
      refine g_aload_n C dX0_write_34 (gr _) rfl ?_
      refine g_dup C dX0_write_35 rfl ?_
      refine X_g_letters C q234 dX0_write_36 ?_
      refine g_dup_x1 C dX0_write_39 rfl rfl ?_
      refine g_iconst C dX0_write_40 ?_
      refine g_iadd C dX0_write_41 ?_
      refine X_p_letters C q234 dX0_write_42 ?_
      refine g_iload_n C dX0_write_45 (gi _) rfl ?_
      refine g_i2b C dX0_write_46 (sb_i2b (by omega)) ?_
      refine X_st_text C (sb_nar (by omega)) (by omega) dX0_write_47 ?_
      refine g_aload_n C dX0_write_48 (gr _) rfl ?_
      refine X_g_letters C q234 dX0_write_49 ?_
      exact g_iret C hQ rfl dX0_write_52 ⟨gv (by rw [writeV, if_neg hi0, if_neg (by omega), us_n _ _ _ (by omega), us_s, uI_s]), gx (by rw [if_neg hi0, if_neg (by omega)]), rfl⟩
    · have h2 := c2
      refine g_bipush C dX0_write_27 (by decide +kernel) ?_
      exact g_iret C hQ rfl dX0_write_29 ⟨gv (by rw [writeV, if_neg hi0, if_pos (by omega)]), gx (by rw [if_neg hi0, if_pos (by omega)]), rfl⟩
  · have hi0 : inB c 0 255 = false := c1
    refine g_bipush C dX0_write_12 (by decide +kernel) ?_
    exact g_iret C hQ rfl dX0_write_14 ⟨gv (by rw [writeV, if_pos hi0]), gx (by rw [if_pos hi0]), rfl⟩

theorem nd_X0_treadle : yX0_treadle.cls ≠ "java/lang/invoke/MethodHandle" ∧ yX0_treadle.cls ≠ "java/lang/invoke/VarHandle" ∧ (parseMethodDescriptor yX0_treadle.desc).map (fun d => d.parameters.length) = some 1 := by decide +kernel
theorem mX0_treadle {l : Launch} {D : va_G} {dA : Nat → ClassId} {N0 : Nat} {Y : State → Prop} (hY : gYc N0 Y) {h : gH} {sz x : Nat} {S : MS} {P : PS} {j : Int} (hO : OkD (S 0)) (hrj : -2147483648 ≤ j ∧ j ≤ 2147483647)  : gM l D dA N0 Y yX0_treadle cX0_treadle 2 (some .int) 2 46 0 0 [.ref x, vI j] (ovX dA x S P h) sz (gP (some (vI (treadleV S j))) (ovX dA x S P h) sz) := by
  refine gM.of hY.ok (by decide +kernel) (Nat.le_of_ble_eq_true rfl) ?_
  intro X hX C hQ
  subst hX
  have C : gC X cX0_treadle RX0 "treadle" 2 (some .int) D dA N0 Y ({ frames := 2, cells := 0, slots := 0, locals := 46 }) := C
  show G X 0 0 _ _ 0 [some (.ref x), some (vI j)] []
  have hn := hO.1
  refine g_aload_n C dX0_treadle_0 (gr _) rfl ?_
  refine g_iload_n C dX0_treadle_1 (gi _) rfl ?_
  refine g_callV1z C (mX0_isTreadle hY (by omega)) (lw_V q807 q809 qs12 q67 q810) ⟨rfl, nd_X0_isTreadle⟩ (ovX_0 _ _ _ _ _) rfl ⟨by decide, by decide⟩ ⟨Nat.le_of_ble_eq_true rfl, Nat.le_of_ble_eq_true rfl⟩ rfl (Nat.le_of_ble_eq_true rfl) dX0_treadle_2 ?_
  refine g_ifeq_b C (tgt := 20) dX0_treadle_5 (by decide) (fun c1 => ?_) (fun c1 => ?_)
  · refine g_bipush C dX0_treadle_20 (by decide +kernel) ?_
    exact g_iret C hQ rfl dX0_treadle_22 ⟨gv (by simp [treadleV, c1]), rfl, rfl⟩
  · have hie := inB_t.mp c1
    refine g_aload_n C dX0_treadle_8 (gr _) rfl ?_
    refine X_g_now C q218 dX0_treadle_9 ?_
    refine D_g_ties C (isX_now _ _ _ _ _) q187 dX0_treadle_12 ?_
    refine g_iload_n C dX0_treadle_15 (gi _) rfl ?_
    refine D_ld_ties C (isX_now _ _ _ _ _) (by omega) dX0_treadle_16 ?_
    refine g_goto C (tgt := 22) dX0_treadle_17 (by decide) ?_
    exact g_iret C hQ rfl dX0_treadle_22 ⟨gv (by simp [treadleV, c1]), rfl, rfl⟩

theorem nd_X0_sampled : yX0_sampled.cls ≠ "java/lang/invoke/MethodHandle" ∧ yX0_sampled.cls ≠ "java/lang/invoke/VarHandle" ∧ (parseMethodDescriptor yX0_sampled.desc).map (fun d => d.parameters.length) = some 2 := by decide +kernel
theorem mX0_sampled {l : Launch} {D : va_G} {dA : Nat → ClassId} {N0 : Nat} {Y : State → Prop} (hY : gYc N0 Y) {h : gH} {sz x : Nat} {S : MS} {P : PS} {r i : Int} (hR : OkR S) (hrr : -2147483648 ≤ r ∧ r ≤ 2147483647) (hri : -2147483648 ≤ i ∧ i ≤ 2147483647)  : gM l D dA N0 Y yX0_sampled cX0_sampled 3 (some .int) 1 21 0 0 [.ref x, vI r, vI i] (ovX dA x S P h) sz (gP (some (vI (sampledV S r i))) (ovX dA x S P h) sz) := by
  refine gM.of hY.ok (by decide +kernel) (Nat.le_of_ble_eq_true rfl) ?_
  intro X hX C hQ
  subst hX
  have C : gC X cX0_sampled RX0 "sampled" 3 (some .int) D dA N0 Y ({ frames := 1, cells := 0, slots := 0, locals := 21 }) := C
  show G X 0 0 _ _ 0 [some (.ref x), some (vI r), some (vI i)] []
  have hR0 := hR
  obtain ⟨hR1, hR2, hR3⟩ := hR0
  refine g_iload_n C dX0_sampled_0 (gi _) rfl ?_
  refine g_if_lt C (tgt := 8) dX0_sampled_1 (by decide) (by omega) (fun c1 => ?_) (fun c1 => ?_)
  · refine g_bipush C dX0_sampled_8 (by decide +kernel) ?_
    exact g_iret C hQ rfl dX0_sampled_10 ⟨gv (by rw [sampledV, if_pos (by omega)]), rfl, rfl⟩
  · refine g_iload_n C dX0_sampled_4 (gi _) rfl ?_
    refine g_if_ge C (tgt := 11) dX0_sampled_5 (by decide) (by omega) (fun c2 => ?_) (fun c2 => ?_)
    · refine g_iload_n C dX0_sampled_11 (gi _) rfl ?_
      refine g_aload_n C dX0_sampled_12 (gr _) rfl ?_
      refine X_g_rowMany C q228 dX0_sampled_13 ?_
      refine g_icmp_ge C (tgt := 27) dX0_sampled_16 (by decide) (by omega) (fun c3 => ?_) (fun c3 => ?_)
      · refine g_iconst C dX0_sampled_27 ?_
        refine g_goto C (tgt := 49) dX0_sampled_28 (by decide) ?_
        exact g_iret C hQ rfl dX0_sampled_49 ⟨gv (by rw [sampledV, if_neg (by omega), if_pos (by omega)]), rfl, rfl⟩
      · refine g_iload_n C dX0_sampled_19 (gi _) rfl ?_
        refine g_aload_n C dX0_sampled_20 (gr _) rfl ?_
        refine X_g_wide C q230 dX0_sampled_21 ?_
        refine g_icmp_lt C (tgt := 31) dX0_sampled_24 (by decide) (by omega) (fun c4 => ?_) (fun c4 => ?_)
        · have hrr := hR3 r (by omega) (by omega)
          refine g_aload_n C dX0_sampled_31 (gr _) rfl ?_
          refine X_g_rows C q225 dX0_sampled_32 ?_
          refine g_iload_n C dX0_sampled_35 (gi _) rfl ?_
          refine X_ld_rows C (by omega) dX0_sampled_36 ?_
          refine g_iload_n C dX0_sampled_37 (gi _) rfl ?_
          refine g_callS1z C (mX0_has hY (by omega)) (lw_S q918 q773 q67 q774) nd_X0_has ⟨by decide, by decide⟩ ⟨Nat.le_of_ble_eq_true rfl, Nat.le_of_ble_eq_true rfl⟩ rfl (Nat.le_of_ble_eq_true rfl) dX0_sampled_38 ?_
          refine g_ifeq_b C (tgt := 48) dX0_sampled_41 (by decide) (fun c5 => ?_) (fun c5 => ?_)
          · have hb := c5
            refine g_iconst C dX0_sampled_48 ?_
            exact g_iret C hQ rfl dX0_sampled_49 ⟨gv (by rw [sampledV, if_neg (by omega), if_neg (by omega), hb]; rfl), rfl, rfl⟩
          · have hb := c5
            refine g_iconst C dX0_sampled_44 ?_
            refine g_goto C (tgt := 49) dX0_sampled_45 (by decide) ?_
            exact g_iret C hQ rfl dX0_sampled_49 ⟨gv (by rw [sampledV, if_neg (by omega), if_neg (by omega), hb]; rfl), rfl, rfl⟩
        · refine g_iconst C dX0_sampled_27 ?_
          refine g_goto C (tgt := 49) dX0_sampled_28 (by decide) ?_
          exact g_iret C hQ rfl dX0_sampled_49 ⟨gv (by rw [sampledV, if_neg (by omega), if_pos (by omega)]), rfl, rfl⟩
    · refine g_bipush C dX0_sampled_8 (by decide +kernel) ?_
      exact g_iret C hQ rfl dX0_sampled_10 ⟨gv (by rw [sampledV, if_pos (by omega)]), rfl, rfl⟩

theorem ndx_3 : (⟨"WeaveDraft$Look", "bits", "()I"⟩ : MethodName).cls ≠ "java/lang/invoke/MethodHandle" ∧ (⟨"WeaveDraft$Look", "bits", "()I"⟩ : MethodName).cls ≠ "java/lang/invoke/VarHandle" ∧ (parseMethodDescriptor "()I").map (fun d => d.parameters.length) = some 0 := by decide +kernel
theorem nd_X0_told : yX0_told.cls ≠ "java/lang/invoke/MethodHandle" ∧ yX0_told.cls ≠ "java/lang/invoke/VarHandle" ∧ (parseMethodDescriptor yX0_told.desc).map (fun d => d.parameters.length) = some 2 := by decide +kernel
theorem mX0_told_E {l : Launch} {D : va_G} {dA : Nat → ClassId} {N0 : Nat} {Y : State → Prop} (hY : gYc N0 Y) {h : gH} {sz x b : Nat} {F : Int → Int} (hD : isD dA x b F h) (hO : OkD F) {i w : Int} (hi : 0 ≤ i ∧ i < 12) (hw : 0 ≤ w ∧ w ≤ 4) : gM l D dA N0 Y yX0_told cX0_told 2 (some .int) 4 88 0 0 [.ref (b + 4 + 2 * i.toNat), vI w] (h) sz (gP (some (vI (toldE (dS F) i w))) h sz) := by
  refine gM.of hY.ok (by decide +kernel) (Nat.le_of_ble_eq_true rfl) ?_
  intro X hX C hQ
  subst hX
  have C : gC X cX0_told RX0 "told" 2 (some .int) D dA N0 Y ({ frames := 4, cells := 0, slots := 0, locals := 88 }) := C
  show G X 0 0 _ _ 0 [some (.ref (b + 4 + 2 * i.toNat)), some (vI w)] []
  refine g_iload_n C dX0_told_0 (gi _) rfl ?_
  rcases (show w = 0 ∨ w = 1 ∨ w = 2 ∨ w = 3 ∨ (w < 0 ∨ 3 < w) by omega) with w1 | w1 | w1 | w1 | w1
  · refine g_tabIn C (off := 31) (tgt := 32) dX0_told_1 (by omega) (by omega) (by rw [w1]; rfl) (by decide) ?_
    refine g_aload_n C dX0_told_32 (gr _) rfl ?_
    refine D_gE_tied C hD (by omega) (Or.inl rfl) q135 dX0_told_33 ?_
    exact g_iret C hQ rfl dX0_told_36 ⟨gv (by rw [toldE, if_pos (by omega)]; rfl), rfl, rfl⟩
  · refine g_tabIn C (off := 36) (tgt := 37) dX0_told_1 (by omega) (by omega) (by rw [w1]; rfl) (by decide) ?_
    refine g_aload_n C dX0_told_37 (gr _) rfl ?_
    refine D_gE_colour C hD (by omega) (Or.inl rfl) q143 dX0_told_38 ?_
    exact g_iret C hQ rfl dX0_told_41 ⟨gv (by rw [toldE, if_neg (by omega), if_pos (by omega)]; rfl), rfl, rfl⟩
  · refine g_tabIn C (off := 41) (tgt := 42) dX0_told_1 (by omega) (by omega) (by rw [w1]; rfl) (by decide) ?_
    refine g_aload_n C dX0_told_42 (gr _) rfl ?_
    refine g_iload_n C dX0_told_43 (gi _) rfl ?_
    refine g_iconst C dX0_told_44 ?_
    refine g_icmp_ne C (tgt := 52) dX0_told_45 (by decide) (by omega) (fun c2 => ?_) (fun c2 => ?_)
    · refine g_iconst C dX0_told_52 ?_
      refine g_top (b := bI (decide (w = 2))) (by first | (rw [decide_eq_true (by omega)]; rfl) | (rw [decide_eq_false (by omega)]; rfl)) ?_
      refine g_callVD1z (owner := "WeaveDraft$Look") C (mX12_longest_E hY (up := decide (w = 2)) (hD) (hO) (by omega)) q742 q1560 (gtoD hY C 0 rfl) (gtoD hY C 1 rfl) (gtok hY C q736 rfl) (gtoL hY C 0 rfl) (gtoA C q741 rfl) ⟨by decide, by decide, ndx_2.2.2⟩ (isD_E hD (by omega)) rfl ⟨by decide, by decide⟩ ⟨Nat.le_of_ble_eq_true rfl, Nat.le_of_ble_eq_true rfl⟩ rfl (Nat.le_of_ble_eq_true rfl) dX0_told_53 ?_
      exact g_iret C hQ rfl dX0_told_56 ⟨gv (by rw [toldE, if_neg (by omega), if_neg (by omega), if_pos (by omega)]; rfl), rfl, rfl⟩
    · refine g_iconst C dX0_told_48 ?_
      refine g_goto C (tgt := 53) dX0_told_49 (by decide) ?_
      refine g_top (b := bI (decide (w = 2))) (by first | (rw [decide_eq_true (by omega)]; rfl) | (rw [decide_eq_false (by omega)]; rfl)) ?_
      refine g_callVD1z (owner := "WeaveDraft$Look") C (mX12_longest_E hY (up := decide (w = 2)) (hD) (hO) (by omega)) q742 q1560 (gtoD hY C 0 rfl) (gtoD hY C 1 rfl) (gtok hY C q736 rfl) (gtoL hY C 0 rfl) (gtoA C q741 rfl) ⟨by decide, by decide, ndx_2.2.2⟩ (isD_E hD (by omega)) rfl ⟨by decide, by decide⟩ ⟨Nat.le_of_ble_eq_true rfl, Nat.le_of_ble_eq_true rfl⟩ rfl (Nat.le_of_ble_eq_true rfl) dX0_told_53 ?_
      exact g_iret C hQ rfl dX0_told_56 ⟨gv (by rw [toldE, if_neg (by omega), if_neg (by omega), if_pos (by omega)]; rfl), rfl, rfl⟩
  · refine g_tabIn C (off := 41) (tgt := 42) dX0_told_1 (by omega) (by omega) (by rw [w1]; rfl) (by decide) ?_
    refine g_aload_n C dX0_told_42 (gr _) rfl ?_
    refine g_iload_n C dX0_told_43 (gi _) rfl ?_
    refine g_iconst C dX0_told_44 ?_
    refine g_icmp_ne C (tgt := 52) dX0_told_45 (by decide) (by omega) (fun c3 => ?_) (fun c3 => ?_)
    · refine g_iconst C dX0_told_52 ?_
      refine g_top (b := bI (decide (w = 2))) (by first | (rw [decide_eq_true (by omega)]; rfl) | (rw [decide_eq_false (by omega)]; rfl)) ?_
      refine g_callVD1z (owner := "WeaveDraft$Look") C (mX12_longest_E hY (up := decide (w = 2)) (hD) (hO) (by omega)) q742 q1560 (gtoD hY C 0 rfl) (gtoD hY C 1 rfl) (gtok hY C q736 rfl) (gtoL hY C 0 rfl) (gtoA C q741 rfl) ⟨by decide, by decide, ndx_2.2.2⟩ (isD_E hD (by omega)) rfl ⟨by decide, by decide⟩ ⟨Nat.le_of_ble_eq_true rfl, Nat.le_of_ble_eq_true rfl⟩ rfl (Nat.le_of_ble_eq_true rfl) dX0_told_53 ?_
      exact g_iret C hQ rfl dX0_told_56 ⟨gv (by rw [toldE, if_neg (by omega), if_neg (by omega), if_pos (by omega)]; rfl), rfl, rfl⟩
    · refine g_iconst C dX0_told_48 ?_
      refine g_goto C (tgt := 53) dX0_told_49 (by decide) ?_
      refine g_top (b := bI (decide (w = 2))) (by first | (rw [decide_eq_true (by omega)]; rfl) | (rw [decide_eq_false (by omega)]; rfl)) ?_
      refine g_callVD1z (owner := "WeaveDraft$Look") C (mX12_longest_E hY (up := decide (w = 2)) (hD) (hO) (by omega)) q742 q1560 (gtoD hY C 0 rfl) (gtoD hY C 1 rfl) (gtok hY C q736 rfl) (gtoL hY C 0 rfl) (gtoA C q741 rfl) ⟨by decide, by decide, ndx_2.2.2⟩ (isD_E hD (by omega)) rfl ⟨by decide, by decide⟩ ⟨Nat.le_of_ble_eq_true rfl, Nat.le_of_ble_eq_true rfl⟩ rfl (Nat.le_of_ble_eq_true rfl) dX0_told_53 ?_
      exact g_iret C hQ rfl dX0_told_56 ⟨gv (by rw [toldE, if_neg (by omega), if_neg (by omega), if_pos (by omega)]; rfl), rfl, rfl⟩
  · refine g_tabOut C (tgt := 57) dX0_told_1 (by omega) (by omega) (by decide) ?_
    refine g_aload_n C dX0_told_57 (gr _) rfl ?_
    refine g_callVD1z (owner := "WeaveDraft$Look") C (mX12_bits_E hY (hD) (hO) (by omega)) q788 q1560 (gtoD hY C 3 rfl) (gtoD hY C 4 rfl) (gtok hY C q783 rfl) (gtoL hY C 2 rfl) (gtoA C q786 rfl) ⟨by decide, by decide, ndx_3.2.2⟩ (isD_E hD (by omega)) rfl ⟨by decide, by decide⟩ ⟨Nat.le_of_ble_eq_true rfl, Nat.le_of_ble_eq_true rfl⟩ rfl (Nat.le_of_ble_eq_true rfl) dX0_told_58 ?_
    exact g_iret C hQ rfl dX0_told_61 ⟨gv (by rw [toldE, if_neg (by omega), if_neg (by omega), if_neg (by omega)]), rfl, rfl⟩

theorem mX0_told_P {l : Launch} {D : va_G} {dA : Nat → ClassId} {N0 : Nat} {Y : State → Prop} (hY : gYc N0 Y) {h : gH} {sz x b : Nat} {F : Int → Int} (hD : isD dA x b F h) (hO : OkD F) {i w : Int} (hi : 0 ≤ i ∧ i < 12) (hw : 0 ≤ w ∧ w ≤ 4) : gM l D dA N0 Y yX0_told cX0_told 2 (some .int) 5 109 0 0 [.ref (b + 5 + 2 * i.toNat), vI w] (h) sz (gP (some (vI (toldP (dS F) i w))) h sz) := by
  refine gM.of hY.ok (by decide +kernel) (Nat.le_of_ble_eq_true rfl) ?_
  intro X hX C hQ
  subst hX
  have C : gC X cX0_told RX0 "told" 2 (some .int) D dA N0 Y ({ frames := 5, cells := 0, slots := 0, locals := 109 }) := C
  show G X 0 0 _ _ 0 [some (.ref (b + 5 + 2 * i.toNat)), some (vI w)] []
  refine g_iload_n C dX0_told_0 (gi _) rfl ?_
  rcases (show w = 0 ∨ w = 1 ∨ w = 2 ∨ w = 3 ∨ (w < 0 ∨ 3 < w) by omega) with w1 | w1 | w1 | w1 | w1
  · refine g_tabIn C (off := 31) (tgt := 32) dX0_told_1 (by omega) (by omega) (by rw [w1]; rfl) (by decide) ?_
    refine g_aload_n C dX0_told_32 (gr _) rfl ?_
    refine D_gP_tied C hD (by omega) (Or.inl rfl) q135 dX0_told_33 ?_
    exact g_iret C hQ rfl dX0_told_36 ⟨gv (by rw [toldP, if_pos (by omega)]; rfl), rfl, rfl⟩
  · refine g_tabIn C (off := 36) (tgt := 37) dX0_told_1 (by omega) (by omega) (by rw [w1]; rfl) (by decide) ?_
    refine g_aload_n C dX0_told_37 (gr _) rfl ?_
    refine D_gP_colour C hD (by omega) (Or.inl rfl) q143 dX0_told_38 ?_
    exact g_iret C hQ rfl dX0_told_41 ⟨gv (by rw [toldP, if_neg (by omega), if_pos (by omega)]; rfl), rfl, rfl⟩
  · refine g_tabIn C (off := 41) (tgt := 42) dX0_told_1 (by omega) (by omega) (by rw [w1]; rfl) (by decide) ?_
    refine g_aload_n C dX0_told_42 (gr _) rfl ?_
    refine g_iload_n C dX0_told_43 (gi _) rfl ?_
    refine g_iconst C dX0_told_44 ?_
    refine g_icmp_ne C (tgt := 52) dX0_told_45 (by decide) (by omega) (fun c2 => ?_) (fun c2 => ?_)
    · refine g_iconst C dX0_told_52 ?_
      refine g_top (b := bI (decide (w = 2))) (by first | (rw [decide_eq_true (by omega)]; rfl) | (rw [decide_eq_false (by omega)]; rfl)) ?_
      refine g_callU1z (owner := "WeaveDraft$Look") C (mX4_longest hY (up := decide (w = 2)) (hD) (hO) (by omega)) q740 q71 (gtoD hY C 0 rfl) (gtoD hY C 1 rfl) (va_Decl.abs (gtok hY C q736 rfl)) (gselS (gtoD hY C 1 rfl) (gtok hY C q736 rfl) ⟨by decide, by decide⟩ (gtoA C q738 rfl)) q739 ⟨by decide, by decide, ndx_2.2.2⟩ (isD_P hD (by omega)) rfl ⟨by decide, by decide⟩ ⟨Nat.le_of_ble_eq_true rfl, Nat.le_of_ble_eq_true rfl⟩ rfl (Nat.le_of_ble_eq_true rfl) dX0_told_53 ?_
      exact g_iret C hQ rfl dX0_told_56 ⟨gv (by rw [toldP, if_neg (by omega), if_neg (by omega), if_pos (by omega)]; rfl), rfl, rfl⟩
    · refine g_iconst C dX0_told_48 ?_
      refine g_goto C (tgt := 53) dX0_told_49 (by decide) ?_
      refine g_top (b := bI (decide (w = 2))) (by first | (rw [decide_eq_true (by omega)]; rfl) | (rw [decide_eq_false (by omega)]; rfl)) ?_
      refine g_callU1z (owner := "WeaveDraft$Look") C (mX4_longest hY (up := decide (w = 2)) (hD) (hO) (by omega)) q740 q71 (gtoD hY C 0 rfl) (gtoD hY C 1 rfl) (va_Decl.abs (gtok hY C q736 rfl)) (gselS (gtoD hY C 1 rfl) (gtok hY C q736 rfl) ⟨by decide, by decide⟩ (gtoA C q738 rfl)) q739 ⟨by decide, by decide, ndx_2.2.2⟩ (isD_P hD (by omega)) rfl ⟨by decide, by decide⟩ ⟨Nat.le_of_ble_eq_true rfl, Nat.le_of_ble_eq_true rfl⟩ rfl (Nat.le_of_ble_eq_true rfl) dX0_told_53 ?_
      exact g_iret C hQ rfl dX0_told_56 ⟨gv (by rw [toldP, if_neg (by omega), if_neg (by omega), if_pos (by omega)]; rfl), rfl, rfl⟩
  · refine g_tabIn C (off := 41) (tgt := 42) dX0_told_1 (by omega) (by omega) (by rw [w1]; rfl) (by decide) ?_
    refine g_aload_n C dX0_told_42 (gr _) rfl ?_
    refine g_iload_n C dX0_told_43 (gi _) rfl ?_
    refine g_iconst C dX0_told_44 ?_
    refine g_icmp_ne C (tgt := 52) dX0_told_45 (by decide) (by omega) (fun c3 => ?_) (fun c3 => ?_)
    · refine g_iconst C dX0_told_52 ?_
      refine g_top (b := bI (decide (w = 2))) (by first | (rw [decide_eq_true (by omega)]; rfl) | (rw [decide_eq_false (by omega)]; rfl)) ?_
      refine g_callU1z (owner := "WeaveDraft$Look") C (mX4_longest hY (up := decide (w = 2)) (hD) (hO) (by omega)) q740 q71 (gtoD hY C 0 rfl) (gtoD hY C 1 rfl) (va_Decl.abs (gtok hY C q736 rfl)) (gselS (gtoD hY C 1 rfl) (gtok hY C q736 rfl) ⟨by decide, by decide⟩ (gtoA C q738 rfl)) q739 ⟨by decide, by decide, ndx_2.2.2⟩ (isD_P hD (by omega)) rfl ⟨by decide, by decide⟩ ⟨Nat.le_of_ble_eq_true rfl, Nat.le_of_ble_eq_true rfl⟩ rfl (Nat.le_of_ble_eq_true rfl) dX0_told_53 ?_
      exact g_iret C hQ rfl dX0_told_56 ⟨gv (by rw [toldP, if_neg (by omega), if_neg (by omega), if_pos (by omega)]; rfl), rfl, rfl⟩
    · refine g_iconst C dX0_told_48 ?_
      refine g_goto C (tgt := 53) dX0_told_49 (by decide) ?_
      refine g_top (b := bI (decide (w = 2))) (by first | (rw [decide_eq_true (by omega)]; rfl) | (rw [decide_eq_false (by omega)]; rfl)) ?_
      refine g_callU1z (owner := "WeaveDraft$Look") C (mX4_longest hY (up := decide (w = 2)) (hD) (hO) (by omega)) q740 q71 (gtoD hY C 0 rfl) (gtoD hY C 1 rfl) (va_Decl.abs (gtok hY C q736 rfl)) (gselS (gtoD hY C 1 rfl) (gtok hY C q736 rfl) ⟨by decide, by decide⟩ (gtoA C q738 rfl)) q739 ⟨by decide, by decide, ndx_2.2.2⟩ (isD_P hD (by omega)) rfl ⟨by decide, by decide⟩ ⟨Nat.le_of_ble_eq_true rfl, Nat.le_of_ble_eq_true rfl⟩ rfl (Nat.le_of_ble_eq_true rfl) dX0_told_53 ?_
      exact g_iret C hQ rfl dX0_told_56 ⟨gv (by rw [toldP, if_neg (by omega), if_neg (by omega), if_pos (by omega)]; rfl), rfl, rfl⟩
  · refine g_tabOut C (tgt := 57) dX0_told_1 (by omega) (by omega) (by decide) ?_
    refine g_aload_n C dX0_told_57 (gr _) rfl ?_
    refine g_callVD1z (owner := "WeaveDraft$Look") C (mX12_bits_P hY (hD) (hO) (by omega)) q788 q1560 (gtoD hY C 3 rfl) (gtoD hY C 4 rfl) (gtok hY C q783 rfl) (gtoL hY C 3 rfl) (gtoA C q786 rfl) ⟨by decide, by decide, ndx_3.2.2⟩ (isD_P hD (by omega)) rfl ⟨by decide, by decide⟩ ⟨Nat.le_of_ble_eq_true rfl, Nat.le_of_ble_eq_true rfl⟩ rfl (Nat.le_of_ble_eq_true rfl) dX0_told_58 ?_
    exact g_iret C hQ rfl dX0_told_61 ⟨gv (by rw [toldP, if_neg (by omega), if_neg (by omega), if_neg (by omega)]), rfl, rfl⟩

theorem toldE_V {S : MS} {i w : Int} (hi : inB i 0 (S 0 0 - 1) = true) (hw : 0 ≤ w ∧ w ≤ 4) : endV S i w = toldE S i w := by
  unfold endV toldE
  rw [if_neg (by rw [hi]; decide)]
  rcases (show w = 0 ∨ w = 1 ∨ w = 2 ∨ w = 3 ∨ w = 4 by omega) with rfl | rfl | rfl | rfl | rfl
  · rfl
  · rfl
  · exact (runU_E i true).symm
  · exact (runU_E i false).symm
  · rfl
theorem toldP_V {S : MS} {q w : Int} (hi : inB q 0 (S 0 1 - 1) = true) (hw : 0 ≤ w ∧ w ≤ 4) : pickV S q w = toldP S q w := by
  unfold pickV toldP
  rw [if_neg (by rw [hi]; decide)]
  rcases (show w = 0 ∨ w = 1 ∨ w = 2 ∨ w = 3 ∨ w = 4 by omega) with rfl | rfl | rfl | rfl | rfl
  · rfl
  · rfl
  · exact (runU_P q false).symm
  · exact (runU_P q true).symm
  · rfl

theorem nd_X0_end : yX0_end.cls ≠ "java/lang/invoke/MethodHandle" ∧ yX0_end.cls ≠ "java/lang/invoke/VarHandle" ∧ (parseMethodDescriptor yX0_end.desc).map (fun d => d.parameters.length) = some 2 := by decide +kernel
theorem mX0_end {l : Launch} {D : va_G} {dA : Nat → ClassId} {N0 : Nat} {Y : State → Prop} (hY : gYc N0 Y) {h : gH} {sz x : Nat} {S : MS} {P : PS} {i w : Int} (hO : OkD (S 0)) (hri : -2147483648 ≤ i ∧ i ≤ 2147483647) (hrw : -2147483648 ≤ w ∧ w ≤ 2147483647)  : gM l D dA N0 Y yX0_end cX0_end 3 (some .int) 5 109 0 0 [.ref x, vI i, vI w] (ovX dA x S P h) sz (gP (some (vI (endV S i w))) (ovX dA x S P h) sz) := by
  refine gM.of hY.ok (by decide +kernel) (Nat.le_of_ble_eq_true rfl) ?_
  intro X hX C hQ
  subst hX
  have C : gC X cX0_end RX0 "end" 3 (some .int) D dA N0 Y ({ frames := 5, cells := 0, slots := 0, locals := 109 }) := C
  show G X 0 0 _ _ 0 [some (.ref x), some (vI i), some (vI w)] []
  have hn := hO.1
  refine g_aload_n C dX0_end_0 (gr _) rfl ?_
  refine g_iload_n C dX0_end_1 (gi _) rfl ?_
  refine g_callV1z C (mX0_isEnd hY (by omega)) (lw_V q727 q729 qs10 q67 q730) ⟨rfl, nd_X0_isEnd⟩ (ovX_0 _ _ _ _ _) rfl ⟨by decide, by decide⟩ ⟨Nat.le_of_ble_eq_true rfl, Nat.le_of_ble_eq_true rfl⟩ rfl (Nat.le_of_ble_eq_true rfl) dX0_end_2 ?_
  refine g_ifne_b C (tgt := 11) dX0_end_5 (by decide) (fun c1 => ?_) (fun c1 => ?_)
  · have hie0 := c1
    have hie := inB_t.mp c1
    refine g_iload_n C dX0_end_11 (gi _) rfl ?_
    refine g_i2lz C dX0_end_12 (by omega) ?_
    refine g_lconstz C 0 rfl dX0_end_13 ?_
    refine g_ldc2z C 4 (by decide +kernel) q731 dX0_end_14 ?_
    refine g_callS1z C (mX0_in hY (by omega)) (lw_S q265 q266 q67 q267) nd_X0_in ⟨by decide, by decide⟩ ⟨Nat.le_of_ble_eq_true rfl, Nat.le_of_ble_eq_true rfl⟩ rfl (Nat.le_of_ble_eq_true rfl) dX0_end_17 ?_
    refine g_ifeq_b C (tgt := 39) dX0_end_20 (by decide) (fun c2 => ?_) (fun c2 => ?_)
    · have hw := inB_f.mp c2
      refine g_bipush C dX0_end_39 (by decide +kernel) ?_
      exact g_iret C hQ rfl dX0_end_41 ⟨gv (by rw [endV, if_neg (by rw [hie0]; decide)]; (repeat rw [if_neg (by omega)])), rfl, rfl⟩
    · have hw := inB_t.mp c2
      refine g_aload_n C dX0_end_23 (gr _) rfl ?_
      refine X_g_now C q218 dX0_end_24 ?_
      refine D_g_warp C (isX_now _ _ _ _ _) q189 dX0_end_27 ?_
      refine g_iload_n C dX0_end_30 (gi _) rfl ?_
      refine D_ld_warp C (isX_now _ _ _ _ _) (by omega) dX0_end_31 ?_
      refine g_iload_n C dX0_end_32 (gi _) rfl ?_
      refine g_callS1z C (mX0_told_E hY ((isX_now _ _ _ _ _)) (hO) (by omega) (by omega)) (lw_S q732 q733 q67 q734) nd_X0_told ⟨by decide, by decide⟩ ⟨Nat.le_of_ble_eq_true rfl, Nat.le_of_ble_eq_true rfl⟩ rfl (Nat.le_of_ble_eq_true rfl) dX0_end_33 ?_
      refine g_goto C (tgt := 41) dX0_end_36 (by decide) ?_
      exact g_iret C hQ rfl dX0_end_41 ⟨gv (by exact (toldE_V hie0 (by omega)).symm), rfl, rfl⟩
  · have hie0 := c1
    refine g_bipush C dX0_end_8 (by decide +kernel) ?_
    exact g_iret C hQ rfl dX0_end_10 ⟨gv (by rw [endV, if_pos hie0]), rfl, rfl⟩

theorem nd_X0_pick : yX0_pick.cls ≠ "java/lang/invoke/MethodHandle" ∧ yX0_pick.cls ≠ "java/lang/invoke/VarHandle" ∧ (parseMethodDescriptor yX0_pick.desc).map (fun d => d.parameters.length) = some 2 := by decide +kernel
theorem mX0_pick {l : Launch} {D : va_G} {dA : Nat → ClassId} {N0 : Nat} {Y : State → Prop} (hY : gYc N0 Y) {h : gH} {sz x : Nat} {S : MS} {P : PS} {q w : Int} (hO : OkD (S 0)) (hrq : -2147483648 ≤ q ∧ q ≤ 2147483647) (hrw : -2147483648 ≤ w ∧ w ≤ 2147483647)  : gM l D dA N0 Y yX0_pick cX0_pick 4 (some .int) 6 130 0 0 [.ref x, vI q, vI w] (ovX dA x S P h) sz (gP (some (vI (pickV S q w))) (ovX dA x S P h) sz) := by
  refine gM.of hY.ok (by decide +kernel) (Nat.le_of_ble_eq_true rfl) ?_
  intro X hX C hQ
  subst hX
  have C : gC X cX0_pick RX0 "pick" 4 (some .int) D dA N0 Y ({ frames := 6, cells := 0, slots := 0, locals := 130 }) := C
  show G X 0 0 _ _ 0 [some (.ref x), some (vI q), some (vI w), none] []
  have hn := hO.1
  refine g_aload_n C dX0_pick_0 (gr _) rfl ?_
  refine g_iload_n C dX0_pick_1 (gi _) rfl ?_
  refine g_callV1z C (mX0_isPick hY (by omega)) (lw_V q793 q795 qs11 q67 q796) ⟨rfl, nd_X0_isPick⟩ (ovX_0 _ _ _ _ _) rfl ⟨by decide, by decide⟩ ⟨Nat.le_of_ble_eq_true rfl, Nat.le_of_ble_eq_true rfl⟩ rfl (Nat.le_of_ble_eq_true rfl) dX0_pick_2 ?_
  refine g_ifne_b C (tgt := 11) dX0_pick_5 (by decide) (fun c1 => ?_) (fun c1 => ?_)
  · have hie0 := c1
    have hie := inB_t.mp c1
    have hst := st_rg (S := dS (S 0)) q hO
    have hsv : stV (dS (S 0)) q = stV S q := rfl
    refine g_iload_n C dX0_pick_11 (gi _) rfl ?_
    refine g_i2lz C dX0_pick_12 (by omega) ?_
    refine g_lconstz C 0 rfl dX0_pick_13 ?_
    refine g_ldc2z C 6 (by decide +kernel) q797 dX0_pick_14 ?_
    refine g_callS1z C (mX0_in hY (by omega)) (lw_S q265 q266 q67 q267) nd_X0_in ⟨by decide, by decide⟩ ⟨Nat.le_of_ble_eq_true rfl, Nat.le_of_ble_eq_true rfl⟩ rfl (Nat.le_of_ble_eq_true rfl) dX0_pick_17 ?_
    refine g_ifne_b C (tgt := 26) dX0_pick_20 (by decide) (fun c2 => ?_) (fun c2 => ?_)
    · have hw := inB_t.mp c2
      refine g_aload_n C dX0_pick_26 (gr _) rfl ?_
      refine X_g_now C q218 dX0_pick_27 ?_
      refine D_g_weft C (isX_now _ _ _ _ _) q191 dX0_pick_30 ?_
      refine g_iload_n C dX0_pick_33 (gi _) rfl ?_
      refine D_ld_weft C (isX_now _ _ _ _ _) (by omega) dX0_pick_34 ?_
      refine g_callV1z C (mX4_stitches hY ((isX_now _ _ _ _ _)) (hO) (by omega)) (lw_V q798 q799 q800 q71 q801) ⟨rfl, nd_X4_stitches⟩ (isD_P (isX_now _ _ _ _ _) (by omega)) rfl ⟨by decide, by decide⟩ ⟨Nat.le_of_ble_eq_true rfl, Nat.le_of_ble_eq_true rfl⟩ rfl (Nat.le_of_ble_eq_true rfl) dX0_pick_35 ?_
      refine g_istore_n1003 C dX0_pick_38 (gi _) rfl ?_
      refine g_iload_n C dX0_pick_39 (gi _) rfl ?_
      refine g_iconst C dX0_pick_40 ?_
      refine g_icmp_ge C (tgt := 60) dX0_pick_41 (by decide) (by omega) (fun c3 => ?_) (fun c3 => ?_)
      · refine g_iload_n C dX0_pick_60 (gi _) rfl ?_
        refine g_bipush C dX0_pick_61 (by decide +kernel) ?_
        refine g_icmp_ne C (tgt := 70) dX0_pick_63 (by decide) (by omega) (fun c4 => ?_) (fun c4 => ?_)
        · refine g_iload_n C dX0_pick_70 (gi _) rfl ?_
          refine g_if_le C (tgt := 78) dX0_pick_71 (by decide) (by omega) (fun c5 => ?_) (fun c5 => ?_)
          · refine g_iconst C dX0_pick_78 ?_
            exact g_iret C hQ rfl dX0_pick_79 ⟨gv (by rw [pickV, if_neg (by rw [hie0]; decide)]; (repeat rw [if_neg (by omega)]); first | (rw [if_pos (by omega), if_neg (by omega)]) | skip), rfl, rfl⟩
          · refine g_iconst C dX0_pick_74 ?_
            refine g_goto C (tgt := 79) dX0_pick_75 (by decide) ?_
            exact g_iret C hQ rfl dX0_pick_79 ⟨gv (by rw [pickV, if_neg (by rw [hie0]; decide), if_neg (by omega), if_neg (by omega), if_neg (by omega), if_neg (by omega), if_neg (by omega), if_pos (by omega), if_pos (by omega)]), rfl, rfl⟩
        · refine g_iload_n C dX0_pick_66 (gi _) rfl ?_
          refine g_goto C (tgt := 79) dX0_pick_67 (by decide) ?_
          exact g_iret C hQ rfl dX0_pick_79 ⟨gv (by rw [pickV, if_neg (by rw [hie0]; decide), if_neg (by omega), if_neg (by omega), if_neg (by omega), if_neg (by omega), if_neg (by omega), if_neg (by omega), if_pos (by omega)]; rfl), rfl, rfl⟩
      · refine g_aload_n C dX0_pick_44 (gr _) rfl ?_
        refine X_g_now C q218 dX0_pick_45 ?_
        refine D_g_weft C (isX_now _ _ _ _ _) q191 dX0_pick_48 ?_
        refine g_iload_n C dX0_pick_51 (gi _) rfl ?_
        refine D_ld_weft C (isX_now _ _ _ _ _) (by omega) dX0_pick_52 ?_
        refine g_iload_n C dX0_pick_53 (gi _) rfl ?_
        refine g_callS1z C (mX0_told_P hY ((isX_now _ _ _ _ _)) (hO) (by omega) (by omega)) (lw_S q732 q733 q67 q734) nd_X0_told ⟨by decide, by decide⟩ ⟨Nat.le_of_ble_eq_true rfl, Nat.le_of_ble_eq_true rfl⟩ rfl (Nat.le_of_ble_eq_true rfl) dX0_pick_54 ?_
        refine g_goto C (tgt := 79) dX0_pick_57 (by decide) ?_
        exact g_iret C hQ rfl dX0_pick_79 ⟨gv (by exact (toldP_V hie0 (by omega)).symm), rfl, rfl⟩
    · have hw := inB_f.mp c2
      refine g_bipush C dX0_pick_23 (by decide +kernel) ?_
      exact g_iret C hQ rfl dX0_pick_25 ⟨gv (by rw [pickV, if_neg (by rw [hie0]; decide)]; (repeat rw [if_neg (by omega)])), rfl, rfl⟩
  · have hie0 := c1
    refine g_bipush C dX0_pick_8 (by decide +kernel) ?_
    exact g_iret C hQ rfl dX0_pick_10 ⟨gv (by rw [pickV, if_pos hie0]), rfl, rfl⟩

theorem nd_X0_cross : yX0_cross.cls ≠ "java/lang/invoke/MethodHandle" ∧ yX0_cross.cls ≠ "java/lang/invoke/VarHandle" ∧ (parseMethodDescriptor yX0_cross.desc).map (fun d => d.parameters.length) = some 3 := by decide +kernel
theorem mX0_cross {l : Launch} {D : va_G} {dA : Nat → ClassId} {N0 : Nat} {Y : State → Prop} (hY : gYc N0 Y) {h : gH} {sz x : Nat} {S : MS} {P : PS} {q i w : Int} (hO : OkD (S 0)) (hrq : -2147483648 ≤ q ∧ q ≤ 2147483647) (hri : -2147483648 ≤ i ∧ i ≤ 2147483647) (hrw : -2147483648 ≤ w ∧ w ≤ 2147483647)  : gM l D dA N0 Y yX0_cross cX0_cross 5 (some .int) 2 46 0 0 [.ref x, vI q, vI i, vI w] (ovX dA x S P h) sz (gP (some (vI (crossV S q i w))) (ovX dA x S P h) sz) := by
  refine gM.of hY.ok (by decide +kernel) (Nat.le_of_ble_eq_true rfl) ?_
  intro X hX C hQ
  subst hX
  have C : gC X cX0_cross RX0 "cross" 5 (some .int) D dA N0 Y ({ frames := 2, cells := 0, slots := 0, locals := 46 }) := C
  show G X 0 0 _ _ 0 [some (.ref x), some (vI q), some (vI i), some (vI w), none] []
  have hn := hO.1
  refine g_aload_n C dX0_cross_0 (gr _) rfl ?_
  refine g_iload_n C dX0_cross_1 (gi _) rfl ?_
  refine g_callV1z C (mX0_isPick hY (by omega)) (lw_V q793 q795 qs11 q67 q796) ⟨rfl, nd_X0_isPick⟩ (ovX_0 _ _ _ _ _) rfl ⟨by decide, by decide⟩ ⟨Nat.le_of_ble_eq_true rfl, Nat.le_of_ble_eq_true rfl⟩ rfl (Nat.le_of_ble_eq_true rfl) dX0_cross_2 ?_
  refine g_ifeq_b C (tgt := 16) dX0_cross_5 (by decide) (fun c1 => ?_) (fun c1 => ?_)
  · have hq0 := c1
    refine g_bipush C dX0_cross_16 (by decide +kernel) ?_
    exact g_iret C hQ rfl dX0_cross_18 ⟨gv (by rw [crossV, if_pos (by first | exact Or.inl hq0 | exact Or.inr hi0)]), rfl, rfl⟩
  · have hq0 := c1
    have hqe := inB_t.mp c1
    refine g_aload_n C dX0_cross_8 (gr _) rfl ?_
    refine g_iload_n C dX0_cross_9 (gi _) rfl ?_
    refine g_callV1z C (mX0_isEnd hY (by omega)) (lw_V q727 q729 qs10 q67 q730) ⟨rfl, nd_X0_isEnd⟩ (ovX_0 _ _ _ _ _) rfl ⟨by decide, by decide⟩ ⟨Nat.le_of_ble_eq_true rfl, Nat.le_of_ble_eq_true rfl⟩ rfl (Nat.le_of_ble_eq_true rfl) dX0_cross_10 ?_
    refine g_ifne_b C (tgt := 19) dX0_cross_13 (by decide) (fun c2 => ?_) (fun c2 => ?_)
    · have hi0 := c2
      have hie := inB_t.mp c2
      refine g_iload_n C dX0_cross_19 (gi _) rfl ?_
      refine g_i2lz C dX0_cross_20 (by omega) ?_
      refine g_lconstz C 0 rfl dX0_cross_21 ?_
      refine g_lconstz C 1 rfl dX0_cross_22 ?_
      refine g_callS1z C (mX0_in hY (by omega)) (lw_S q265 q266 q67 q267) nd_X0_in ⟨by decide, by decide⟩ ⟨Nat.le_of_ble_eq_true rfl, Nat.le_of_ble_eq_true rfl⟩ rfl (Nat.le_of_ble_eq_true rfl) dX0_cross_23 ?_
      refine g_ifne_b C (tgt := 32) dX0_cross_26 (by decide) (fun c3 => ?_) (fun c3 => ?_)
      · have hw0 := c3
        have hw := inB_t.mp c3
        refine g_aload_n C dX0_cross_32 (gr _) rfl ?_
        refine X_g_now C q218 dX0_cross_33 ?_
        refine g_iload_n C dX0_cross_36 (gi _) rfl ?_
        refine g_iload_n C dX0_cross_37 (gi _) rfl ?_
        refine g_callV1z C (mX1_isUp hY ((isX_now _ _ _ _ _)) (hO) (by omega) (by omega)) (lw_V q815 q769 q770 q68 q771) ⟨rfl, nd_X1_isUp⟩ (isD_0 (isX_now _ _ _ _ _)) rfl ⟨by decide, by decide⟩ ⟨Nat.le_of_ble_eq_true rfl, Nat.le_of_ble_eq_true rfl⟩ rfl (Nat.le_of_ble_eq_true rfl) dX0_cross_38 ?_
        refine g_istore1004 C dX0_cross_41 (gi _) rfl ?_
        refine g_iload_n C dX0_cross_43 (gi _) rfl ?_
        refine g_if_ne C (tgt := 60) dX0_cross_44 (by decide) (by omega) (fun c4 => ?_) (fun c4 => ?_)
        · have hw1 := c4
          refine g_iload C dX0_cross_60 (gi _) rfl ?_
          refine g_ifeq_b C (tgt := 80) dX0_cross_62 (by decide) (fun c5 => ?_) (fun c5 => ?_)
          · have hu := c5
            refine g_aload_n C dX0_cross_80 (gr _) rfl ?_
            refine X_g_now C q218 dX0_cross_81 ?_
            refine D_g_weft C (isX_now _ _ _ _ _) q191 dX0_cross_84 ?_
            refine g_iload_n C dX0_cross_87 (gi _) rfl ?_
            refine D_ld_weft C (isX_now _ _ _ _ _) (by omega) dX0_cross_88 ?_
            refine D_gP_colour C (isX_now _ _ _ _ _) (by omega) (Or.inr q140) q142 dX0_cross_89 ?_
            exact g_iret C hQ rfl dX0_cross_92 ⟨gv (by rw [crossV, if_neg (by rw [hq0, hi0]; decide), if_neg (by rw [hw0]; decide), if_neg hw1, if_neg (by rw [show upB S q i = false from hu]; decide)]), rfl, rfl⟩
          · have hu := c5
            refine g_aload_n C dX0_cross_65 (gr _) rfl ?_
            refine X_g_now C q218 dX0_cross_66 ?_
            refine D_g_warp C (isX_now _ _ _ _ _) q189 dX0_cross_69 ?_
            refine g_iload_n C dX0_cross_72 (gi _) rfl ?_
            refine D_ld_warp C (isX_now _ _ _ _ _) (by omega) dX0_cross_73 ?_
            refine D_gE_colour C (isX_now _ _ _ _ _) (by omega) (Or.inr q138) q141 dX0_cross_74 ?_
            refine g_goto C (tgt := 92) dX0_cross_77 (by decide) ?_
            exact g_iret C hQ rfl dX0_cross_92 ⟨gv (by rw [crossV, if_neg (by rw [hq0, hi0]; decide), if_neg (by rw [hw0]; decide), if_neg hw1, if_pos (show upB S q i = true from hu)]), rfl, rfl⟩
        · have hw1 := c4
          refine g_iload C dX0_cross_47 (gi _) rfl ?_
          refine g_ifeq_b C (tgt := 56) dX0_cross_49 (by decide) (fun c6 => ?_) (fun c6 => ?_)
          · have hu := c6
            refine g_iconst C dX0_cross_56 ?_
            refine g_goto C (tgt := 92) dX0_cross_57 (by decide) ?_
            exact g_iret C hQ rfl dX0_cross_92 ⟨gv (by rw [crossV, if_neg (by rw [hq0, hi0]; decide), if_neg (by rw [hw0]; decide), if_pos hw1, show upB S q i = false from hu]; rfl), rfl, rfl⟩
          · have hu := c6
            refine g_iconst C dX0_cross_52 ?_
            refine g_goto C (tgt := 92) dX0_cross_53 (by decide) ?_
            exact g_iret C hQ rfl dX0_cross_92 ⟨gv (by rw [crossV, if_neg (by rw [hq0, hi0]; decide), if_neg (by rw [hw0]; decide), if_pos hw1, show upB S q i = true from hu]; rfl), rfl, rfl⟩
      · have hw0 := c3
        refine g_bipush C dX0_cross_29 (by decide +kernel) ?_
        exact g_iret C hQ rfl dX0_cross_31 ⟨gv (by rw [crossV, if_neg (by rw [hq0, hi0]; decide), if_pos hw0]), rfl, rfl⟩
    · have hi0 := c2
      refine g_bipush C dX0_cross_16 (by decide +kernel) ?_
      exact g_iret C hQ rfl dX0_cross_18 ⟨gv (by rw [crossV, if_pos (by first | exact Or.inl hq0 | exact Or.inr hi0)]), rfl, rfl⟩
