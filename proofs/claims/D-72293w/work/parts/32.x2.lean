/-! THE COMPONENT: WeaveDraft, what is counted -/
set_option maxRecDepth 100000
def tnV (S : MS) (q i u : Int) : Int := if upB S q i = decide (u = 1) then 0 else 1
theorem tn_rg (S : MS) (q i u : Int) : 0 ≤ tnV S q i u ∧ tnV S q i u ≤ 1 := by unfold tnV; split <;> omega
/-- Integer.bitCount, as the machine computes it -/
def bc1 (a : Int) : Int := a - (zI (((zI a).toUInt32 >>> ((zI 1).toUInt32 &&& Int32.toUInt32 31)).toInt32).toInt &&& zI 1431655765).toInt
def bc2 (a : Int) : Int := (zI (bc1 a) &&& zI 858993459).toInt + (zI (((zI (bc1 a)).toUInt32 >>> ((zI 2).toUInt32 &&& Int32.toUInt32 31)).toInt32).toInt &&& zI 858993459).toInt
def bc3 (a : Int) : Int := (zI (bc2 a + (((zI (bc2 a)).toUInt32 >>> ((zI 4).toUInt32 &&& Int32.toUInt32 31)).toInt32).toInt) &&& zI 252645135).toInt
def bc4 (a : Int) : Int := bc3 a + (((zI (bc3 a)).toUInt32 >>> ((zI 8).toUInt32 &&& Int32.toUInt32 31)).toInt32).toInt
def bc5 (a : Int) : Int := bc4 a + (((zI (bc4 a)).toUInt32 >>> ((zI 16).toUInt32 &&& Int32.toUInt32 31)).toInt32).toInt
def bcE (a : Int) : Int := (zI (bc5 a) &&& zI 63).toInt
theorem bc_dec : ∀ n : Nat, n < 4096 → bcE (n : Int) = onesV (n : Int) := by decide +kernel
theorem bc_eq {a : Int} (h : 0 ≤ a ∧ a < 4096) : bcE a = onesV a := by
  have := bc_dec a.toNat (by omega)
  rwa [show ((a.toNat : Nat) : Int) = a by omega] at this
/-- pairs, counted from either end -/
theorem alike_sym (S : MS) (a b : Int) : alikeB S a b = alikeB S b a := by
  unfold alikeB
  have e : alikeF S a b = alikeF S b a := by
    funext j x
    unfold alikeF
    congr 1
    exact decide_eq_decide.mpr ⟨fun h => h.symm, fun h => h.symm⟩
  rw [e]

theorem nd_J18_bitCount : yJ18_bitCount.cls ≠ "java/lang/invoke/MethodHandle" ∧ yJ18_bitCount.cls ≠ "java/lang/invoke/VarHandle" ∧ (parseMethodDescriptor yJ18_bitCount.desc).map (fun d => d.parameters.length) = some 1 := by decide +kernel
theorem mJ18_bitCount {l : Launch} {D : va_G} {dA : Nat → ClassId} {N0 : Nat} {Y : State → Prop} (hY : gYc N0 Y) {h : gH} {sz : Nat} {a : Int} (ha : 0 ≤ a ∧ a < 4096) : gM l D dA N0 Y yJ18_bitCount cJ18_bitCount 1 (some .int) 0 0 0 0 [vI a] (h) sz (gP (some (vI (onesV a))) h sz) := by
  refine gM.ofF hY.ok (by decide +kernel) (Nat.le_of_ble_eq_true rfl) ?_
  intro X hX C hQ
  subst hX
  have C : gC X cJ18_bitCount RJ18 "bitCount" 1 (some .int) D dA N0 Y ({ frames := 0, cells := 0, slots := 0, locals := 0 }) := C
  show G X 0 0 _ _ 0 [some (vI a)] []
  refine g_iload_n C dJ18_bitCount_0 (gi _) rfl ?_
  refine g_iload_n C dJ18_bitCount_1 (gi _) rfl ?_
  refine g_iconst C dJ18_bitCount_2 ?_
  refine g_iushr C dJ18_bitCount_3 (zI_of _).symm ?_
  refine g_ldcw (z := 1431655765) C q1174 (by decide +kernel) dJ18_bitCount_4 ?_
  refine g_iand C dJ18_bitCount_7 (zI_of _).symm ?_
  refine g_isub C dJ18_bitCount_8 ?_
  refine g_istore_n1000 C dJ18_bitCount_9 (gi _) ?_
  refine g_iload_n C dJ18_bitCount_10 (gi _) rfl ?_
  refine g_ldcw (z := 858993459) C q1175 (by decide +kernel) dJ18_bitCount_11 ?_
  refine g_iand C dJ18_bitCount_14 (zI_of _).symm ?_
  refine g_iload_n C dJ18_bitCount_15 (gi _) rfl ?_
  refine g_iconst C dJ18_bitCount_16 ?_
  refine g_iushr C dJ18_bitCount_17 (zI_of _).symm ?_
  refine g_ldcw (z := 858993459) C q1175 (by decide +kernel) dJ18_bitCount_18 ?_
  refine g_iand C dJ18_bitCount_21 (zI_of _).symm ?_
  refine g_iadd C dJ18_bitCount_22 ?_
  refine g_istore_n1000 C dJ18_bitCount_23 (gi _) ?_
  refine g_iload_n C dJ18_bitCount_24 (gi _) rfl ?_
  refine g_iload_n C dJ18_bitCount_25 (gi _) rfl ?_
  refine g_iconst C dJ18_bitCount_26 ?_
  refine g_iushr C dJ18_bitCount_27 (zI_of _).symm ?_
  refine g_iadd C dJ18_bitCount_28 ?_
  refine g_ldcw (z := 252645135) C q1176 (by decide +kernel) dJ18_bitCount_29 ?_
  refine g_iand C dJ18_bitCount_32 (zI_of _).symm ?_
  refine g_istore_n1000 C dJ18_bitCount_33 (gi _) ?_
  refine g_iload_n C dJ18_bitCount_34 (gi _) rfl ?_
  refine g_iload_n C dJ18_bitCount_35 (gi _) rfl ?_
  refine g_bipush C dJ18_bitCount_36 (by decide +kernel) ?_
  refine g_iushr C dJ18_bitCount_38 (zI_of _).symm ?_
  refine g_iadd C dJ18_bitCount_39 ?_
  refine g_istore_n1000 C dJ18_bitCount_40 (gi _) ?_
  refine g_iload_n C dJ18_bitCount_41 (gi _) rfl ?_
  refine g_iload_n C dJ18_bitCount_42 (gi _) rfl ?_
  refine g_bipush C dJ18_bitCount_43 (by decide +kernel) ?_
  refine g_iushr C dJ18_bitCount_45 (zI_of _).symm ?_
  refine g_iadd C dJ18_bitCount_46 ?_
  refine g_istore_n1000 C dJ18_bitCount_47 (gi _) ?_
  refine g_iload_n C dJ18_bitCount_48 (gi _) rfl ?_
  refine g_bipush C dJ18_bitCount_49 (by decide +kernel) ?_
  refine g_iand C dJ18_bitCount_51 (zI_of _).symm ?_
  exact g_iret C hQ rfl dJ18_bitCount_52 ⟨gv (show bcE a = onesV a from bc_eq ha), rfl, rfl⟩

theorem nd_X0_turned : yX0_turned.cls ≠ "java/lang/invoke/MethodHandle" ∧ yX0_turned.cls ≠ "java/lang/invoke/VarHandle" ∧ (parseMethodDescriptor yX0_turned.desc).map (fun d => d.parameters.length) = some 3 := by decide +kernel
theorem mX0_turned {l : Launch} {D : va_G} {dA : Nat → ClassId} {N0 : Nat} {Y : State → Prop} (hY : gYc N0 Y) {h : gH} {sz x : Nat} {S : MS} {P : PS} {q i u : Int} (hO : OkD (S 0)) (hq : 0 ≤ q ∧ q < 12) (hi : 0 ≤ i ∧ i < 12) (hu : 0 ≤ u ∧ u ≤ 1) : gM l D dA N0 Y yX0_turned cX0_turned 4 (some .int) 2 43 0 0 [.ref x, vI q, vI i, vI u] (ovX dA x S P h) sz (gP (some (vI (tnV S q i u))) (ovX dA x S P h) sz) := by
  refine gM.of hY.ok (by decide +kernel) (Nat.le_of_ble_eq_true rfl) ?_
  intro X hX C hQ
  subst hX
  have C : gC X cX0_turned RX0 "turned" 4 (some .int) D dA N0 Y ({ frames := 2, cells := 0, slots := 0, locals := 43 }) := C
  show G X 0 0 _ _ 0 [some (.ref x), some (vI q), some (vI i), some (vI u)] []
  refine g_aload_n C dX0_turned_0 (gr _) rfl ?_
  refine X_g_now C q218 dX0_turned_1 ?_
  refine g_iload_n C dX0_turned_4 (gi _) rfl ?_
  refine g_iload_n C dX0_turned_5 (gi _) rfl ?_
  refine g_callV1z C (mX1_isUp hY ((isX_now _ _ _ _ _)) (hO) (by omega) (by omega)) (lw_V q815 q769 q770 q68 q771) ⟨rfl, nd_X1_isUp⟩ (isD_0 (isX_now _ _ _ _ _)) rfl ⟨by decide, by decide⟩ ⟨Nat.le_of_ble_eq_true rfl, Nat.le_of_ble_eq_true rfl⟩ rfl (Nat.le_of_ble_eq_true rfl) dX0_turned_6 ?_
  refine g_iload_n C dX0_turned_9 (gi _) rfl ?_
  refine g_iconst C dX0_turned_10 ?_
  refine g_icmp_ne C (tgt := 18) dX0_turned_11 (by decide) (by omega) (fun c1 => ?_) (fun c1 => ?_)
  · have hd0 : decide (u = 1) = false := decide_eq_false (by omega)
    refine g_iconst C dX0_turned_18 ?_
    refine g_icmp_ne C (tgt := 26) dX0_turned_19 (by decide) (by exact ⟨bI_32 _, by decide⟩) (fun c2 => ?_) (fun c2 => ?_)
    · have hc := c2
      refine g_iconst C dX0_turned_26 ?_
      exact g_iret C hQ rfl dX0_turned_27 ⟨gv (by rw [tnV, hd0, if_neg (fun z => hc (by rw [show upB (dS (S 0)) q i = false from z]; rfl))]), rfl, rfl⟩
    · have hc := c2
      refine g_iconst C dX0_turned_22 ?_
      refine g_goto C (tgt := 27) dX0_turned_23 (by decide) ?_
      exact g_iret C hQ rfl dX0_turned_27 ⟨gv (by rw [tnV, hd0, if_pos (show upB S q i = false from bI_inj.mp (hc.trans (show (0 : Int) = bI false from rfl)))]), rfl, rfl⟩
  · have hd0 : decide (u = 1) = true := decide_eq_true (by omega)
    refine g_iconst C dX0_turned_14 ?_
    refine g_goto C (tgt := 19) dX0_turned_15 (by decide) ?_
    refine g_icmp_ne C (tgt := 26) dX0_turned_19 (by decide) (by exact ⟨bI_32 _, by decide⟩) (fun c3 => ?_) (fun c3 => ?_)
    · have hc := c3
      refine g_iconst C dX0_turned_26 ?_
      exact g_iret C hQ rfl dX0_turned_27 ⟨gv (by rw [tnV, hd0, if_neg (fun z => hc (by rw [show upB (dS (S 0)) q i = true from z]; rfl))]), rfl, rfl⟩
    · have hc := c3
      refine g_iconst C dX0_turned_22 ?_
      refine g_goto C (tgt := 27) dX0_turned_23 (by decide) ?_
      exact g_iret C hQ rfl dX0_turned_27 ⟨gv (by rw [tnV, hd0, if_pos (show upB S q i = true from bI_inj.mp (hc.trans (show (1 : Int) = bI true from rfl)))]), rfl, rfl⟩

theorem nd_X0_stitches : yX0_stitches.cls ≠ "java/lang/invoke/MethodHandle" ∧ yX0_stitches.cls ≠ "java/lang/invoke/VarHandle" ∧ (parseMethodDescriptor yX0_stitches.desc).map (fun d => d.parameters.length) = some 0 := by decide +kernel
theorem mX0_stitches {l : Launch} {D : va_G} {dA : Nat → ClassId} {N0 : Nat} {Y : State → Prop} (hY : gYc N0 Y) {h : gH} {sz x : Nat} {S : MS} {P : PS} (hO : OkD (S 0))  : gM l D dA N0 Y yX0_stitches cX0_stitches 3 (some .int) 4 87 0 0 [.ref x] (ovX dA x S P h) sz (gP (some (vI (astV S))) (ovX dA x S P h) sz) := by
  refine gM.of hY.ok (by decide +kernel) (Nat.le_of_ble_eq_true rfl) ?_
  intro X hX C hQ
  subst hX
  have C : gC X cX0_stitches RX0 "stitches" 3 (some .int) D dA N0 Y ({ frames := 4, cells := 0, slots := 0, locals := 87 }) := C
  show G X 0 0 _ _ 0 [some (.ref x), none, none] []
  have hn := hO.1
  refine g_iconst C dX0_stitches_0 ?_
  refine g_istore_n1001 C dX0_stitches_1 (gi _) rfl ?_
  refine g_iconst C dX0_stitches_2 ?_
  refine g_istore_n1002 C dX0_stitches_3 (gi _) rfl ?_
  have lp4_1 : ∀ (fuel : Nat) (nn q : Int), ((0 ≤ q ∧ q ≤ S 0 1) ∧ nn = fo (fun q n => n + stV S q) 0 q.toNat ∧ 0 ≤ nn ∧ nn ≤ 12 * q) → (S 0 1 - q).toNat < fuel → G X 0 0 (ovX dA x S P h) sz 4 [some (.ref x), some (vI nn), some (vI q)] [] := by
    intro fuel
    induction fuel with
    | zero => intro nn q hI hfu; exact absurd hfu (Nat.not_lt_zero _)
    | succ fuel ih =>
      intro nn q hI hfu
      have ih1 := ih
      obtain ⟨hI1, hI2, hI3⟩ := hI
      have hs := st_rg (S := S) q hO
      have hs2 : stV (dS (S 0)) q = stV S q := rfl
      refine g_iload_n C dX0_stitches_4 (gi _) rfl ?_
      refine g_aload_n C dX0_stitches_5 (gr _) rfl ?_
      refine X_g_now C q218 dX0_stitches_6 ?_
      refine D_g_picks C (isX_now _ _ _ _ _) q179 dX0_stitches_9 ?_
      refine g_icmp_ge C (tgt := 36) dX0_stitches_12 (by decide) (by omega) (fun c1 => ?_) (fun c1 => ?_)
      · refine g_iload_n C dX0_stitches_36 (gi _) rfl ?_
        exact g_iret C hQ rfl dX0_stitches_37 ⟨gv (by rw [hI2, show q = S 0 1 by omega]; rfl), rfl, rfl⟩
      · refine g_iload_n C dX0_stitches_15 (gi _) rfl ?_
        refine g_aload_n C dX0_stitches_16 (gr _) rfl ?_
        refine X_g_now C q218 dX0_stitches_17 ?_
        refine D_g_weft C (isX_now _ _ _ _ _) q191 dX0_stitches_20 ?_
        refine g_iload_n C dX0_stitches_23 (gi _) rfl ?_
        refine D_ld_weft C (isX_now _ _ _ _ _) (by omega) dX0_stitches_24 ?_
        refine g_callV1z C (mX4_stitches hY ((isX_now _ _ _ _ _)) (hO) (by omega)) (lw_V q798 q799 q800 q71 q801) ⟨rfl, nd_X4_stitches⟩ (isD_P (isX_now _ _ _ _ _) (by omega)) rfl ⟨by decide, by decide⟩ ⟨Nat.le_of_ble_eq_true rfl, Nat.le_of_ble_eq_true rfl⟩ rfl (Nat.le_of_ble_eq_true rfl) dX0_stitches_25 ?_
        refine g_iadd C dX0_stitches_28 ?_
        refine g_istore_n1001 C dX0_stitches_29 (gi _) rfl ?_
        refine g_iinc1002 C dX0_stitches_30 rfl ?_
        refine g_goto C (tgt := 4) dX0_stitches_33 (by decide) ?_
        exact ih1 _ _ (⟨by omega, by rw [fo_s (by omega), ← hI2]; try rfl, by omega⟩) (by omega)
  exact lp4_1 _ _ _ (⟨by omega, rfl, by omega⟩) (Nat.lt_succ_self _)

theorem nd_X0_ups : yX0_ups.cls ≠ "java/lang/invoke/MethodHandle" ∧ yX0_ups.cls ≠ "java/lang/invoke/VarHandle" ∧ (parseMethodDescriptor yX0_ups.desc).map (fun d => d.parameters.length) = some 0 := by decide +kernel
theorem mX0_ups {l : Launch} {D : va_G} {dA : Nat → ClassId} {N0 : Nat} {Y : State → Prop} (hY : gYc N0 Y) {h : gH} {sz x : Nat} {S : MS} {P : PS} (hO : OkD (S 0))  : gM l D dA N0 Y yX0_ups cX0_ups 3 (some .int) 4 86 0 0 [.ref x] (ovX dA x S P h) sz (gP (some (vI (aupV S))) (ovX dA x S P h) sz) := by
  refine gM.of hY.ok (by decide +kernel) (Nat.le_of_ble_eq_true rfl) ?_
  intro X hX C hQ
  subst hX
  have C : gC X cX0_ups RX0 "ups" 3 (some .int) D dA N0 Y ({ frames := 4, cells := 0, slots := 0, locals := 86 }) := C
  show G X 0 0 _ _ 0 [some (.ref x), none, none] []
  have hn := hO.1
  refine g_iconst C dX0_ups_0 ?_
  refine g_istore_n1001 C dX0_ups_1 (gi _) rfl ?_
  refine g_iconst C dX0_ups_2 ?_
  refine g_istore_n1002 C dX0_ups_3 (gi _) rfl ?_
  have lp4_1 : ∀ (fuel : Nat) (nn q : Int), ((0 ≤ q ∧ q ≤ S 0 1) ∧ nn = fo (fun q n => n + onesV (upPick S q)) 0 q.toNat ∧ 0 ≤ nn ∧ nn ≤ 12 * q) → (S 0 1 - q).toNat < fuel → G X 0 0 (ovX dA x S P h) sz 4 [some (.ref x), some (vI nn), some (vI q)] [] := by
    intro fuel
    induction fuel with
    | zero => intro nn q hI hfu; exact absurd hfu (Nat.not_lt_zero _)
    | succ fuel ih =>
      intro nn q hI hfu
      have ih1 := ih
      obtain ⟨hI1, hI2, hI3⟩ := hI
      have hu := upPick_rg (S := S) q hO
      have hs := ones_rg (upPick S q)
      have hs2 : upPick (dS (S 0)) q = upPick S q := rfl
      refine g_iload_n C dX0_ups_4 (gi _) rfl ?_
      refine g_aload_n C dX0_ups_5 (gr _) rfl ?_
      refine X_g_now C q218 dX0_ups_6 ?_
      refine D_g_picks C (isX_now _ _ _ _ _) q179 dX0_ups_9 ?_
      refine g_icmp_ge C (tgt := 39) dX0_ups_12 (by decide) (by omega) (fun c1 => ?_) (fun c1 => ?_)
      · refine g_iload_n C dX0_ups_39 (gi _) rfl ?_
        exact g_iret C hQ rfl dX0_ups_40 ⟨gv (by rw [hI2, show q = S 0 1 by omega]; rfl), rfl, rfl⟩
      · refine g_iload_n C dX0_ups_15 (gi _) rfl ?_
        refine g_aload_n C dX0_ups_16 (gr _) rfl ?_
        refine X_g_now C q218 dX0_ups_17 ?_
        refine D_g_weft C (isX_now _ _ _ _ _) q191 dX0_ups_20 ?_
        refine g_iload_n C dX0_ups_23 (gi _) rfl ?_
        refine D_ld_weft C (isX_now _ _ _ _ _) (by omega) dX0_ups_24 ?_
        refine g_callVD1z (owner := "WeaveDraft$Look") C (mX12_bits_P hY ((isX_now _ _ _ _ _)) (hO) (by omega)) q788 q1560 (gtoD hY C 5 rfl) (gtoD hY C 6 rfl) (gtok hY C q783 rfl) (gtoL hY C 4 rfl) (gtoA C q786 rfl) ⟨by decide, by decide, ndx_3.2.2⟩ (isD_P (isX_now _ _ _ _ _) (by omega)) rfl ⟨by decide, by decide⟩ ⟨Nat.le_of_ble_eq_true rfl, Nat.le_of_ble_eq_true rfl⟩ rfl (Nat.le_of_ble_eq_true rfl) dX0_ups_25 ?_
        refine g_callS1z C (mJ18_bitCount hY (hu)) (lw_S q1171 q1172 q98 q1173) nd_J18_bitCount ⟨by decide, by decide⟩ ⟨Nat.le_of_ble_eq_true rfl, Nat.le_of_ble_eq_true rfl⟩ rfl (Nat.le_of_ble_eq_true rfl) dX0_ups_28 ?_
        refine g_iadd C dX0_ups_31 ?_
        refine g_istore_n1001 C dX0_ups_32 (gi _) rfl ?_
        refine g_iinc1002 C dX0_ups_33 rfl ?_
        refine g_goto C (tgt := 4) dX0_ups_36 (by decide) ?_
        exact ih1 _ _ (⟨by omega, by rw [fo_s (by omega), ← hI2]; try rfl, by omega⟩) (by omega)
  exact lp4_1 _ _ _ (⟨by omega, rfl, by omega⟩) (Nat.lt_succ_self _)

theorem nd_X0_areAlike : yX0_areAlike.cls ≠ "java/lang/invoke/MethodHandle" ∧ yX0_areAlike.cls ≠ "java/lang/invoke/VarHandle" ∧ (parseMethodDescriptor yX0_areAlike.desc).map (fun d => d.parameters.length) = some 2 := by decide +kernel
theorem mX0_areAlike {l : Launch} {D : va_G} {dA : Nat → ClassId} {N0 : Nat} {Y : State → Prop} (hY : gYc N0 Y) {h : gH} {sz x : Nat} {S : MS} {P : PS} {a b : Int} (hO : OkD (S 0))  (ha : (0 ≤ a ∧ a < 12) ∧ 0 ≤ b ∧ b < 12) : gM l D dA N0 Y yX0_areAlike cX0_areAlike 5 (some .boolean) 1 21 0 0 [.ref x, vI a, vI b] (ovX dA x S P h) sz (gP (some (vI (bI (alikeB S a b)))) (ovX dA x S P h) sz) := by
  refine gM.of hY.ok (by decide +kernel) (Nat.le_of_ble_eq_true rfl) ?_
  intro X hX C hQ
  subst hX
  have C : gC X cX0_areAlike RX0 "areAlike" 5 (some .boolean) D dA N0 Y ({ frames := 1, cells := 0, slots := 0, locals := 21 }) := C
  show G X 0 0 _ _ 0 [some (.ref x), some (vI a), some (vI b), none, none] []
  have hn := hO.1
  refine g_iconst C dX0_areAlike_0 ?_
  refine g_istore_n1003 C dX0_areAlike_1 (gi _) rfl ?_
  refine g_iconst C dX0_areAlike_2 ?_
  refine g_istore1004 C dX0_areAlike_3 (gi _) rfl ?_
  have lp5_1 : ∀ (fuel : Nat) (y : Bool) (j : Int), ((0 ≤ j ∧ j ≤ S 0 3) ∧ y = fo (alikeF S a b) true j.toNat) → (S 0 3 - j).toNat < fuel → G X 0 0 (ovX dA x S P h) sz 5 [some (.ref x), some (vI a), some (vI b), some (vI (bI y)), some (vI j)] [] := by
    intro fuel
    induction fuel with
    | zero => intro y j hI hfu; exact absurd hfu (Nat.not_lt_zero _)
    | succ fuel ih =>
      intro y j hI hfu
      have ih1 := ih
      obtain ⟨hI1, hI2⟩ := hI
      refine g_iload C dX0_areAlike_5 (gi _) rfl ?_
      refine g_aload_n C dX0_areAlike_7 (gr _) rfl ?_
      refine X_g_now C q218 dX0_areAlike_8 ?_
      refine D_g_treadles C (isX_now _ _ _ _ _) q185 dX0_areAlike_11 ?_
      refine g_icmp_ge C (tgt := 64) dX0_areAlike_14 (by decide) (by omega) (fun c1 => ?_) (fun c1 => ?_)
      · refine g_iload_n C dX0_areAlike_64 (gi _) rfl ?_
        exact g_zret C hQ rfl dX0_areAlike_65 ⟨gz (by rw [hI2, show j = S 0 3 by omega]; rfl), rfl, rfl⟩
      · have htj := hO.tied j (by omega)
        refine g_iload_n C dX0_areAlike_17 (gi _) rfl ?_
        refine g_ifeq_b C (tgt := 56) dX0_areAlike_18 (by decide) (fun c2 => ?_) (fun c2 => ?_)
        · have hy := c2
          refine g_iconst C dX0_areAlike_56 ?_
          refine g_istore_n1003 C dX0_areAlike_57 (gi _) rfl ?_
          refine g_iinc1004 C dX0_areAlike_58 rfl ?_
          refine g_goto C (tgt := 5) dX0_areAlike_61 (by decide) ?_
          exact ih1 false _ (⟨by omega, by rw [fo_s (by omega), ← hI2, hy]; rfl⟩) (by omega)
        · have hy := c2
          refine g_aload_n C dX0_areAlike_21 (gr _) rfl ?_
          refine X_g_now C q218 dX0_areAlike_22 ?_
          refine D_g_ties C (isX_now _ _ _ _ _) q187 dX0_areAlike_25 ?_
          refine g_iload C dX0_areAlike_28 (gi _) rfl ?_
          refine D_ld_ties C (isX_now _ _ _ _ _) (by omega) dX0_areAlike_30 ?_
          refine g_iload_n C dX0_areAlike_31 (gi _) rfl ?_
          refine g_callS1z C (mX0_has hY (by omega)) (lw_S q918 q773 q67 q774) nd_X0_has ⟨by decide, by decide⟩ ⟨Nat.le_of_ble_eq_true rfl, Nat.le_of_ble_eq_true rfl⟩ rfl (Nat.le_of_ble_eq_true rfl) dX0_areAlike_32 ?_
          refine g_aload_n C dX0_areAlike_35 (gr _) rfl ?_
          refine X_g_now C q218 dX0_areAlike_36 ?_
          refine D_g_ties C (isX_now _ _ _ _ _) q187 dX0_areAlike_39 ?_
          refine g_iload C dX0_areAlike_42 (gi _) rfl ?_
          refine D_ld_ties C (isX_now _ _ _ _ _) (by omega) dX0_areAlike_44 ?_
          refine g_iload_n C dX0_areAlike_45 (gi _) rfl ?_
          refine g_callS1z C (mX0_has hY (by omega)) (lw_S q918 q773 q67 q774) nd_X0_has ⟨by decide, by decide⟩ ⟨Nat.le_of_ble_eq_true rfl, Nat.le_of_ble_eq_true rfl⟩ rfl (Nat.le_of_ble_eq_true rfl) dX0_areAlike_46 ?_
          refine g_icmp_ne C (tgt := 56) dX0_areAlike_49 (by decide) (by exact ⟨bI_32 _, bI_32 _⟩) (fun c3 => ?_) (fun c3 => ?_)
          · have hne : ¬ hasB (S 0 (16 + j)) a = hasB (S 0 (16 + j)) b := fun z => c3 (bI_inj.mpr z)
            refine g_iconst C dX0_areAlike_56 ?_
            refine g_istore_n1003 C dX0_areAlike_57 (gi _) rfl ?_
            refine g_iinc1004 C dX0_areAlike_58 rfl ?_
            refine g_goto C (tgt := 5) dX0_areAlike_61 (by decide) ?_
            exact ih1 false _ (⟨by omega, by rw [fo_s (by omega), ← hI2]; simp [alikeF, hne]⟩) (by omega)
          · have heq := bI_inj.mp c3
            refine g_iconst C dX0_areAlike_52 ?_
            refine g_goto C (tgt := 57) dX0_areAlike_53 (by decide) ?_
            refine g_istore_n1003 C dX0_areAlike_57 (gi _) rfl ?_
            refine g_iinc1004 C dX0_areAlike_58 rfl ?_
            refine g_goto C (tgt := 5) dX0_areAlike_61 (by decide) ?_
            exact ih1 true _ (⟨by omega, by rw [fo_s (by omega), ← hI2, hy]; simp [alikeF, heq]⟩) (by omega)
  exact lp5_1 _ true _ (⟨by omega, rfl⟩) (Nat.lt_succ_self _)

theorem nd_X0_idle : yX0_idle.cls ≠ "java/lang/invoke/MethodHandle" ∧ yX0_idle.cls ≠ "java/lang/invoke/VarHandle" ∧ (parseMethodDescriptor yX0_idle.desc).map (fun d => d.parameters.length) = some 3 := by decide +kernel
theorem mX0_idle_E {l : Launch} {D : va_G} {dA : Nat → ClassId} {N0 : Nat} {Y : State → Prop} (hY : gYc N0 Y) {h : gH} {sz x b : Nat} {F : Int → Int} (hD : isD dA x b F h) (hO : OkD F) {many places : Int} (hs : (1 ≤ many ∧ many ≤ 6) ∧ 0 ≤ places ∧ places ≤ 12) : gM l D dA N0 Y yX0_idle cX0_idle 5 (some .int) 0 0 0 0 [.ref (b + 2), vI places, vI many] (h) sz (gP (some (vI (idleV (dS F) many 4 places))) h sz) := by
  refine gM.of hY.ok (by decide +kernel) (Nat.le_of_ble_eq_true rfl) ?_
  intro X hX C hQ
  subst hX
  have C : gC X cX0_idle RX0 "idle" 5 (some .int) D dA N0 Y ({ frames := 0, cells := 0, slots := 0, locals := 0 }) := C
  show G X 0 0 _ _ 0 [some (.ref (b + 2)), some (vI places), some (vI many), none, none] []
  have hm := sh6 (i := many) (by omega)
  refine g_iconst C dX0_idle_0 ?_
  refine g_iload_n C dX0_idle_1 (gi _) rfl ?_
  refine g_ishl C dX0_idle_2 (zI_shl (by omega)) ?_
  refine g_iconst C dX0_idle_3 ?_
  refine g_isub C dX0_idle_4 ?_
  refine g_istore_n1003 C dX0_idle_5 (gi _) rfl ?_
  refine g_iconst C dX0_idle_6 ?_
  refine g_istore1004 C dX0_idle_7 (gi _) rfl ?_
  have lp9_1 : ∀ (fuel : Nat) (set k : Int), ((0 ≤ k ∧ k ≤ places) ∧ set = fo (idleF (dS F) 4) (shI many - 1) k.toNat ∧ 0 ≤ set ∧ set < 64) → (places - k).toNat < fuel → G X 0 0 (h) sz 9 [some (.ref (b + 2)), some (vI places), some (vI many), some (vI set), some (vI k)] [] := by
    intro fuel
    induction fuel with
    | zero => intro set k hI hfu; exact absurd hfu (Nat.not_lt_zero _)
    | succ fuel ih =>
      intro set k hI hfu
      have ih1 := ih
      obtain ⟨hI1, hI2, hI3⟩ := hI
      refine g_iload C dX0_idle_9 (gi _) rfl ?_
      refine g_iload_n C dX0_idle_11 (gi _) rfl ?_
      refine g_icmp_ge C (tgt := 35) dX0_idle_12 (by decide) (by omega) (fun c1 => ?_) (fun c1 => ?_)
      · refine g_iload_n C dX0_idle_35 (gi _) rfl ?_
        exact g_iret C hQ rfl dX0_idle_36 ⟨gv (by rw [hI2, show k = places by omega]; rfl), rfl, rfl⟩
      · have hvk : 0 ≤ F (4 + k) ∧ F (4 + k) < 6 := by have := hO.2.1 k (by omega) (by omega); have := hO.1; omega
        refine g_iload_n C dX0_idle_15 (gi _) rfl ?_
        refine g_iconst C dX0_idle_16 ?_
        refine g_aload_n C dX0_idle_17 (gr _) rfl ?_
        refine g_iload C dX0_idle_18 (gi _) rfl ?_
        refine D_ld_warp C hD (by omega) dX0_idle_20 ?_
        refine D_gE_tied C hD (by omega) (Or.inl rfl) q135 dX0_idle_21 ?_
        refine g_ishl C dX0_idle_24 (zI_shl (by omega)) ?_
        refine g_iconst C dX0_idle_25 ?_
        refine g_ixorX C dX0_idle_26 ?_
        refine g_iandX C dX0_idle_27 (g_topv (v' := vI (clrI set (F (4 + k)))) (congrArg Value.int (clr_bits hI3 hvk)) ?_)
        refine g_istore_n1003 C dX0_idle_28 (gi _) rfl ?_
        refine g_iinc1004 C dX0_idle_29 rfl ?_
        refine g_goto C (tgt := 9) dX0_idle_32 (by decide) ?_
        exact ih1 _ _ (⟨by omega, by rw [fo_s (by omega), ← hI2]; rfl, clr_rg hI3 hvk⟩) (by omega)
  exact lp9_1 _ _ _ (⟨by omega, rfl, by omega⟩) (Nat.lt_succ_self _)

theorem nd_X0_isRepeat : yX0_isRepeat.cls ≠ "java/lang/invoke/MethodHandle" ∧ yX0_isRepeat.cls ≠ "java/lang/invoke/VarHandle" ∧ (parseMethodDescriptor yX0_isRepeat.desc).map (fun d => d.parameters.length) = some 3 := by decide +kernel
theorem mX0_isRepeat_E {l : Launch} {D : va_G} {dA : Nat → ClassId} {N0 : Nat} {Y : State → Prop} (hY : gYc N0 Y) {h : gH} {sz x b : Nat} {F : Int → Int} (hD : isD dA x b F h) (hO : OkD F) {many r : Int} (hm : many = F 0) (hr : 1 ≤ r ∧ r ≤ many) : gM l D dA N0 Y yX0_isRepeat cX0_isRepeat 5 (some .boolean) 4 86 0 0 [.ref (b + 2), vI many, vI r] (h) sz (gP (some (vI (bI (repB (upEnd (dS F)) many r)))) h sz) := by
  refine gM.of hY.ok (by decide +kernel) (Nat.le_of_ble_eq_true rfl) ?_
  intro X hX C hQ
  subst hX
  have C : gC X cX0_isRepeat RX0 "isRepeat" 5 (some .boolean) D dA N0 Y ({ frames := 4, cells := 0, slots := 0, locals := 86 }) := C
  show G X 0 0 _ _ 0 [some (.ref (b + 2)), some (vI many), some (vI r), none, none] []
  have hn := hO.1
  refine g_iconst C dX0_isRepeat_0 ?_
  refine g_istore_n1003 C dX0_isRepeat_1 (gi _) rfl ?_
  refine g_iconst C dX0_isRepeat_2 ?_
  refine g_istore1004 C dX0_isRepeat_3 (gi _) rfl ?_
  have lp5_1 : ∀ (fuel : Nat) (y : Bool) (k : Int), ((0 ≤ k ∧ k + r ≤ many) ∧ y = fo (fun i b => b && decide (upEnd (dS F) i = upEnd (dS F) (i + r))) true k.toNat) → (many - k).toNat < fuel → G X 0 0 (h) sz 5 [some (.ref (b + 2)), some (vI many), some (vI r), some (vI (bI y)), some (vI k)] [] := by
    intro fuel
    induction fuel with
    | zero => intro y k hI hfu; exact absurd hfu (Nat.not_lt_zero _)
    | succ fuel ih =>
      intro y k hI hfu
      have ih1 := ih
      obtain ⟨hI1, hI2⟩ := hI
      refine g_iload C dX0_isRepeat_5 (gi _) rfl ?_
      refine g_iload_n C dX0_isRepeat_7 (gi _) rfl ?_
      refine g_iadd C dX0_isRepeat_8 ?_
      refine g_iload_n C dX0_isRepeat_9 (gi _) rfl ?_
      refine g_icmp_ge C (tgt := 52) dX0_isRepeat_10 (by decide) (by omega) (fun c1 => ?_) (fun c1 => ?_)
      · refine g_iload_n C dX0_isRepeat_52 (gi _) rfl ?_
        exact g_zret C hQ rfl dX0_isRepeat_53 ⟨gz (by rw [hI2, repB, show k = many - r by omega]), rfl, rfl⟩
      · have ru := upEnd_rg (S := dS F) k hO
        have ru2 := upEnd_rg (S := dS F) (k + r) hO
        refine g_iload_n C dX0_isRepeat_13 (gi _) rfl ?_
        refine g_ifeq_b C (tgt := 44) dX0_isRepeat_14 (by decide) (fun c2 => ?_) (fun c2 => ?_)
        · have hy := c2
          refine g_iconst C dX0_isRepeat_44 ?_
          refine g_istore_n1003 C dX0_isRepeat_45 (gi _) rfl ?_
          refine g_iinc1004 C dX0_isRepeat_46 rfl ?_
          refine g_goto C (tgt := 5) dX0_isRepeat_49 (by decide) ?_
          exact ih1 false _ (⟨by omega, by rw [fo_s (by omega), ← hI2, hy]; rfl⟩) (by omega)
        · have hy := c2
          refine g_aload_n C dX0_isRepeat_17 (gr _) rfl ?_
          refine g_iload C dX0_isRepeat_18 (gi _) rfl ?_
          refine D_ld_warp C hD (by omega) dX0_isRepeat_20 ?_
          refine g_callFD1z C (mX12_bits_E hY (hD) (hO) (by omega)) q788 q1560 (gtoA C q1150 rfl) (gtok hY C q783 rfl) (gtok hY C q1151 rfl) (gtoL hY C 6 rfl) (gtoA C q786 rfl) (gtok hY C q787 rfl) (gtok hY C q747 rfl) ndx_3 (isD_E hD (by omega)) rfl ⟨by decide, by decide⟩ ⟨Nat.le_of_ble_eq_true rfl, Nat.le_of_ble_eq_true rfl⟩ rfl (Nat.le_of_ble_eq_true rfl) dX0_isRepeat_21 ?_
          refine g_aload_n C dX0_isRepeat_26 (gr _) rfl ?_
          refine g_iload C dX0_isRepeat_27 (gi _) rfl ?_
          refine g_iload_n C dX0_isRepeat_29 (gi _) rfl ?_
          refine g_iadd C dX0_isRepeat_30 ?_
          refine D_ld_warp C hD (by omega) dX0_isRepeat_31 ?_
          refine g_callFD1z C (mX12_bits_E hY (hD) (hO) (by omega)) q788 q1560 (gtoA C q1150 rfl) (gtok hY C q783 rfl) (gtok hY C q1151 rfl) (gtoL hY C 6 rfl) (gtoA C q786 rfl) (gtok hY C q787 rfl) (gtok hY C q747 rfl) ndx_3 (isD_E hD (by omega)) rfl ⟨by decide, by decide⟩ ⟨Nat.le_of_ble_eq_true rfl, Nat.le_of_ble_eq_true rfl⟩ rfl (Nat.le_of_ble_eq_true rfl) dX0_isRepeat_32 ?_
          refine g_icmp_ne C (tgt := 44) dX0_isRepeat_37 (by decide) (by omega) (fun c3 => ?_) (fun c3 => ?_)
          · have hne := c3
            refine g_iconst C dX0_isRepeat_44 ?_
            refine g_istore_n1003 C dX0_isRepeat_45 (gi _) rfl ?_
            refine g_iinc1004 C dX0_isRepeat_46 rfl ?_
            refine g_goto C (tgt := 5) dX0_isRepeat_49 (by decide) ?_
            exact ih1 false _ (⟨by omega, by rw [fo_s (by omega), ← hI2, decide_eq_false hne, Bool.and_false]⟩) (by omega)
          · have heq := c3
            refine g_iconst C dX0_isRepeat_40 ?_
            refine g_goto C (tgt := 45) dX0_isRepeat_41 (by decide) ?_
            refine g_istore_n1003 C dX0_isRepeat_45 (gi _) rfl ?_
            refine g_iinc1004 C dX0_isRepeat_46 rfl ?_
            refine g_goto C (tgt := 5) dX0_isRepeat_49 (by decide) ?_
            exact ih1 true _ (⟨by omega, by rw [fo_s (by omega), ← hI2, decide_eq_true heq, hy]; rfl⟩) (by omega)
  exact lp5_1 _ true _ (⟨by omega, rfl⟩) (Nat.lt_succ_self _)

theorem nd_X0_repeat : yX0_repeat.cls ≠ "java/lang/invoke/MethodHandle" ∧ yX0_repeat.cls ≠ "java/lang/invoke/VarHandle" ∧ (parseMethodDescriptor yX0_repeat.desc).map (fun d => d.parameters.length) = some 2 := by decide +kernel
theorem mX0_repeat_E {l : Launch} {D : va_G} {dA : Nat → ClassId} {N0 : Nat} {Y : State → Prop} (hY : gYc N0 Y) {h : gH} {sz x b : Nat} {F : Int → Int} (hD : isD dA x b F h) (hO : OkD F) {many : Int} (hm : many = F 0) : gM l D dA N0 Y yX0_repeat cX0_repeat 3 (some .int) 5 110 0 0 [.ref (b + 2), vI many] (h) sz (gP (some (vI (repV (upEnd (dS F)) many))) h sz) := by
  refine gM.of hY.ok (by decide +kernel) (Nat.le_of_ble_eq_true rfl) ?_
  intro X hX C hQ
  subst hX
  have C : gC X cX0_repeat RX0 "repeat" 3 (some .int) D dA N0 Y ({ frames := 5, cells := 0, slots := 0, locals := 110 }) := C
  show G X 0 0 _ _ 0 [some (.ref (b + 2)), some (vI many), none] []
  have hn := hO.1
  refine g_iconst C dX0_repeat_0 ?_
  refine g_istore_n1002 C dX0_repeat_1 (gi _) rfl ?_
  have lp2_1 : ∀ (fuel : Nat) (r : Int), ((1 ≤ r ∧ r ≤ many) ∧ firstR (repB (upEnd (dS F)) many) (13 - r).toNat r = repV (upEnd (dS F)) many) → (many - r).toNat < fuel → G X 0 0 (h) sz 2 [some (.ref (b + 2)), some (vI many), some (vI r)] [] := by
    intro fuel
    induction fuel with
    | zero => intro r hI hfu; exact absurd hfu (Nat.not_lt_zero _)
    | succ fuel ih =>
      intro r hI hfu
      have ih1 := ih
      obtain ⟨hI1, hI2⟩ := hI
      refine g_aload_n C dX0_repeat_2 (gr _) rfl ?_
      refine g_iload_n C dX0_repeat_3 (gi _) rfl ?_
      refine g_iload_n C dX0_repeat_4 (gi _) rfl ?_
      refine g_callS1z C (mX0_isRepeat_E hY (hD) (hO) (hm) (by omega)) (lw_S q1146 q1147 q67 q1148) nd_X0_isRepeat ⟨by decide, by decide⟩ ⟨Nat.le_of_ble_eq_true rfl, Nat.le_of_ble_eq_true rfl⟩ rfl (Nat.le_of_ble_eq_true rfl) dX0_repeat_5 ?_
      refine g_ifne_b C (tgt := 17) dX0_repeat_8 (by decide) (fun c1 => ?_) (fun c1 => ?_)
      · have hb0 := c1
        refine g_iload_n C dX0_repeat_17 (gi _) rfl ?_
        exact g_iret C hQ rfl dX0_repeat_18 ⟨gv (by rw [← hI2]; exact (firstR_t hb0 (by omega)).symm), rfl, rfl⟩
      · have hb0 := c1
        refine g_iinc1002 C dX0_repeat_11 rfl ?_
        refine g_goto C (tgt := 2) dX0_repeat_14 (by decide) ?_
        have hlt : r < many := by
          rcases Int.lt_or_le r many with z | z
          · exact z
          · exfalso; rw [repB, show (many - r).toNat = 0 by omega] at hb0; simp [fo] at hb0
        exact ih1 _ (⟨by omega, by rw [show (13 - (r + 1)) = 13 - r - 1 by omega, ← firstR_f hb0 (by omega)]; exact hI2⟩) (by omega)
  exact lp2_1 _ _ (⟨by omega, rfl⟩) (Nat.lt_succ_self _)

theorem mX0_idle_P {l : Launch} {D : va_G} {dA : Nat → ClassId} {N0 : Nat} {Y : State → Prop} (hY : gYc N0 Y) {h : gH} {sz x b : Nat} {F : Int → Int} (hD : isD dA x b F h) (hO : OkD F) {many places : Int} (hs : (1 ≤ many ∧ many ≤ 6) ∧ 0 ≤ places ∧ places ≤ 12) : gM l D dA N0 Y yX0_idle cX0_idle 5 (some .int) 0 0 0 0 [.ref (b + 3), vI places, vI many] (h) sz (gP (some (vI (idleV (dS F) many 22 places))) h sz) := by
  refine gM.of hY.ok (by decide +kernel) (Nat.le_of_ble_eq_true rfl) ?_
  intro X hX C hQ
  subst hX
  have C : gC X cX0_idle RX0 "idle" 5 (some .int) D dA N0 Y ({ frames := 0, cells := 0, slots := 0, locals := 0 }) := C
  show G X 0 0 _ _ 0 [some (.ref (b + 3)), some (vI places), some (vI many), none, none] []
  have hm := sh6 (i := many) (by omega)
  refine g_iconst C dX0_idle_0 ?_
  refine g_iload_n C dX0_idle_1 (gi _) rfl ?_
  refine g_ishl C dX0_idle_2 (zI_shl (by omega)) ?_
  refine g_iconst C dX0_idle_3 ?_
  refine g_isub C dX0_idle_4 ?_
  refine g_istore_n1003 C dX0_idle_5 (gi _) rfl ?_
  refine g_iconst C dX0_idle_6 ?_
  refine g_istore1004 C dX0_idle_7 (gi _) rfl ?_
  have lp9_1 : ∀ (fuel : Nat) (set k : Int), ((0 ≤ k ∧ k ≤ places) ∧ set = fo (idleF (dS F) 22) (shI many - 1) k.toNat ∧ 0 ≤ set ∧ set < 64) → (places - k).toNat < fuel → G X 0 0 (h) sz 9 [some (.ref (b + 3)), some (vI places), some (vI many), some (vI set), some (vI k)] [] := by
    intro fuel
    induction fuel with
    | zero => intro set k hI hfu; exact absurd hfu (Nat.not_lt_zero _)
    | succ fuel ih =>
      intro set k hI hfu
      have ih1 := ih
      obtain ⟨hI1, hI2, hI3⟩ := hI
      refine g_iload C dX0_idle_9 (gi _) rfl ?_
      refine g_iload_n C dX0_idle_11 (gi _) rfl ?_
      refine g_icmp_ge C (tgt := 35) dX0_idle_12 (by decide) (by omega) (fun c1 => ?_) (fun c1 => ?_)
      · refine g_iload_n C dX0_idle_35 (gi _) rfl ?_
        exact g_iret C hQ rfl dX0_idle_36 ⟨gv (by rw [hI2, show k = places by omega]; rfl), rfl, rfl⟩
      · have hvk : 0 ≤ F (22 + k) ∧ F (22 + k) < 6 := by have := hO.2.2.1 k (by omega) (by omega); have := hO.1; omega
        refine g_iload_n C dX0_idle_15 (gi _) rfl ?_
        refine g_iconst C dX0_idle_16 ?_
        refine g_aload_n C dX0_idle_17 (gr _) rfl ?_
        refine g_iload C dX0_idle_18 (gi _) rfl ?_
        refine D_ld_weft C hD (by omega) dX0_idle_20 ?_
        refine D_gP_tied C hD (by omega) (Or.inl rfl) q135 dX0_idle_21 ?_
        refine g_ishl C dX0_idle_24 (zI_shl (by omega)) ?_
        refine g_iconst C dX0_idle_25 ?_
        refine g_ixorX C dX0_idle_26 ?_
        refine g_iandX C dX0_idle_27 (g_topv (v' := vI (clrI set (F (22 + k)))) (congrArg Value.int (clr_bits hI3 hvk)) ?_)
        refine g_istore_n1003 C dX0_idle_28 (gi _) rfl ?_
        refine g_iinc1004 C dX0_idle_29 rfl ?_
        refine g_goto C (tgt := 9) dX0_idle_32 (by decide) ?_
        exact ih1 _ _ (⟨by omega, by rw [fo_s (by omega), ← hI2]; rfl, clr_rg hI3 hvk⟩) (by omega)
  exact lp9_1 _ _ _ (⟨by omega, rfl, by omega⟩) (Nat.lt_succ_self _)

theorem mX0_isRepeat_P {l : Launch} {D : va_G} {dA : Nat → ClassId} {N0 : Nat} {Y : State → Prop} (hY : gYc N0 Y) {h : gH} {sz x b : Nat} {F : Int → Int} (hD : isD dA x b F h) (hO : OkD F) {many r : Int} (hm : many = F 1) (hr : 1 ≤ r ∧ r ≤ many) : gM l D dA N0 Y yX0_isRepeat cX0_isRepeat 5 (some .boolean) 4 86 0 0 [.ref (b + 3), vI many, vI r] (h) sz (gP (some (vI (bI (repB (upPick (dS F)) many r)))) h sz) := by
  refine gM.of hY.ok (by decide +kernel) (Nat.le_of_ble_eq_true rfl) ?_
  intro X hX C hQ
  subst hX
  have C : gC X cX0_isRepeat RX0 "isRepeat" 5 (some .boolean) D dA N0 Y ({ frames := 4, cells := 0, slots := 0, locals := 86 }) := C
  show G X 0 0 _ _ 0 [some (.ref (b + 3)), some (vI many), some (vI r), none, none] []
  have hn := hO.1
  refine g_iconst C dX0_isRepeat_0 ?_
  refine g_istore_n1003 C dX0_isRepeat_1 (gi _) rfl ?_
  refine g_iconst C dX0_isRepeat_2 ?_
  refine g_istore1004 C dX0_isRepeat_3 (gi _) rfl ?_
  have lp5_1 : ∀ (fuel : Nat) (y : Bool) (k : Int), ((0 ≤ k ∧ k + r ≤ many) ∧ y = fo (fun i b => b && decide (upPick (dS F) i = upPick (dS F) (i + r))) true k.toNat) → (many - k).toNat < fuel → G X 0 0 (h) sz 5 [some (.ref (b + 3)), some (vI many), some (vI r), some (vI (bI y)), some (vI k)] [] := by
    intro fuel
    induction fuel with
    | zero => intro y k hI hfu; exact absurd hfu (Nat.not_lt_zero _)
    | succ fuel ih =>
      intro y k hI hfu
      have ih1 := ih
      obtain ⟨hI1, hI2⟩ := hI
      refine g_iload C dX0_isRepeat_5 (gi _) rfl ?_
      refine g_iload_n C dX0_isRepeat_7 (gi _) rfl ?_
      refine g_iadd C dX0_isRepeat_8 ?_
      refine g_iload_n C dX0_isRepeat_9 (gi _) rfl ?_
      refine g_icmp_ge C (tgt := 52) dX0_isRepeat_10 (by decide) (by omega) (fun c1 => ?_) (fun c1 => ?_)
      · refine g_iload_n C dX0_isRepeat_52 (gi _) rfl ?_
        exact g_zret C hQ rfl dX0_isRepeat_53 ⟨gz (by rw [hI2, repB, show k = many - r by omega]), rfl, rfl⟩
      · have ru := upPick_rg (S := dS F) k hO
        have ru2 := upPick_rg (S := dS F) (k + r) hO
        refine g_iload_n C dX0_isRepeat_13 (gi _) rfl ?_
        refine g_ifeq_b C (tgt := 44) dX0_isRepeat_14 (by decide) (fun c2 => ?_) (fun c2 => ?_)
        · have hy := c2
          refine g_iconst C dX0_isRepeat_44 ?_
          refine g_istore_n1003 C dX0_isRepeat_45 (gi _) rfl ?_
          refine g_iinc1004 C dX0_isRepeat_46 rfl ?_
          refine g_goto C (tgt := 5) dX0_isRepeat_49 (by decide) ?_
          exact ih1 false _ (⟨by omega, by rw [fo_s (by omega), ← hI2, hy]; rfl⟩) (by omega)
        · have hy := c2
          refine g_aload_n C dX0_isRepeat_17 (gr _) rfl ?_
          refine g_iload C dX0_isRepeat_18 (gi _) rfl ?_
          refine D_ld_weft C hD (by omega) dX0_isRepeat_20 ?_
          refine g_callFD1z C (mX12_bits_P hY (hD) (hO) (by omega)) q788 q1560 (gtoA C q1150 rfl) (gtok hY C q783 rfl) (gtok hY C q1151 rfl) (gtoL hY C 7 rfl) (gtoA C q786 rfl) (gtok hY C q787 rfl) (gtok hY C q753 rfl) ndx_3 (isD_P hD (by omega)) rfl ⟨by decide, by decide⟩ ⟨Nat.le_of_ble_eq_true rfl, Nat.le_of_ble_eq_true rfl⟩ rfl (Nat.le_of_ble_eq_true rfl) dX0_isRepeat_21 ?_
          refine g_aload_n C dX0_isRepeat_26 (gr _) rfl ?_
          refine g_iload C dX0_isRepeat_27 (gi _) rfl ?_
          refine g_iload_n C dX0_isRepeat_29 (gi _) rfl ?_
          refine g_iadd C dX0_isRepeat_30 ?_
          refine D_ld_weft C hD (by omega) dX0_isRepeat_31 ?_
          refine g_callFD1z C (mX12_bits_P hY (hD) (hO) (by omega)) q788 q1560 (gtoA C q1150 rfl) (gtok hY C q783 rfl) (gtok hY C q1151 rfl) (gtoL hY C 7 rfl) (gtoA C q786 rfl) (gtok hY C q787 rfl) (gtok hY C q753 rfl) ndx_3 (isD_P hD (by omega)) rfl ⟨by decide, by decide⟩ ⟨Nat.le_of_ble_eq_true rfl, Nat.le_of_ble_eq_true rfl⟩ rfl (Nat.le_of_ble_eq_true rfl) dX0_isRepeat_32 ?_
          refine g_icmp_ne C (tgt := 44) dX0_isRepeat_37 (by decide) (by omega) (fun c3 => ?_) (fun c3 => ?_)
          · have hne := c3
            refine g_iconst C dX0_isRepeat_44 ?_
            refine g_istore_n1003 C dX0_isRepeat_45 (gi _) rfl ?_
            refine g_iinc1004 C dX0_isRepeat_46 rfl ?_
            refine g_goto C (tgt := 5) dX0_isRepeat_49 (by decide) ?_
            exact ih1 false _ (⟨by omega, by rw [fo_s (by omega), ← hI2, decide_eq_false hne, Bool.and_false]⟩) (by omega)
          · have heq := c3
            refine g_iconst C dX0_isRepeat_40 ?_
            refine g_goto C (tgt := 45) dX0_isRepeat_41 (by decide) ?_
            refine g_istore_n1003 C dX0_isRepeat_45 (gi _) rfl ?_
            refine g_iinc1004 C dX0_isRepeat_46 rfl ?_
            refine g_goto C (tgt := 5) dX0_isRepeat_49 (by decide) ?_
            exact ih1 true _ (⟨by omega, by rw [fo_s (by omega), ← hI2, decide_eq_true heq, hy]; rfl⟩) (by omega)
  exact lp5_1 _ true _ (⟨by omega, rfl⟩) (Nat.lt_succ_self _)

theorem mX0_repeat_P {l : Launch} {D : va_G} {dA : Nat → ClassId} {N0 : Nat} {Y : State → Prop} (hY : gYc N0 Y) {h : gH} {sz x b : Nat} {F : Int → Int} (hD : isD dA x b F h) (hO : OkD F) {many : Int} (hm : many = F 1) : gM l D dA N0 Y yX0_repeat cX0_repeat 3 (some .int) 5 110 0 0 [.ref (b + 3), vI many] (h) sz (gP (some (vI (repV (upPick (dS F)) many))) h sz) := by
  refine gM.of hY.ok (by decide +kernel) (Nat.le_of_ble_eq_true rfl) ?_
  intro X hX C hQ
  subst hX
  have C : gC X cX0_repeat RX0 "repeat" 3 (some .int) D dA N0 Y ({ frames := 5, cells := 0, slots := 0, locals := 110 }) := C
  show G X 0 0 _ _ 0 [some (.ref (b + 3)), some (vI many), none] []
  have hn := hO.1
  refine g_iconst C dX0_repeat_0 ?_
  refine g_istore_n1002 C dX0_repeat_1 (gi _) rfl ?_
  have lp2_1 : ∀ (fuel : Nat) (r : Int), ((1 ≤ r ∧ r ≤ many) ∧ firstR (repB (upPick (dS F)) many) (13 - r).toNat r = repV (upPick (dS F)) many) → (many - r).toNat < fuel → G X 0 0 (h) sz 2 [some (.ref (b + 3)), some (vI many), some (vI r)] [] := by
    intro fuel
    induction fuel with
    | zero => intro r hI hfu; exact absurd hfu (Nat.not_lt_zero _)
    | succ fuel ih =>
      intro r hI hfu
      have ih1 := ih
      obtain ⟨hI1, hI2⟩ := hI
      refine g_aload_n C dX0_repeat_2 (gr _) rfl ?_
      refine g_iload_n C dX0_repeat_3 (gi _) rfl ?_
      refine g_iload_n C dX0_repeat_4 (gi _) rfl ?_
      refine g_callS1z C (mX0_isRepeat_P hY (hD) (hO) (hm) (by omega)) (lw_S q1146 q1147 q67 q1148) nd_X0_isRepeat ⟨by decide, by decide⟩ ⟨Nat.le_of_ble_eq_true rfl, Nat.le_of_ble_eq_true rfl⟩ rfl (Nat.le_of_ble_eq_true rfl) dX0_repeat_5 ?_
      refine g_ifne_b C (tgt := 17) dX0_repeat_8 (by decide) (fun c1 => ?_) (fun c1 => ?_)
      · have hb0 := c1
        refine g_iload_n C dX0_repeat_17 (gi _) rfl ?_
        exact g_iret C hQ rfl dX0_repeat_18 ⟨gv (by rw [← hI2]; exact (firstR_t hb0 (by omega)).symm), rfl, rfl⟩
      · have hb0 := c1
        refine g_iinc1002 C dX0_repeat_11 rfl ?_
        refine g_goto C (tgt := 2) dX0_repeat_14 (by decide) ?_
        have hlt : r < many := by
          rcases Int.lt_or_le r many with z | z
          · exact z
          · exfalso; rw [repB, show (many - r).toNat = 0 by omega] at hb0; simp [fo] at hb0
        exact ih1 _ (⟨by omega, by rw [show (13 - (r + 1)) = 13 - r - 1 by omega, ← firstR_f hb0 (by omega)]; exact hI2⟩) (by omega)
  exact lp2_1 _ _ (⟨by omega, rfl⟩) (Nat.lt_succ_self _)

theorem nd_X0_isSample : yX0_isSample.cls ≠ "java/lang/invoke/MethodHandle" ∧ yX0_isSample.cls ≠ "java/lang/invoke/VarHandle" ∧ (parseMethodDescriptor yX0_isSample.desc).map (fun d => d.parameters.length) = some 0 := by decide +kernel
theorem mX0_isSample {l : Launch} {D : va_G} {dA : Nat → ClassId} {N0 : Nat} {Y : State → Prop} (hY : gYc N0 Y) {h : gH} {sz x : Nat} {S : MS} {P : PS} (hO : OkD (S 0)) (hR : OkR S) : gM l D dA N0 Y yX0_isSample cX0_isSample 3 (some .boolean) 4 86 0 0 [.ref x] (ovX dA x S P h) sz (gP (some (vI (bI (sameB S)))) (ovX dA x S P h) sz) := by
  refine gM.of hY.ok (by decide +kernel) (Nat.le_of_ble_eq_true rfl) ?_
  intro X hX C hQ
  subst hX
  have C : gC X cX0_isSample RX0 "isSample" 3 (some .boolean) D dA N0 Y ({ frames := 4, cells := 0, slots := 0, locals := 86 }) := C
  show G X 0 0 _ _ 0 [some (.ref x), none, none] []
  have hn := hO.1
  have hR0 := hR
  obtain ⟨hR1, hR2, hR3⟩ := hR0
  have jn33 : ∀ (b : Bool), (b = same0 S) → G X 0 0 (ovX dA x S P h) sz 33 [some (.ref x), none, none] [vI (bI b)] := by
    intro b hb
    refine g_istore_n1001 C dX0_isSample_33 (gi _) rfl ?_
    refine g_iconst C dX0_isSample_34 ?_
    refine g_istore_n1002 C dX0_isSample_35 (gi _) rfl ?_
    have lp36_1 : ∀ (fuel : Nat) (y : Bool) (r : Int), ((0 ≤ r ∧ r ≤ S 10 0) ∧ y = fo (sameF S) (same0 S) r.toNat) → (S 10 0 - r).toNat < fuel → G X 0 0 (ovX dA x S P h) sz 36 [some (.ref x), some (vI (bI y)), some (vI r)] [] := by
      intro fuel
      induction fuel with
      | zero => intro y r hI hfu; exact absurd hfu (Nat.not_lt_zero _)
      | succ fuel ih =>
        intro y r hI hfu
        have ih1 := ih
        obtain ⟨hI1, hI2⟩ := hI
        have hu := upPick_rg (S := S) r hO
        have hu2 : upPick (dS (S 0)) r = upPick S r := rfl
        refine g_iload_n C dX0_isSample_36 (gi _) rfl ?_
        refine g_aload_n C dX0_isSample_37 (gr _) rfl ?_
        refine X_g_rowMany C q228 dX0_isSample_38 ?_
        refine g_icmp_ge C (tgt := 81) dX0_isSample_41 (by decide) (by omega) (fun c1 => ?_) (fun c1 => ?_)
        · refine g_iload_n C dX0_isSample_81 (gi _) rfl ?_
          exact g_zret C hQ rfl dX0_isSample_82 ⟨gz (by rw [hI2, show r = S 10 0 by omega]; rfl), rfl, rfl⟩
        · have hc := hR3 r hI1.1 c1
          have hsd := same0_r S
          refine g_iload_n C dX0_isSample_44 (gi _) rfl ?_
          refine g_ifeq_b C (tgt := 81) dX0_isSample_45 (by decide) (fun c2 => ?_) (fun c2 => ?_)
          · have hy := c2
            refine g_iload_n C dX0_isSample_81 (gi _) rfl ?_
            exact g_zret C hQ rfl dX0_isSample_82 ⟨gz (by rw [hy]; exact (fo_false (fun _ => rfl) ⟨hI1.1, by omega⟩ (hI2.symm.trans hy)).symm), rfl, rfl⟩
          · have hy := c2
            have hlt : same0 S = true := by
              cases hs0 : same0 S with
              | true => rfl
              | false => rw [hs0] at hI2; rw [fo_false (fun _ => rfl) ⟨Int.le_refl 0, by omega⟩ rfl] at hI2; rw [hI2] at c2; cases c2
            have hpk := hsd hlt
            refine g_aload_n C dX0_isSample_48 (gr _) rfl ?_
            refine X_g_now C q218 dX0_isSample_49 ?_
            refine D_g_weft C (isX_now _ _ _ _ _) q191 dX0_isSample_52 ?_
            refine g_iload_n C dX0_isSample_55 (gi _) rfl ?_
            refine D_ld_weft C (isX_now _ _ _ _ _) (by omega) dX0_isSample_56 ?_
            refine g_callVD1z (owner := "WeaveDraft$Look") C (mX12_bits_P hY ((isX_now _ _ _ _ _)) (hO) (by omega)) q788 q1560 (gtoD hY C 5 rfl) (gtoD hY C 6 rfl) (gtok hY C q783 rfl) (gtoL hY C 4 rfl) (gtoA C q786 rfl) ⟨by decide, by decide, ndx_3.2.2⟩ (isD_P (isX_now _ _ _ _ _) (by omega)) rfl ⟨by decide, by decide⟩ ⟨Nat.le_of_ble_eq_true rfl, Nat.le_of_ble_eq_true rfl⟩ rfl (Nat.le_of_ble_eq_true rfl) dX0_isSample_57 ?_
            refine g_aload_n C dX0_isSample_60 (gr _) rfl ?_
            refine X_g_rows C q225 dX0_isSample_61 ?_
            refine g_iload_n C dX0_isSample_64 (gi _) rfl ?_
            refine X_ld_rows C (by omega) dX0_isSample_65 ?_
            refine g_icmp_ne C (tgt := 73) dX0_isSample_66 (by decide) (by omega) (fun c3 => ?_) (fun c3 => ?_)
            · have hne : ¬ upPick S r = S 1 r := c3
              refine g_iconst C dX0_isSample_73 ?_
              refine g_istore_n1001 C dX0_isSample_74 (gi _) rfl ?_
              refine g_iinc1002 C dX0_isSample_75 rfl ?_
              refine g_goto C (tgt := 36) dX0_isSample_78 (by decide) ?_
              exact ih1 false _ (⟨by omega, by rw [fo_s (by omega), ← hI2]; simp [sameF, hne]⟩) (by omega)
            · have heq : upPick S r = S 1 r := c3
              refine g_iconst C dX0_isSample_69 ?_
              refine g_goto C (tgt := 74) dX0_isSample_70 (by decide) ?_
              refine g_istore_n1001 C dX0_isSample_74 (gi _) rfl ?_
              refine g_iinc1002 C dX0_isSample_75 rfl ?_
              refine g_goto C (tgt := 36) dX0_isSample_78 (by decide) ?_
              exact ih1 true _ (⟨by omega, by rw [fo_s (by omega), ← hI2, hy]; simp [sameF, heq]⟩) (by omega)
    exact lp36_1 _ _ _ (⟨by omega, hb⟩) (Nat.lt_succ_self _)
  refine g_aload_n C dX0_isSample_0 (gr _) rfl ?_
  refine X_g_now C q218 dX0_isSample_1 ?_
  refine D_g_ends C (isX_now _ _ _ _ _) q175 dX0_isSample_4 ?_
  refine g_aload_n C dX0_isSample_7 (gr _) rfl ?_
  refine X_g_wide C q230 dX0_isSample_8 ?_
  refine g_icmp_ne C (tgt := 32) dX0_isSample_11 (by decide) (by omega) (fun c4 => ?_) (fun c4 => ?_)
  · refine g_iconst C dX0_isSample_32 ?_
    refine g_sub (L' := [some _, none, none]) ⟨rfl, trivial⟩ ?_
    exact jn33 false (by simp [same0]; omega)
  · refine g_aload_n C dX0_isSample_14 (gr _) rfl ?_
    refine X_g_now C q218 dX0_isSample_15 ?_
    refine D_g_picks C (isX_now _ _ _ _ _) q179 dX0_isSample_18 ?_
    refine g_aload_n C dX0_isSample_21 (gr _) rfl ?_
    refine X_g_rowMany C q228 dX0_isSample_22 ?_
    refine g_icmp_ne C (tgt := 32) dX0_isSample_25 (by decide) (by omega) (fun c5 => ?_) (fun c5 => ?_)
    · refine g_iconst C dX0_isSample_32 ?_
      refine g_sub (L' := [some _, none, none]) ⟨rfl, trivial⟩ ?_
      exact jn33 false (by simp [same0]; omega)
    · refine g_iconst C dX0_isSample_28 ?_
      refine g_goto C (tgt := 33) dX0_isSample_29 (by decide) ?_
      refine g_sub (L' := [some _, none, none]) ⟨rfl, trivial⟩ ?_
      exact jn33 true (by simp [same0]; omega)
