/-! THE REFERENCE: what is found, counts, spools (read) -/
set_option maxRecDepth 100000

theorem nd_X5_treadle : yX5_treadle.cls ≠ "java/lang/invoke/MethodHandle" ∧ yX5_treadle.cls ≠ "java/lang/invoke/VarHandle" ∧ (parseMethodDescriptor yX5_treadle.desc).map (fun d => d.parameters.length) = some 1 := by decide +kernel
theorem mX5_treadle {l : Launch} {D : va_G} {dA : Nat → ClassId} {N0 : Nat} {Y : State → Prop} (hY : gYok N0 Y) {h : gH} {sz m : Nat} {S : MS} {j : Int} (hO : OkD (S 0)) (hrj : -2147483648 ≤ j ∧ j ≤ 2147483647) : gM l D dA N0 Y yX5_treadle cX5_treadle 2 (some .int) 2 46 0 0 [.ref m, vI j] (ovM dA m S h) sz (gP (some (vI (treadleV S j))) (ovM dA m S h) sz) := by
  refine gM.of hY (by decide +kernel) (Nat.le_of_ble_eq_true rfl) ?_
  intro X hX C hQ
  subst hX
  have C : gC X cX5_treadle RX5 "treadle" 2 (some .int) D dA N0 Y ({ frames := 2, cells := 0, slots := 0, locals := 46 }) := C
  show G X 0 0 _ _ 0 [some (.ref m), some (vI j)] []
  have hn := hO.1
  refine g_aload_n C dX5_treadle_0 (gr _) rfl ?_
  refine g_iload_n C dX5_treadle_1 (gi _) rfl ?_
  refine g_callV1z C (mX5_isTreadle hY (by omega)) (lw_V q1355 q1357 qs43 q72 q1358) ⟨rfl, nd_X5_isTreadle⟩ (ovM_0 _ _ _ _) rfl ⟨by decide, by decide⟩ ⟨Nat.le_of_ble_eq_true rfl, Nat.le_of_ble_eq_true rfl⟩ rfl (Nat.le_of_ble_eq_true rfl) dX5_treadle_2 ?_
  refine g_ifeq_b C (tgt := 20) dX5_treadle_5 (by decide) (fun c1 => ?_) (fun c1 => ?_)
  · refine g_bipush C dX5_treadle_20 (by decide +kernel) ?_
    exact g_iret C hQ rfl dX5_treadle_22 ⟨gv (by simp [treadleV, c1]), rfl, rfl⟩
  · have hie := inB_t.mp c1
    refine g_aload_n C dX5_treadle_8 (gr _) rfl ?_
    refine M_g_row C q1191 dX5_treadle_9 ?_
    refine g_bipush C dX5_treadle_12 (by decide +kernel) ?_
    refine g_iload_n C dX5_treadle_14 (gi _) rfl ?_
    refine g_iadd C dX5_treadle_15 ?_
    refine M_ld_row C (by omega) dX5_treadle_16 ?_
    refine g_goto C (tgt := 22) dX5_treadle_17 (by decide) ?_
    exact g_iret C hQ rfl dX5_treadle_22 ⟨gv (by simp [treadleV, c1]), rfl, rfl⟩

theorem nd_X5_cross : yX5_cross.cls ≠ "java/lang/invoke/MethodHandle" ∧ yX5_cross.cls ≠ "java/lang/invoke/VarHandle" ∧ (parseMethodDescriptor yX5_cross.desc).map (fun d => d.parameters.length) = some 3 := by decide +kernel
theorem mX5_cross {l : Launch} {D : va_G} {dA : Nat → ClassId} {N0 : Nat} {Y : State → Prop} (hY : gYok N0 Y) {h : gH} {sz m : Nat} {S : MS} {q i w : Int} (hO : OkD (S 0)) (hrq : -2147483648 ≤ q ∧ q ≤ 2147483647) (hri : -2147483648 ≤ i ∧ i ≤ 2147483647) (hrw : -2147483648 ≤ w ∧ w ≤ 2147483647) : gM l D dA N0 Y yX5_cross cX5_cross 4 (some .int) 2 46 0 0 [.ref m, vI q, vI i, vI w] (ovM dA m S h) sz (gP (some (vI (crossV S q i w))) (ovM dA m S h) sz) := by
  refine gM.of hY (by decide +kernel) (Nat.le_of_ble_eq_true rfl) ?_
  intro X hX C hQ
  subst hX
  have C : gC X cX5_cross RX5 "cross" 4 (some .int) D dA N0 Y ({ frames := 2, cells := 0, slots := 0, locals := 46 }) := C
  show G X 0 0 _ _ 0 [some (.ref m), some (vI q), some (vI i), some (vI w)] []
  have hn := hO.1
  refine g_aload_n C dX5_cross_0 (gr _) rfl ?_
  refine g_iload_n C dX5_cross_1 (gi _) rfl ?_
  refine g_callV1z C (mX5_isPick hY (by omega)) (lw_V q1339 q1341 qs40 q72 q1342) ⟨rfl, nd_X5_isPick⟩ (ovM_0 _ _ _ _) rfl ⟨by decide, by decide⟩ ⟨Nat.le_of_ble_eq_true rfl, Nat.le_of_ble_eq_true rfl⟩ rfl (Nat.le_of_ble_eq_true rfl) dX5_cross_2 ?_
  refine g_ifeq_b C (tgt := 16) dX5_cross_5 (by decide) (fun c1 => ?_) (fun c1 => ?_)
  · refine g_bipush C dX5_cross_16 (by decide +kernel) ?_
    exact g_iret C hQ rfl dX5_cross_18 ⟨gv (by simp_all [crossV, bI]), rfl, rfl⟩
  · refine g_aload_n C dX5_cross_8 (gr _) rfl ?_
    refine g_iload_n C dX5_cross_9 (gi _) rfl ?_
    refine g_callV1z C (mX5_isEnd hY (by omega)) (lw_V q1317 q1319 qs37 q72 q1320) ⟨rfl, nd_X5_isEnd⟩ (ovM_0 _ _ _ _) rfl ⟨by decide, by decide⟩ ⟨Nat.le_of_ble_eq_true rfl, Nat.le_of_ble_eq_true rfl⟩ rfl (Nat.le_of_ble_eq_true rfl) dX5_cross_10 ?_
    refine g_ifne_b C (tgt := 19) dX5_cross_13 (by decide) (fun c2 => ?_) (fun c2 => ?_)
    · have hqe := inB_t.mp c1
      have hie := inB_t.mp c2
      have hxx := hO.2.2.2.2.1 i hie.1 (by omega)
      have hyy := hO.2.2.2.2.2 q hqe.1 (by omega)
      refine g_iload_n C dX5_cross_19 (gi _) rfl ?_
      refine g_i2lz C dX5_cross_20 (by omega) ?_
      refine g_lconstz C 0 rfl dX5_cross_21 ?_
      refine g_lconstz C 1 rfl dX5_cross_22 ?_
      refine g_callS1z C (mX5_in hY (by omega)) (lw_S q1252 q1253 q72 q1254) nd_X5_in ⟨by decide, by decide⟩ ⟨Nat.le_of_ble_eq_true rfl, Nat.le_of_ble_eq_true rfl⟩ rfl (Nat.le_of_ble_eq_true rfl) dX5_cross_23 ?_
      refine g_ifne_b C (tgt := 32) dX5_cross_26 (by decide) (fun c3 => ?_) (fun c3 => ?_)
      · refine g_iload_n C dX5_cross_32 (gi _) rfl ?_
        refine g_if_ne C (tgt := 53) dX5_cross_33 (by decide) (by omega) (fun c4 => ?_) (fun c4 => ?_)
        · refine g_aload_n C dX5_cross_53 (gr _) rfl ?_
          refine g_iload_n C dX5_cross_54 (gi _) rfl ?_
          refine g_iload_n C dX5_cross_55 (gi _) rfl ?_
          refine g_callV1z C (mX5_isUp hY (hO) (by omega) (by omega)) (lw_V q1325 q1327 qs39 q72 q1328) ⟨rfl, nd_X5_isUp⟩ (ovM_0 _ _ _ _) rfl ⟨by decide, by decide⟩ ⟨Nat.le_of_ble_eq_true rfl, Nat.le_of_ble_eq_true rfl⟩ rfl (Nat.le_of_ble_eq_true rfl) dX5_cross_56 ?_
          refine g_ifeq_b C (tgt := 74) dX5_cross_59 (by decide) (fun c5 => ?_) (fun c5 => ?_)
          · refine g_aload_n C dX5_cross_74 (gr _) rfl ?_
            refine M_g_row C q1191 dX5_cross_75 ?_
            refine g_bipush C dX5_cross_78 (by decide +kernel) ?_
            refine g_iload_n C dX5_cross_80 (gi _) rfl ?_
            refine g_iadd C dX5_cross_81 ?_
            refine M_ld_row C (by omega) dX5_cross_82 ?_
            exact g_iret C hQ rfl dX5_cross_83 ⟨gv (by simp_all [crossV, bI]), rfl, rfl⟩
          · refine g_aload_n C dX5_cross_62 (gr _) rfl ?_
            refine M_g_row C q1191 dX5_cross_63 ?_
            refine g_bipush C dX5_cross_66 (by decide +kernel) ?_
            refine g_iload_n C dX5_cross_68 (gi _) rfl ?_
            refine g_iadd C dX5_cross_69 ?_
            refine M_ld_row C (by omega) dX5_cross_70 ?_
            refine g_goto C (tgt := 83) dX5_cross_71 (by decide) ?_
            exact g_iret C hQ rfl dX5_cross_83 ⟨gv (by simp_all [crossV, bI]), rfl, rfl⟩
        · refine g_aload_n C dX5_cross_36 (gr _) rfl ?_
          refine g_iload_n C dX5_cross_37 (gi _) rfl ?_
          refine g_iload_n C dX5_cross_38 (gi _) rfl ?_
          refine g_callV1z C (mX5_isUp hY (hO) (by omega) (by omega)) (lw_V q1325 q1327 qs39 q72 q1328) ⟨rfl, nd_X5_isUp⟩ (ovM_0 _ _ _ _) rfl ⟨by decide, by decide⟩ ⟨Nat.le_of_ble_eq_true rfl, Nat.le_of_ble_eq_true rfl⟩ rfl (Nat.le_of_ble_eq_true rfl) dX5_cross_39 ?_
          refine g_ifeq_b C (tgt := 49) dX5_cross_42 (by decide) (fun c6 => ?_) (fun c6 => ?_)
          · refine g_iconst C dX5_cross_49 ?_
            refine g_goto C (tgt := 83) dX5_cross_50 (by decide) ?_
            exact g_iret C hQ rfl dX5_cross_83 ⟨gv (by simp_all [crossV, bI]), rfl, rfl⟩
          · refine g_iconst C dX5_cross_45 ?_
            refine g_goto C (tgt := 83) dX5_cross_46 (by decide) ?_
            exact g_iret C hQ rfl dX5_cross_83 ⟨gv (by simp_all [crossV, bI]), rfl, rfl⟩
      · refine g_bipush C dX5_cross_29 (by decide +kernel) ?_
        exact g_iret C hQ rfl dX5_cross_31 ⟨gv (by simp_all [crossV, bI]), rfl, rfl⟩
    · refine g_bipush C dX5_cross_16 (by decide +kernel) ?_
      exact g_iret C hQ rfl dX5_cross_18 ⟨gv (by simp_all [crossV, bI]), rfl, rfl⟩

theorem nd_X5_longestOfEnds : yX5_longestOfEnds.cls ≠ "java/lang/invoke/MethodHandle" ∧ yX5_longestOfEnds.cls ≠ "java/lang/invoke/VarHandle" ∧ (parseMethodDescriptor yX5_longestOfEnds.desc).map (fun d => d.parameters.length) = some 0 := by decide +kernel
theorem mX5_longestOfEnds {l : Launch} {D : va_G} {dA : Nat → ClassId} {N0 : Nat} {Y : State → Prop} (hY : gYok N0 Y) {h : gH} {sz m : Nat} {S : MS} (hO : OkD (S 0)) : gM l D dA N0 Y yX5_longestOfEnds cX5_longestOfEnds 5 (some .int) 3 66 0 0 [.ref m] (ovM dA m S h) sz (gP (some (vI (loeV S))) (ovM dA m S h) sz) := by
  refine gM.of hY (by decide +kernel) (Nat.le_of_ble_eq_true rfl) ?_
  intro X hX C hQ
  subst hX
  have C : gC X cX5_longestOfEnds RX5 "longestOfEnds" 5 (some .int) D dA N0 Y ({ frames := 3, cells := 0, slots := 0, locals := 66 }) := C
  show G X 0 0 _ _ 0 [some (.ref m), none, none, none, none] []
  have hn := hO.1
  refine g_iconst C dX5_longestOfEnds_0 ?_
  refine g_istore_n1001 C dX5_longestOfEnds_1 (gi _) rfl ?_
  refine g_iconst C dX5_longestOfEnds_2 ?_
  refine g_istore_n1002 C dX5_longestOfEnds_3 (gi _) rfl ?_
  have lp4_1 : ∀ (fuel : Nat) (mo i : Int), ((0 ≤ i ∧ i ≤ S 0 0) ∧ mo = fo (lgF (upEnd S) (S 0 1) true false) 0 i.toNat ∧ 0 ≤ mo ∧ mo ≤ 12) → (S 0 0 - i).toNat < fuel → G X 0 0 (ovM dA m S h) sz 4 [some (.ref m), some (vI mo), some (vI i), none, none] [] := by
    intro fuel
    induction fuel with
    | zero => intro mo i hI hfu; exact absurd hfu (Nat.not_lt_zero _)
    | succ fuel ih =>
      intro mo i hI hfu
      have ih1 := ih
      obtain ⟨hI1, hI2, hI3⟩ := hI
      refine g_iload_n C dX5_longestOfEnds_4 (gi _) rfl ?_
      refine g_aload_n C dX5_longestOfEnds_5 (gr _) rfl ?_
      refine M_g_row C q1191 dX5_longestOfEnds_6 ?_
      refine g_iconst C dX5_longestOfEnds_9 ?_
      refine M_ld_row C (by omega) dX5_longestOfEnds_10 ?_
      refine g_icmp_ge C (tgt := 77) dX5_longestOfEnds_11 (by decide) (by omega) (fun c1 => ?_) (fun c1 => ?_)
      · refine g_iload_n C dX5_longestOfEnds_77 (gi _) rfl ?_
        exact g_iret C hQ rfl dX5_longestOfEnds_78 ⟨gv (by rw [hI2, show i = S 0 0 by omega]; rfl), rfl, rfl⟩
      · have hu := upEnd_rg (S := S) i hO
        have ha := runV_rg (upEnd S i) (S 0 1) true (by omega)
        have hb := runV_rg (upEnd S i) (S 0 1) false (by omega)
        refine g_aload_n C dX5_longestOfEnds_14 (gr _) rfl ?_
        refine g_iload_n C dX5_longestOfEnds_15 (gi _) rfl ?_
        refine g_callV1z C (mX5_upEnd hY (hO) (by omega)) (lw_V q1321 q1323 qs38 q72 q1324) ⟨rfl, nd_X5_upEnd⟩ (ovM_0 _ _ _ _) rfl ⟨by decide, by decide⟩ ⟨Nat.le_of_ble_eq_true rfl, Nat.le_of_ble_eq_true rfl⟩ rfl (Nat.le_of_ble_eq_true rfl) dX5_longestOfEnds_16 ?_
        refine g_aload_n C dX5_longestOfEnds_19 (gr _) rfl ?_
        refine M_g_row C q1191 dX5_longestOfEnds_20 ?_
        refine g_iconst C dX5_longestOfEnds_23 ?_
        refine M_ld_row C (by omega) dX5_longestOfEnds_24 ?_
        refine g_iconst C dX5_longestOfEnds_25 ?_
        refine g_callS1z C (mX5_run hY (by omega) (by omega) (b := true)) (lw_S q1332 q1333 q72 q1334) nd_X5_run ⟨by decide, by decide⟩ ⟨Nat.le_of_ble_eq_true rfl, Nat.le_of_ble_eq_true rfl⟩ rfl (Nat.le_of_ble_eq_true rfl) dX5_longestOfEnds_26 ?_
        refine g_istore_n1003 C dX5_longestOfEnds_29 (gi _) rfl ?_
        refine g_aload_n C dX5_longestOfEnds_30 (gr _) rfl ?_
        refine g_iload_n C dX5_longestOfEnds_31 (gi _) rfl ?_
        refine g_callV1z C (mX5_upEnd hY (hO) (by omega)) (lw_V q1321 q1323 qs38 q72 q1324) ⟨rfl, nd_X5_upEnd⟩ (ovM_0 _ _ _ _) rfl ⟨by decide, by decide⟩ ⟨Nat.le_of_ble_eq_true rfl, Nat.le_of_ble_eq_true rfl⟩ rfl (Nat.le_of_ble_eq_true rfl) dX5_longestOfEnds_32 ?_
        refine g_aload_n C dX5_longestOfEnds_35 (gr _) rfl ?_
        refine M_g_row C q1191 dX5_longestOfEnds_36 ?_
        refine g_iconst C dX5_longestOfEnds_39 ?_
        refine M_ld_row C (by omega) dX5_longestOfEnds_40 ?_
        refine g_iconst C dX5_longestOfEnds_41 ?_
        refine g_callS1z C (mX5_run hY (by omega) (by omega) (b := false)) (lw_S q1332 q1333 q72 q1334) nd_X5_run ⟨by decide, by decide⟩ ⟨Nat.le_of_ble_eq_true rfl, Nat.le_of_ble_eq_true rfl⟩ rfl (Nat.le_of_ble_eq_true rfl) dX5_longestOfEnds_42 ?_
        refine g_istore1004 C dX5_longestOfEnds_45 (gi _) rfl ?_
        refine g_iload_n C dX5_longestOfEnds_47 (gi _) rfl ?_
        refine g_iload_n C dX5_longestOfEnds_48 (gi _) rfl ?_
        refine g_icmp_le C (tgt := 56) dX5_longestOfEnds_49 (by decide) (by omega) (fun c2 => ?_) (fun c2 => ?_)
        · refine g_iload_n C dX5_longestOfEnds_56 (gi _) rfl ?_
          refine g_istore_n1001 C dX5_longestOfEnds_57 (gi _) rfl ?_
          refine g_iload C dX5_longestOfEnds_58 (gi _) rfl ?_
          refine g_iload_n C dX5_longestOfEnds_60 (gi _) rfl ?_
          refine g_icmp_le C (tgt := 69) dX5_longestOfEnds_61 (by decide) (by omega) (fun c3 => ?_) (fun c3 => ?_)
          · refine g_iload_n C dX5_longestOfEnds_69 (gi _) rfl ?_
            refine g_istore_n1001 C dX5_longestOfEnds_70 (gi _) rfl ?_
            refine g_iinc1002 C dX5_longestOfEnds_71 rfl ?_
            refine g_goto C (tgt := 4) dX5_longestOfEnds_74 (by decide) ?_
            refine g_sub (L' := [some _, some _, some _, none, none]) ⟨rfl, ⟨rfl, ⟨rfl, trivial⟩⟩⟩ ?_
            exact ih1 _ _ (⟨by omega, by rw [fo_s (by omega), ← hI2]; unfold lgF mxI; (repeat' split) <;> omega, by omega⟩) (by omega)
          · refine g_iload C dX5_longestOfEnds_64 (gi _) rfl ?_
            refine g_goto C (tgt := 70) dX5_longestOfEnds_66 (by decide) ?_
            refine g_istore_n1001 C dX5_longestOfEnds_70 (gi _) rfl ?_
            refine g_iinc1002 C dX5_longestOfEnds_71 rfl ?_
            refine g_goto C (tgt := 4) dX5_longestOfEnds_74 (by decide) ?_
            refine g_sub (L' := [some _, some _, some _, none, none]) ⟨rfl, ⟨rfl, ⟨rfl, trivial⟩⟩⟩ ?_
            exact ih1 _ _ (⟨by omega, by rw [fo_s (by omega), ← hI2]; unfold lgF mxI; (repeat' split) <;> omega, by omega⟩) (by omega)
        · refine g_iload_n C dX5_longestOfEnds_52 (gi _) rfl ?_
          refine g_goto C (tgt := 57) dX5_longestOfEnds_53 (by decide) ?_
          refine g_istore_n1001 C dX5_longestOfEnds_57 (gi _) rfl ?_
          refine g_iload C dX5_longestOfEnds_58 (gi _) rfl ?_
          refine g_iload_n C dX5_longestOfEnds_60 (gi _) rfl ?_
          refine g_icmp_le C (tgt := 69) dX5_longestOfEnds_61 (by decide) (by omega) (fun c4 => ?_) (fun c4 => ?_)
          · refine g_iload_n C dX5_longestOfEnds_69 (gi _) rfl ?_
            refine g_istore_n1001 C dX5_longestOfEnds_70 (gi _) rfl ?_
            refine g_iinc1002 C dX5_longestOfEnds_71 rfl ?_
            refine g_goto C (tgt := 4) dX5_longestOfEnds_74 (by decide) ?_
            refine g_sub (L' := [some _, some _, some _, none, none]) ⟨rfl, ⟨rfl, ⟨rfl, trivial⟩⟩⟩ ?_
            exact ih1 _ _ (⟨by omega, by rw [fo_s (by omega), ← hI2]; unfold lgF mxI; (repeat' split) <;> omega, by omega⟩) (by omega)
          · refine g_iload C dX5_longestOfEnds_64 (gi _) rfl ?_
            refine g_goto C (tgt := 70) dX5_longestOfEnds_66 (by decide) ?_
            refine g_istore_n1001 C dX5_longestOfEnds_70 (gi _) rfl ?_
            refine g_iinc1002 C dX5_longestOfEnds_71 rfl ?_
            refine g_goto C (tgt := 4) dX5_longestOfEnds_74 (by decide) ?_
            refine g_sub (L' := [some _, some _, some _, none, none]) ⟨rfl, ⟨rfl, ⟨rfl, trivial⟩⟩⟩ ?_
            exact ih1 _ _ (⟨by omega, by rw [fo_s (by omega), ← hI2]; unfold lgF mxI; (repeat' split) <;> omega, by omega⟩) (by omega)
  refine g_sub (L' := [some _, some _, some _, none, none]) ⟨rfl, ⟨rfl, ⟨rfl, trivial⟩⟩⟩ ?_
  exact lp4_1 _ _ _ (⟨by omega, rfl, by omega⟩) (Nat.lt_succ_self _)

theorem nd_X5_longestOfPicks : yX5_longestOfPicks.cls ≠ "java/lang/invoke/MethodHandle" ∧ yX5_longestOfPicks.cls ≠ "java/lang/invoke/VarHandle" ∧ (parseMethodDescriptor yX5_longestOfPicks.desc).map (fun d => d.parameters.length) = some 0 := by decide +kernel
theorem mX5_longestOfPicks {l : Launch} {D : va_G} {dA : Nat → ClassId} {N0 : Nat} {Y : State → Prop} (hY : gYok N0 Y) {h : gH} {sz m : Nat} {S : MS} (hO : OkD (S 0)) : gM l D dA N0 Y yX5_longestOfPicks cX5_longestOfPicks 5 (some .int) 3 66 0 0 [.ref m] (ovM dA m S h) sz (gP (some (vI (lopV S))) (ovM dA m S h) sz) := by
  refine gM.of hY (by decide +kernel) (Nat.le_of_ble_eq_true rfl) ?_
  intro X hX C hQ
  subst hX
  have C : gC X cX5_longestOfPicks RX5 "longestOfPicks" 5 (some .int) D dA N0 Y ({ frames := 3, cells := 0, slots := 0, locals := 66 }) := C
  show G X 0 0 _ _ 0 [some (.ref m), none, none, none, none] []
  have hn := hO.1
  refine g_iconst C dX5_longestOfPicks_0 ?_
  refine g_istore_n1001 C dX5_longestOfPicks_1 (gi _) rfl ?_
  refine g_iconst C dX5_longestOfPicks_2 ?_
  refine g_istore_n1002 C dX5_longestOfPicks_3 (gi _) rfl ?_
  have lp4_1 : ∀ (fuel : Nat) (mo i : Int), ((0 ≤ i ∧ i ≤ S 0 1) ∧ mo = fo (lgF (upPick S) (S 0 0) false true) 0 i.toNat ∧ 0 ≤ mo ∧ mo ≤ 12) → (S 0 1 - i).toNat < fuel → G X 0 0 (ovM dA m S h) sz 4 [some (.ref m), some (vI mo), some (vI i), none, none] [] := by
    intro fuel
    induction fuel with
    | zero => intro mo i hI hfu; exact absurd hfu (Nat.not_lt_zero _)
    | succ fuel ih =>
      intro mo i hI hfu
      have ih1 := ih
      obtain ⟨hI1, hI2, hI3⟩ := hI
      refine g_iload_n C dX5_longestOfPicks_4 (gi _) rfl ?_
      refine g_aload_n C dX5_longestOfPicks_5 (gr _) rfl ?_
      refine M_g_row C q1191 dX5_longestOfPicks_6 ?_
      refine g_iconst C dX5_longestOfPicks_9 ?_
      refine M_ld_row C (by omega) dX5_longestOfPicks_10 ?_
      refine g_icmp_ge C (tgt := 77) dX5_longestOfPicks_11 (by decide) (by omega) (fun c1 => ?_) (fun c1 => ?_)
      · refine g_iload_n C dX5_longestOfPicks_77 (gi _) rfl ?_
        exact g_iret C hQ rfl dX5_longestOfPicks_78 ⟨gv (by rw [hI2, show i = S 0 1 by omega]; rfl), rfl, rfl⟩
      · have hu := upPick_rg (S := S) i hO
        have ha := runV_rg (upPick S i) (S 0 0) true (by omega)
        have hb := runV_rg (upPick S i) (S 0 0) false (by omega)
        refine g_aload_n C dX5_longestOfPicks_14 (gr _) rfl ?_
        refine g_iload_n C dX5_longestOfPicks_15 (gi _) rfl ?_
        refine g_callV1z C (mX5_upPick hY (hO) (by omega)) (lw_V q1343 q1345 qs41 q72 q1346) ⟨rfl, nd_X5_upPick⟩ (ovM_0 _ _ _ _) rfl ⟨by decide, by decide⟩ ⟨Nat.le_of_ble_eq_true rfl, Nat.le_of_ble_eq_true rfl⟩ rfl (Nat.le_of_ble_eq_true rfl) dX5_longestOfPicks_16 ?_
        refine g_aload_n C dX5_longestOfPicks_19 (gr _) rfl ?_
        refine M_g_row C q1191 dX5_longestOfPicks_20 ?_
        refine g_iconst C dX5_longestOfPicks_23 ?_
        refine M_ld_row C (by omega) dX5_longestOfPicks_24 ?_
        refine g_iconst C dX5_longestOfPicks_25 ?_
        refine g_callS1z C (mX5_run hY (by omega) (by omega) (b := true)) (lw_S q1332 q1333 q72 q1334) nd_X5_run ⟨by decide, by decide⟩ ⟨Nat.le_of_ble_eq_true rfl, Nat.le_of_ble_eq_true rfl⟩ rfl (Nat.le_of_ble_eq_true rfl) dX5_longestOfPicks_26 ?_
        refine g_istore_n1003 C dX5_longestOfPicks_29 (gi _) rfl ?_
        refine g_aload_n C dX5_longestOfPicks_30 (gr _) rfl ?_
        refine g_iload_n C dX5_longestOfPicks_31 (gi _) rfl ?_
        refine g_callV1z C (mX5_upPick hY (hO) (by omega)) (lw_V q1343 q1345 qs41 q72 q1346) ⟨rfl, nd_X5_upPick⟩ (ovM_0 _ _ _ _) rfl ⟨by decide, by decide⟩ ⟨Nat.le_of_ble_eq_true rfl, Nat.le_of_ble_eq_true rfl⟩ rfl (Nat.le_of_ble_eq_true rfl) dX5_longestOfPicks_32 ?_
        refine g_aload_n C dX5_longestOfPicks_35 (gr _) rfl ?_
        refine M_g_row C q1191 dX5_longestOfPicks_36 ?_
        refine g_iconst C dX5_longestOfPicks_39 ?_
        refine M_ld_row C (by omega) dX5_longestOfPicks_40 ?_
        refine g_iconst C dX5_longestOfPicks_41 ?_
        refine g_callS1z C (mX5_run hY (by omega) (by omega) (b := false)) (lw_S q1332 q1333 q72 q1334) nd_X5_run ⟨by decide, by decide⟩ ⟨Nat.le_of_ble_eq_true rfl, Nat.le_of_ble_eq_true rfl⟩ rfl (Nat.le_of_ble_eq_true rfl) dX5_longestOfPicks_42 ?_
        refine g_istore1004 C dX5_longestOfPicks_45 (gi _) rfl ?_
        refine g_iload C dX5_longestOfPicks_47 (gi _) rfl ?_
        refine g_iload_n C dX5_longestOfPicks_49 (gi _) rfl ?_
        refine g_icmp_le C (tgt := 58) dX5_longestOfPicks_50 (by decide) (by omega) (fun c2 => ?_) (fun c2 => ?_)
        · refine g_iload_n C dX5_longestOfPicks_58 (gi _) rfl ?_
          refine g_istore_n1001 C dX5_longestOfPicks_59 (gi _) rfl ?_
          refine g_iload_n C dX5_longestOfPicks_60 (gi _) rfl ?_
          refine g_iload_n C dX5_longestOfPicks_61 (gi _) rfl ?_
          refine g_icmp_le C (tgt := 69) dX5_longestOfPicks_62 (by decide) (by omega) (fun c3 => ?_) (fun c3 => ?_)
          · refine g_iload_n C dX5_longestOfPicks_69 (gi _) rfl ?_
            refine g_istore_n1001 C dX5_longestOfPicks_70 (gi _) rfl ?_
            refine g_iinc1002 C dX5_longestOfPicks_71 rfl ?_
            refine g_goto C (tgt := 4) dX5_longestOfPicks_74 (by decide) ?_
            refine g_sub (L' := [some _, some _, some _, none, none]) ⟨rfl, ⟨rfl, ⟨rfl, trivial⟩⟩⟩ ?_
            exact ih1 _ _ (⟨by omega, by rw [fo_s (by omega), ← hI2]; unfold lgF mxI; (repeat' split) <;> omega, by omega⟩) (by omega)
          · refine g_iload_n C dX5_longestOfPicks_65 (gi _) rfl ?_
            refine g_goto C (tgt := 70) dX5_longestOfPicks_66 (by decide) ?_
            refine g_istore_n1001 C dX5_longestOfPicks_70 (gi _) rfl ?_
            refine g_iinc1002 C dX5_longestOfPicks_71 rfl ?_
            refine g_goto C (tgt := 4) dX5_longestOfPicks_74 (by decide) ?_
            refine g_sub (L' := [some _, some _, some _, none, none]) ⟨rfl, ⟨rfl, ⟨rfl, trivial⟩⟩⟩ ?_
            exact ih1 _ _ (⟨by omega, by rw [fo_s (by omega), ← hI2]; unfold lgF mxI; (repeat' split) <;> omega, by omega⟩) (by omega)
        · refine g_iload C dX5_longestOfPicks_53 (gi _) rfl ?_
          refine g_goto C (tgt := 59) dX5_longestOfPicks_55 (by decide) ?_
          refine g_istore_n1001 C dX5_longestOfPicks_59 (gi _) rfl ?_
          refine g_iload_n C dX5_longestOfPicks_60 (gi _) rfl ?_
          refine g_iload_n C dX5_longestOfPicks_61 (gi _) rfl ?_
          refine g_icmp_le C (tgt := 69) dX5_longestOfPicks_62 (by decide) (by omega) (fun c4 => ?_) (fun c4 => ?_)
          · refine g_iload_n C dX5_longestOfPicks_69 (gi _) rfl ?_
            refine g_istore_n1001 C dX5_longestOfPicks_70 (gi _) rfl ?_
            refine g_iinc1002 C dX5_longestOfPicks_71 rfl ?_
            refine g_goto C (tgt := 4) dX5_longestOfPicks_74 (by decide) ?_
            refine g_sub (L' := [some _, some _, some _, none, none]) ⟨rfl, ⟨rfl, ⟨rfl, trivial⟩⟩⟩ ?_
            exact ih1 _ _ (⟨by omega, by rw [fo_s (by omega), ← hI2]; unfold lgF mxI; (repeat' split) <;> omega, by omega⟩) (by omega)
          · refine g_iload_n C dX5_longestOfPicks_65 (gi _) rfl ?_
            refine g_goto C (tgt := 70) dX5_longestOfPicks_66 (by decide) ?_
            refine g_istore_n1001 C dX5_longestOfPicks_70 (gi _) rfl ?_
            refine g_iinc1002 C dX5_longestOfPicks_71 rfl ?_
            refine g_goto C (tgt := 4) dX5_longestOfPicks_74 (by decide) ?_
            refine g_sub (L' := [some _, some _, some _, none, none]) ⟨rfl, ⟨rfl, ⟨rfl, trivial⟩⟩⟩ ?_
            exact ih1 _ _ (⟨by omega, by rw [fo_s (by omega), ← hI2]; unfold lgF mxI; (repeat' split) <;> omega, by omega⟩) (by omega)
  refine g_sub (L' := [some _, some _, some _, none, none]) ⟨rfl, ⟨rfl, ⟨rfl, trivial⟩⟩⟩ ?_
  exact lp4_1 _ _ _ (⟨by omega, rfl, by omega⟩) (Nat.lt_succ_self _)

theorem nd_X5_repeatOfEnds : yX5_repeatOfEnds.cls ≠ "java/lang/invoke/MethodHandle" ∧ yX5_repeatOfEnds.cls ≠ "java/lang/invoke/VarHandle" ∧ (parseMethodDescriptor yX5_repeatOfEnds.desc).map (fun d => d.parameters.length) = some 0 := by decide +kernel
theorem mX5_repeatOfEnds {l : Launch} {D : va_G} {dA : Nat → ClassId} {N0 : Nat} {Y : State → Prop} (hY : gYok N0 Y) {h : gH} {sz m : Nat} {S : MS} (hO : OkD (S 0)) : gM l D dA N0 Y yX5_repeatOfEnds cX5_repeatOfEnds 4 (some .int) 3 66 0 0 [.ref m] (ovM dA m S h) sz (gP (some (vI (repV (upEnd S) (S 0 0)))) (ovM dA m S h) sz) := by
  refine gM.of hY (by decide +kernel) (Nat.le_of_ble_eq_true rfl) ?_
  intro X hX C hQ
  subst hX
  have C : gC X cX5_repeatOfEnds RX5 "repeatOfEnds" 4 (some .int) D dA N0 Y ({ frames := 3, cells := 0, slots := 0, locals := 66 }) := C
  show G X 0 0 _ _ 0 [some (.ref m), none, none, none] []
  have hn := hO.1
  refine g_iconst C dX5_repeatOfEnds_0 ?_
  refine g_istore_n1001 C dX5_repeatOfEnds_1 (gi _) rfl ?_
  refine g_iconst C dX5_repeatOfEnds_2 ?_
  refine g_istore_n1002 C dX5_repeatOfEnds_3 (gi _) rfl ?_
  have lp4_1 : ∀ (fuel : Nat) (r : Int) (is : Bool), ((1 ≤ r ∧ r ≤ S 0 0) ∧ (if is = true then r = repV (upEnd S) (S 0 0) else firstR (repB (upEnd S) (S 0 0)) (13 - r).toNat r = repV (upEnd S) (S 0 0))) → ((if is = true then 0 else 13 - r)).toNat < fuel → G X 0 0 (ovM dA m S h) sz 4 [some (.ref m), some (vI r), some (vI (bI is)), none] [] := by
    intro fuel
    induction fuel with
    | zero => intro r is hI hfu; exact absurd hfu (Nat.not_lt_zero _)
    | succ fuel ih =>
      intro r is hI hfu
      have ih1 := ih
      obtain ⟨hI1, hI2⟩ := hI
      refine g_iload_n C dX5_repeatOfEnds_4 (gi _) rfl ?_
      refine g_ifne_b C (tgt := 70) dX5_repeatOfEnds_5 (by decide) (fun c1 => ?_) (fun c1 => ?_)
      · subst c1
        rw [if_pos rfl] at hI2
        refine g_iload_n C dX5_repeatOfEnds_70 (gi _) rfl ?_
        exact g_iret C hQ rfl dX5_repeatOfEnds_71 ⟨gv (by exact hI2), rfl, rfl⟩
      · subst c1
        rw [if_neg (by decide)] at hI2
        rw [if_neg (by decide)] at hfu
        refine g_iconst C dX5_repeatOfEnds_8 ?_
        refine g_istore_n1002 C dX5_repeatOfEnds_9 (gi _) rfl ?_
        refine g_iconst C dX5_repeatOfEnds_10 ?_
        refine g_istore_n1003 C dX5_repeatOfEnds_11 (gi _) rfl ?_
        have lp12_2 : ∀ (fuel : Nat) (b : Bool) (i : Int), ((0 ≤ i ∧ i + r ≤ S 0 0) ∧ b = fo (fun i b => b && decide (upEnd S i = upEnd S (i + r))) true i.toNat) → (S 0 0 - i).toNat < fuel → G X 0 0 (ovM dA m S h) sz 12 [some (.ref m), some (vI r), some (vI (bI b)), some (vI i)] [] := by
          intro fuel
          induction fuel with
          | zero => intro b i hI hfu; exact absurd hfu (Nat.not_lt_zero _)
          | succ fuel ih =>
            intro b i hI hfu
            have ih2 := ih
            obtain ⟨hJ1, hJ⟩ := hI
            have hq := upEnd_rg (S := S) i hO
            have hq2 := upEnd_rg (S := S) (i + r) hO
            refine g_iload_n C dX5_repeatOfEnds_12 (gi _) rfl ?_
            refine g_iload_n C dX5_repeatOfEnds_13 (gi _) rfl ?_
            refine g_iadd C dX5_repeatOfEnds_14 ?_
            refine g_aload_n C dX5_repeatOfEnds_15 (gr _) rfl ?_
            refine M_g_row C q1191 dX5_repeatOfEnds_16 ?_
            refine g_iconst C dX5_repeatOfEnds_19 ?_
            refine M_ld_row C (by omega) dX5_repeatOfEnds_20 ?_
            refine g_icmp_ge C (tgt := 55) dX5_repeatOfEnds_21 (by decide) (by omega) (fun c2 => ?_) (fun c2 => ?_)
            · have hie : i.toNat = (S 0 0 - r).toNat := by omega
              refine g_iload_n C dX5_repeatOfEnds_55 (gi _) rfl ?_
              refine g_iload_n C dX5_repeatOfEnds_56 (gi _) rfl ?_
              refine g_ifeq_b C (tgt := 64) dX5_repeatOfEnds_57 (by decide) (fun c3 => ?_) (fun c3 => ?_)
              · subst c3
                refine g_iconst C dX5_repeatOfEnds_64 ?_
                refine g_iadd C dX5_repeatOfEnds_65 ?_
                refine g_istore_n1001 C dX5_repeatOfEnds_66 (gi _) rfl ?_
                refine g_goto C (tgt := 4) dX5_repeatOfEnds_67 (by decide) ?_
                have hb0 : repB (upEnd S) (S 0 0) r = false := by rw [repB, ← hie]; exact hJ.symm
                have hlt : r < S 0 0 := by
                  rcases Int.lt_or_le r (S 0 0) with z | z
                  · exact z
                  · exfalso; rw [repB, show (S 0 0 - r).toNat = 0 by omega] at hb0; simp [fo] at hb0
                refine g_sub (L' := [some _, some _, some _, none]) ⟨rfl, ⟨rfl, ⟨rfl, trivial⟩⟩⟩ ?_
                exact ih1 (r + 1) false (⟨by omega, by rw [if_neg (by decide), show (13 - (r + 1)) = 13 - r - 1 by omega, ← firstR_f hb0 (by omega)]; exact hI2⟩) (by rw [if_neg (by decide)]; omega)
              · subst c3
                refine g_iconst C dX5_repeatOfEnds_60 ?_
                refine g_goto C (tgt := 65) dX5_repeatOfEnds_61 (by decide) ?_
                refine g_iadd C dX5_repeatOfEnds_65 ?_
                refine g_istore_n1001 C dX5_repeatOfEnds_66 (gi _) rfl ?_
                refine g_goto C (tgt := 4) dX5_repeatOfEnds_67 (by decide) ?_
                have hb0 : repB (upEnd S) (S 0 0) r = true := by rw [repB, ← hie]; exact hJ.symm
                rw [firstR_t hb0 (by omega)] at hI2
                refine g_sub (L' := [some _, some _, some _, none]) ⟨rfl, ⟨rfl, ⟨rfl, trivial⟩⟩⟩ ?_
                exact ih1 (r + 0) true (⟨by omega, by rw [if_pos rfl]; omega⟩) (by rw [if_pos rfl]; omega)
            · refine g_iload_n C dX5_repeatOfEnds_24 (gi _) rfl ?_
              refine g_ifeq_b C (tgt := 47) dX5_repeatOfEnds_25 (by decide) (fun c4 => ?_) (fun c4 => ?_)
              · refine g_iconst C dX5_repeatOfEnds_47 ?_
                refine g_istore_n1002 C dX5_repeatOfEnds_48 (gi _) rfl ?_
                refine g_iinc1003 C dX5_repeatOfEnds_49 rfl ?_
                refine g_goto C (tgt := 12) dX5_repeatOfEnds_52 (by decide) ?_
                exact ih2 false _ (⟨by omega, by rw [fo_s (by omega), ← hJ, c4]; rfl⟩) (by omega)
              · refine g_aload_n C dX5_repeatOfEnds_28 (gr _) rfl ?_
                refine g_iload_n C dX5_repeatOfEnds_29 (gi _) rfl ?_
                refine g_callV1z C (mX5_upEnd hY (hO) (by omega)) (lw_V q1321 q1323 qs38 q72 q1324) ⟨rfl, nd_X5_upEnd⟩ (ovM_0 _ _ _ _) rfl ⟨by decide, by decide⟩ ⟨Nat.le_of_ble_eq_true rfl, Nat.le_of_ble_eq_true rfl⟩ rfl (Nat.le_of_ble_eq_true rfl) dX5_repeatOfEnds_30 ?_
                refine g_aload_n C dX5_repeatOfEnds_33 (gr _) rfl ?_
                refine g_iload_n C dX5_repeatOfEnds_34 (gi _) rfl ?_
                refine g_iload_n C dX5_repeatOfEnds_35 (gi _) rfl ?_
                refine g_iadd C dX5_repeatOfEnds_36 ?_
                refine g_callV1z C (mX5_upEnd hY (hO) (by omega)) (lw_V q1321 q1323 qs38 q72 q1324) ⟨rfl, nd_X5_upEnd⟩ (ovM_0 _ _ _ _) rfl ⟨by decide, by decide⟩ ⟨Nat.le_of_ble_eq_true rfl, Nat.le_of_ble_eq_true rfl⟩ rfl (Nat.le_of_ble_eq_true rfl) dX5_repeatOfEnds_37 ?_
                refine g_icmp_ne C (tgt := 47) dX5_repeatOfEnds_40 (by decide) (by omega) (fun c5 => ?_) (fun c5 => ?_)
                · refine g_iconst C dX5_repeatOfEnds_47 ?_
                  refine g_istore_n1002 C dX5_repeatOfEnds_48 (gi _) rfl ?_
                  refine g_iinc1003 C dX5_repeatOfEnds_49 rfl ?_
                  refine g_goto C (tgt := 12) dX5_repeatOfEnds_52 (by decide) ?_
                  exact ih2 false _ (⟨by omega, by rw [fo_s (by omega), ← hJ]; simp [c5]⟩) (by omega)
                · refine g_iconst C dX5_repeatOfEnds_43 ?_
                  refine g_goto C (tgt := 48) dX5_repeatOfEnds_44 (by decide) ?_
                  refine g_istore_n1002 C dX5_repeatOfEnds_48 (gi _) rfl ?_
                  refine g_iinc1003 C dX5_repeatOfEnds_49 rfl ?_
                  refine g_goto C (tgt := 12) dX5_repeatOfEnds_52 (by decide) ?_
                  exact ih2 true _ (⟨by omega, by rw [fo_s (by omega), ← hJ, c4]; simp [c5]⟩) (by omega)
        exact lp12_2 _ true _ (⟨by omega, rfl⟩) (Nat.lt_succ_self _)
  refine g_sub (L' := [some _, some _, some _, none]) ⟨rfl, ⟨rfl, ⟨rfl, trivial⟩⟩⟩ ?_
  exact lp4_1 _ 1 false (⟨by omega, by rw [if_neg (by decide)]; rfl⟩) (Nat.lt_succ_self _)

theorem nd_X5_repeatOfPicks : yX5_repeatOfPicks.cls ≠ "java/lang/invoke/MethodHandle" ∧ yX5_repeatOfPicks.cls ≠ "java/lang/invoke/VarHandle" ∧ (parseMethodDescriptor yX5_repeatOfPicks.desc).map (fun d => d.parameters.length) = some 0 := by decide +kernel
theorem mX5_repeatOfPicks {l : Launch} {D : va_G} {dA : Nat → ClassId} {N0 : Nat} {Y : State → Prop} (hY : gYok N0 Y) {h : gH} {sz m : Nat} {S : MS} (hO : OkD (S 0)) : gM l D dA N0 Y yX5_repeatOfPicks cX5_repeatOfPicks 4 (some .int) 3 66 0 0 [.ref m] (ovM dA m S h) sz (gP (some (vI (repV (upPick S) (S 0 1)))) (ovM dA m S h) sz) := by
  refine gM.of hY (by decide +kernel) (Nat.le_of_ble_eq_true rfl) ?_
  intro X hX C hQ
  subst hX
  have C : gC X cX5_repeatOfPicks RX5 "repeatOfPicks" 4 (some .int) D dA N0 Y ({ frames := 3, cells := 0, slots := 0, locals := 66 }) := C
  show G X 0 0 _ _ 0 [some (.ref m), none, none, none] []
  have hn := hO.1
  refine g_iconst C dX5_repeatOfPicks_0 ?_
  refine g_istore_n1001 C dX5_repeatOfPicks_1 (gi _) rfl ?_
  refine g_iconst C dX5_repeatOfPicks_2 ?_
  refine g_istore_n1002 C dX5_repeatOfPicks_3 (gi _) rfl ?_
  have lp4_1 : ∀ (fuel : Nat) (r : Int) (is : Bool), ((1 ≤ r ∧ r ≤ S 0 1) ∧ (if is = true then r = repV (upPick S) (S 0 1) else firstR (repB (upPick S) (S 0 1)) (13 - r).toNat r = repV (upPick S) (S 0 1))) → ((if is = true then 0 else 13 - r)).toNat < fuel → G X 0 0 (ovM dA m S h) sz 4 [some (.ref m), some (vI r), some (vI (bI is)), none] [] := by
    intro fuel
    induction fuel with
    | zero => intro r is hI hfu; exact absurd hfu (Nat.not_lt_zero _)
    | succ fuel ih =>
      intro r is hI hfu
      have ih1 := ih
      obtain ⟨hI1, hI2⟩ := hI
      refine g_iload_n C dX5_repeatOfPicks_4 (gi _) rfl ?_
      refine g_ifne_b C (tgt := 70) dX5_repeatOfPicks_5 (by decide) (fun c1 => ?_) (fun c1 => ?_)
      · subst c1
        rw [if_pos rfl] at hI2
        refine g_iload_n C dX5_repeatOfPicks_70 (gi _) rfl ?_
        exact g_iret C hQ rfl dX5_repeatOfPicks_71 ⟨gv (by exact hI2), rfl, rfl⟩
      · subst c1
        rw [if_neg (by decide)] at hI2
        rw [if_neg (by decide)] at hfu
        refine g_iconst C dX5_repeatOfPicks_8 ?_
        refine g_istore_n1002 C dX5_repeatOfPicks_9 (gi _) rfl ?_
        refine g_iconst C dX5_repeatOfPicks_10 ?_
        refine g_istore_n1003 C dX5_repeatOfPicks_11 (gi _) rfl ?_
        have lp12_2 : ∀ (fuel : Nat) (b : Bool) (i : Int), ((0 ≤ i ∧ i + r ≤ S 0 1) ∧ b = fo (fun i b => b && decide (upPick S i = upPick S (i + r))) true i.toNat) → (S 0 1 - i).toNat < fuel → G X 0 0 (ovM dA m S h) sz 12 [some (.ref m), some (vI r), some (vI (bI b)), some (vI i)] [] := by
          intro fuel
          induction fuel with
          | zero => intro b i hI hfu; exact absurd hfu (Nat.not_lt_zero _)
          | succ fuel ih =>
            intro b i hI hfu
            have ih2 := ih
            obtain ⟨hJ1, hJ⟩ := hI
            have hq := upPick_rg (S := S) i hO
            have hq2 := upPick_rg (S := S) (i + r) hO
            refine g_iload_n C dX5_repeatOfPicks_12 (gi _) rfl ?_
            refine g_iload_n C dX5_repeatOfPicks_13 (gi _) rfl ?_
            refine g_iadd C dX5_repeatOfPicks_14 ?_
            refine g_aload_n C dX5_repeatOfPicks_15 (gr _) rfl ?_
            refine M_g_row C q1191 dX5_repeatOfPicks_16 ?_
            refine g_iconst C dX5_repeatOfPicks_19 ?_
            refine M_ld_row C (by omega) dX5_repeatOfPicks_20 ?_
            refine g_icmp_ge C (tgt := 55) dX5_repeatOfPicks_21 (by decide) (by omega) (fun c2 => ?_) (fun c2 => ?_)
            · have hie : i.toNat = (S 0 1 - r).toNat := by omega
              refine g_iload_n C dX5_repeatOfPicks_55 (gi _) rfl ?_
              refine g_iload_n C dX5_repeatOfPicks_56 (gi _) rfl ?_
              refine g_ifeq_b C (tgt := 64) dX5_repeatOfPicks_57 (by decide) (fun c3 => ?_) (fun c3 => ?_)
              · subst c3
                refine g_iconst C dX5_repeatOfPicks_64 ?_
                refine g_iadd C dX5_repeatOfPicks_65 ?_
                refine g_istore_n1001 C dX5_repeatOfPicks_66 (gi _) rfl ?_
                refine g_goto C (tgt := 4) dX5_repeatOfPicks_67 (by decide) ?_
                have hb0 : repB (upPick S) (S 0 1) r = false := by rw [repB, ← hie]; exact hJ.symm
                have hlt : r < S 0 1 := by
                  rcases Int.lt_or_le r (S 0 1) with z | z
                  · exact z
                  · exfalso; rw [repB, show (S 0 1 - r).toNat = 0 by omega] at hb0; simp [fo] at hb0
                refine g_sub (L' := [some _, some _, some _, none]) ⟨rfl, ⟨rfl, ⟨rfl, trivial⟩⟩⟩ ?_
                exact ih1 (r + 1) false (⟨by omega, by rw [if_neg (by decide), show (13 - (r + 1)) = 13 - r - 1 by omega, ← firstR_f hb0 (by omega)]; exact hI2⟩) (by rw [if_neg (by decide)]; omega)
              · subst c3
                refine g_iconst C dX5_repeatOfPicks_60 ?_
                refine g_goto C (tgt := 65) dX5_repeatOfPicks_61 (by decide) ?_
                refine g_iadd C dX5_repeatOfPicks_65 ?_
                refine g_istore_n1001 C dX5_repeatOfPicks_66 (gi _) rfl ?_
                refine g_goto C (tgt := 4) dX5_repeatOfPicks_67 (by decide) ?_
                have hb0 : repB (upPick S) (S 0 1) r = true := by rw [repB, ← hie]; exact hJ.symm
                rw [firstR_t hb0 (by omega)] at hI2
                refine g_sub (L' := [some _, some _, some _, none]) ⟨rfl, ⟨rfl, ⟨rfl, trivial⟩⟩⟩ ?_
                exact ih1 (r + 0) true (⟨by omega, by rw [if_pos rfl]; omega⟩) (by rw [if_pos rfl]; omega)
            · refine g_iload_n C dX5_repeatOfPicks_24 (gi _) rfl ?_
              refine g_ifeq_b C (tgt := 47) dX5_repeatOfPicks_25 (by decide) (fun c4 => ?_) (fun c4 => ?_)
              · refine g_iconst C dX5_repeatOfPicks_47 ?_
                refine g_istore_n1002 C dX5_repeatOfPicks_48 (gi _) rfl ?_
                refine g_iinc1003 C dX5_repeatOfPicks_49 rfl ?_
                refine g_goto C (tgt := 12) dX5_repeatOfPicks_52 (by decide) ?_
                exact ih2 false _ (⟨by omega, by rw [fo_s (by omega), ← hJ, c4]; rfl⟩) (by omega)
              · refine g_aload_n C dX5_repeatOfPicks_28 (gr _) rfl ?_
                refine g_iload_n C dX5_repeatOfPicks_29 (gi _) rfl ?_
                refine g_callV1z C (mX5_upPick hY (hO) (by omega)) (lw_V q1343 q1345 qs41 q72 q1346) ⟨rfl, nd_X5_upPick⟩ (ovM_0 _ _ _ _) rfl ⟨by decide, by decide⟩ ⟨Nat.le_of_ble_eq_true rfl, Nat.le_of_ble_eq_true rfl⟩ rfl (Nat.le_of_ble_eq_true rfl) dX5_repeatOfPicks_30 ?_
                refine g_aload_n C dX5_repeatOfPicks_33 (gr _) rfl ?_
                refine g_iload_n C dX5_repeatOfPicks_34 (gi _) rfl ?_
                refine g_iload_n C dX5_repeatOfPicks_35 (gi _) rfl ?_
                refine g_iadd C dX5_repeatOfPicks_36 ?_
                refine g_callV1z C (mX5_upPick hY (hO) (by omega)) (lw_V q1343 q1345 qs41 q72 q1346) ⟨rfl, nd_X5_upPick⟩ (ovM_0 _ _ _ _) rfl ⟨by decide, by decide⟩ ⟨Nat.le_of_ble_eq_true rfl, Nat.le_of_ble_eq_true rfl⟩ rfl (Nat.le_of_ble_eq_true rfl) dX5_repeatOfPicks_37 ?_
                refine g_icmp_ne C (tgt := 47) dX5_repeatOfPicks_40 (by decide) (by omega) (fun c5 => ?_) (fun c5 => ?_)
                · refine g_iconst C dX5_repeatOfPicks_47 ?_
                  refine g_istore_n1002 C dX5_repeatOfPicks_48 (gi _) rfl ?_
                  refine g_iinc1003 C dX5_repeatOfPicks_49 rfl ?_
                  refine g_goto C (tgt := 12) dX5_repeatOfPicks_52 (by decide) ?_
                  exact ih2 false _ (⟨by omega, by rw [fo_s (by omega), ← hJ]; simp [c5]⟩) (by omega)
                · refine g_iconst C dX5_repeatOfPicks_43 ?_
                  refine g_goto C (tgt := 48) dX5_repeatOfPicks_44 (by decide) ?_
                  refine g_istore_n1002 C dX5_repeatOfPicks_48 (gi _) rfl ?_
                  refine g_iinc1003 C dX5_repeatOfPicks_49 rfl ?_
                  refine g_goto C (tgt := 12) dX5_repeatOfPicks_52 (by decide) ?_
                  exact ih2 true _ (⟨by omega, by rw [fo_s (by omega), ← hJ, c4]; simp [c5]⟩) (by omega)
        exact lp12_2 _ true _ (⟨by omega, rfl⟩) (Nat.lt_succ_self _)
  refine g_sub (L' := [some _, some _, some _, none]) ⟨rfl, ⟨rfl, ⟨rfl, trivial⟩⟩⟩ ?_
  exact lp4_1 _ 1 false (⟨by omega, by rw [if_neg (by decide)]; rfl⟩) (Nat.lt_succ_self _)

theorem nd_X5_allStitches : yX5_allStitches.cls ≠ "java/lang/invoke/MethodHandle" ∧ yX5_allStitches.cls ≠ "java/lang/invoke/VarHandle" ∧ (parseMethodDescriptor yX5_allStitches.desc).map (fun d => d.parameters.length) = some 0 := by decide +kernel
theorem mX5_allStitches {l : Launch} {D : va_G} {dA : Nat → ClassId} {N0 : Nat} {Y : State → Prop} (hY : gYok N0 Y) {h : gH} {sz m : Nat} {S : MS} (hO : OkD (S 0)) : gM l D dA N0 Y yX5_allStitches cX5_allStitches 3 (some .int) 3 66 0 0 [.ref m] (ovM dA m S h) sz (gP (some (vI (astV S))) (ovM dA m S h) sz) := by
  refine gM.of hY (by decide +kernel) (Nat.le_of_ble_eq_true rfl) ?_
  intro X hX C hQ
  subst hX
  have C : gC X cX5_allStitches RX5 "allStitches" 3 (some .int) D dA N0 Y ({ frames := 3, cells := 0, slots := 0, locals := 66 }) := C
  show G X 0 0 _ _ 0 [some (.ref m), none, none] []
  have hn := hO.1
  refine g_iconst C dX5_allStitches_0 ?_
  refine g_istore_n1001 C dX5_allStitches_1 (gi _) rfl ?_
  refine g_iconst C dX5_allStitches_2 ?_
  refine g_istore_n1002 C dX5_allStitches_3 (gi _) rfl ?_
  have lp4_1 : ∀ (fuel : Nat) (nn q : Int), ((0 ≤ q ∧ q ≤ S 0 1) ∧ nn = fo (fun q n => n + stV S q) 0 q.toNat ∧ 0 ≤ nn ∧ nn ≤ 12 * q) → (S 0 1 - q).toNat < fuel → G X 0 0 (ovM dA m S h) sz 4 [some (.ref m), some (vI nn), some (vI q)] [] := by
    intro fuel
    induction fuel with
    | zero => intro nn q hI hfu; exact absurd hfu (Nat.not_lt_zero _)
    | succ fuel ih =>
      intro nn q hI hfu
      have ih1 := ih
      obtain ⟨hI1, hI2, hI3⟩ := hI
      have hs := st_rg (S := S) q hO
      refine g_iload_n C dX5_allStitches_4 (gi _) rfl ?_
      refine g_aload_n C dX5_allStitches_5 (gr _) rfl ?_
      refine M_g_row C q1191 dX5_allStitches_6 ?_
      refine g_iconst C dX5_allStitches_9 ?_
      refine M_ld_row C (by omega) dX5_allStitches_10 ?_
      refine g_icmp_ge C (tgt := 28) dX5_allStitches_11 (by decide) (by omega) (fun c1 => ?_) (fun c1 => ?_)
      · refine g_iload_n C dX5_allStitches_28 (gi _) rfl ?_
        exact g_iret C hQ rfl dX5_allStitches_29 ⟨gv (by rw [hI2, show q = S 0 1 by omega]; rfl), rfl, rfl⟩
      · refine g_iload_n C dX5_allStitches_14 (gi _) rfl ?_
        refine g_aload_n C dX5_allStitches_15 (gr _) rfl ?_
        refine g_iload_n C dX5_allStitches_16 (gi _) rfl ?_
        refine g_callV1z C (mX5_stitches hY (hO) (by omega)) (lw_V q1347 q1349 qs42 q72 q1350) ⟨rfl, nd_X5_stitches⟩ (ovM_0 _ _ _ _) rfl ⟨by decide, by decide⟩ ⟨Nat.le_of_ble_eq_true rfl, Nat.le_of_ble_eq_true rfl⟩ rfl (Nat.le_of_ble_eq_true rfl) dX5_allStitches_17 ?_
        refine g_iadd C dX5_allStitches_20 ?_
        refine g_istore_n1001 C dX5_allStitches_21 (gi _) rfl ?_
        refine g_iinc1002 C dX5_allStitches_22 rfl ?_
        refine g_goto C (tgt := 4) dX5_allStitches_25 (by decide) ?_
        exact ih1 _ _ (⟨by omega, by rw [fo_s (by omega), ← hI2], by omega⟩) (by omega)
  exact lp4_1 _ _ _ (⟨by omega, rfl, by omega⟩) (Nat.lt_succ_self _)

theorem nd_X5_areAlike : yX5_areAlike.cls ≠ "java/lang/invoke/MethodHandle" ∧ yX5_areAlike.cls ≠ "java/lang/invoke/VarHandle" ∧ (parseMethodDescriptor yX5_areAlike.desc).map (fun d => d.parameters.length) = some 2 := by decide +kernel
theorem mX5_areAlike {l : Launch} {D : va_G} {dA : Nat → ClassId} {N0 : Nat} {Y : State → Prop} (hY : gYok N0 Y) {h : gH} {sz m : Nat} {S : MS} {a b : Int} (hO : OkD (S 0)) (ha : (0 ≤ a ∧ a < 12) ∧ 0 ≤ b ∧ b < 12) : gM l D dA N0 Y yX5_areAlike cX5_areAlike 5 (some .boolean) 1 21 0 0 [.ref m, vI a, vI b] (ovM dA m S h) sz (gP (some (vI (bI (alikeB S a b)))) (ovM dA m S h) sz) := by
  refine gM.of hY (by decide +kernel) (Nat.le_of_ble_eq_true rfl) ?_
  intro X hX C hQ
  subst hX
  have C : gC X cX5_areAlike RX5 "areAlike" 5 (some .boolean) D dA N0 Y ({ frames := 1, cells := 0, slots := 0, locals := 21 }) := C
  show G X 0 0 _ _ 0 [some (.ref m), some (vI a), some (vI b), none, none] []
  have hn := hO.1
  refine g_iconst C dX5_areAlike_0 ?_
  refine g_istore_n1003 C dX5_areAlike_1 (gi _) rfl ?_
  refine g_iconst C dX5_areAlike_2 ?_
  refine g_istore1004 C dX5_areAlike_3 (gi _) rfl ?_
  have lp5_1 : ∀ (fuel : Nat) (x : Bool) (j : Int), ((0 ≤ j ∧ j ≤ S 0 3) ∧ x = fo (alikeF S a b) true j.toNat) → (S 0 3 - j).toNat < fuel → G X 0 0 (ovM dA m S h) sz 5 [some (.ref m), some (vI a), some (vI b), some (vI (bI x)), some (vI j)] [] := by
    intro fuel
    induction fuel with
    | zero => intro x j hI hfu; exact absurd hfu (Nat.not_lt_zero _)
    | succ fuel ih =>
      intro x j hI hfu
      have ih1 := ih
      obtain ⟨hI1, hI2⟩ := hI
      refine g_iload C dX5_areAlike_5 (gi _) rfl ?_
      refine g_aload_n C dX5_areAlike_7 (gr _) rfl ?_
      refine M_g_row C q1191 dX5_areAlike_8 ?_
      refine g_iconst C dX5_areAlike_11 ?_
      refine M_ld_row C (by omega) dX5_areAlike_12 ?_
      refine g_icmp_ge C (tgt := 63) dX5_areAlike_13 (by decide) (by omega) (fun c1 => ?_) (fun c1 => ?_)
      · refine g_iload_n C dX5_areAlike_63 (gi _) rfl ?_
        exact g_zret C hQ rfl dX5_areAlike_64 ⟨gz (by rw [hI2, show j = S 0 3 by omega]; rfl), rfl, rfl⟩
      · have htj := hO.tied j (by omega)
        refine g_iload_n C dX5_areAlike_16 (gi _) rfl ?_
        refine g_ifeq_b C (tgt := 55) dX5_areAlike_17 (by decide) (fun c2 => ?_) (fun c2 => ?_)
        · refine g_iconst C dX5_areAlike_55 ?_
          refine g_istore_n1003 C dX5_areAlike_56 (gi _) rfl ?_
          refine g_iinc1004 C dX5_areAlike_57 rfl ?_
          refine g_goto C (tgt := 5) dX5_areAlike_60 (by decide) ?_
          exact ih1 false _ (⟨by omega, by rw [fo_s (by omega), ← hI2, c2]; rfl⟩) (by omega)
        · refine g_aload_n C dX5_areAlike_20 (gr _) rfl ?_
          refine M_g_row C q1191 dX5_areAlike_21 ?_
          refine g_bipush C dX5_areAlike_24 (by decide +kernel) ?_
          refine g_iload C dX5_areAlike_26 (gi _) rfl ?_
          refine g_iadd C dX5_areAlike_28 ?_
          refine M_ld_row C (by omega) dX5_areAlike_29 ?_
          refine g_iload_n C dX5_areAlike_30 (gi _) rfl ?_
          refine g_callS1z C (mX5_has hY (by omega)) (lw_S q1329 q1330 q72 q1331) nd_X5_has ⟨by decide, by decide⟩ ⟨Nat.le_of_ble_eq_true rfl, Nat.le_of_ble_eq_true rfl⟩ rfl (Nat.le_of_ble_eq_true rfl) dX5_areAlike_31 ?_
          refine g_aload_n C dX5_areAlike_34 (gr _) rfl ?_
          refine M_g_row C q1191 dX5_areAlike_35 ?_
          refine g_bipush C dX5_areAlike_38 (by decide +kernel) ?_
          refine g_iload C dX5_areAlike_40 (gi _) rfl ?_
          refine g_iadd C dX5_areAlike_42 ?_
          refine M_ld_row C (by omega) dX5_areAlike_43 ?_
          refine g_iload_n C dX5_areAlike_44 (gi _) rfl ?_
          refine g_callS1z C (mX5_has hY (by omega)) (lw_S q1329 q1330 q72 q1331) nd_X5_has ⟨by decide, by decide⟩ ⟨Nat.le_of_ble_eq_true rfl, Nat.le_of_ble_eq_true rfl⟩ rfl (Nat.le_of_ble_eq_true rfl) dX5_areAlike_45 ?_
          refine g_icmp_ne C (tgt := 55) dX5_areAlike_48 (by decide) (by have := bI_rg (hasB (S 0 (16 + j)) a); have := bI_rg (hasB (S 0 (16 + j)) b); omega) (fun c3 => ?_) (fun c3 => ?_)
          · have hne : ¬ hasB (S 0 (16 + j)) a = hasB (S 0 (16 + j)) b := fun z => c3 (bI_inj.mpr z)
            refine g_iconst C dX5_areAlike_55 ?_
            refine g_istore_n1003 C dX5_areAlike_56 (gi _) rfl ?_
            refine g_iinc1004 C dX5_areAlike_57 rfl ?_
            refine g_goto C (tgt := 5) dX5_areAlike_60 (by decide) ?_
            exact ih1 false _ (⟨by omega, by rw [fo_s (by omega), ← hI2]; simp [alikeF, hne]⟩) (by omega)
          · have heq := bI_inj.mp c3
            refine g_iconst C dX5_areAlike_51 ?_
            refine g_goto C (tgt := 56) dX5_areAlike_52 (by decide) ?_
            refine g_istore_n1003 C dX5_areAlike_56 (gi _) rfl ?_
            refine g_iinc1004 C dX5_areAlike_57 rfl ?_
            refine g_goto C (tgt := 5) dX5_areAlike_60 (by decide) ?_
            exact ih1 true _ (⟨by omega, by rw [fo_s (by omega), ← hI2, c2]; simp [alikeF, heq]⟩) (by omega)
  exact lp5_1 _ true _ (⟨by omega, rfl⟩) (Nat.lt_succ_self _)

theorem nd_X5_alike : yX5_alike.cls ≠ "java/lang/invoke/MethodHandle" ∧ yX5_alike.cls ≠ "java/lang/invoke/VarHandle" ∧ (parseMethodDescriptor yX5_alike.desc).map (fun d => d.parameters.length) = some 0 := by decide +kernel
theorem mX5_alike {l : Launch} {D : va_G} {dA : Nat → ClassId} {N0 : Nat} {Y : State → Prop} (hY : gYok N0 Y) {h : gH} {sz m : Nat} {S : MS} (hO : OkD (S 0)) : gM l D dA N0 Y yX5_alike cX5_alike 4 (some .int) 2 45 0 0 [.ref m] (ovM dA m S h) sz (gP (some (vI (alkV S))) (ovM dA m S h) sz) := by
  refine gM.of hY (by decide +kernel) (Nat.le_of_ble_eq_true rfl) ?_
  intro X hX C hQ
  subst hX
  have C : gC X cX5_alike RX5 "alike" 4 (some .int) D dA N0 Y ({ frames := 2, cells := 0, slots := 0, locals := 45 }) := C
  show G X 0 0 _ _ 0 [some (.ref m), none, none, none] []
  have hn := hO.1
  refine g_iconst C dX5_alike_0 ?_
  refine g_istore_n1001 C dX5_alike_1 (gi _) rfl ?_
  refine g_iconst C dX5_alike_2 ?_
  refine g_istore_n1002 C dX5_alike_3 (gi _) rfl ?_
  have lp4_1 : ∀ (fuel : Nat) (nn a : Int), ((0 ≤ a ∧ a ≤ S 0 2) ∧ nn = fo (fun a n => fo (alkF S a) n a.toNat) 0 a.toNat ∧ 0 ≤ nn ∧ nn ≤ 6 * a) → (S 0 2 - a).toNat < fuel → G X 0 0 (ovM dA m S h) sz 4 [some (.ref m), some (vI nn), some (vI a), none] [] := by
    intro fuel
    induction fuel with
    | zero => intro nn a hI hfu; exact absurd hfu (Nat.not_lt_zero _)
    | succ fuel ih =>
      intro nn a hI hfu
      have ih1 := ih
      obtain ⟨hI1, hI2, hI3⟩ := hI
      refine g_iload_n C dX5_alike_4 (gi _) rfl ?_
      refine g_aload_n C dX5_alike_5 (gr _) rfl ?_
      refine M_g_row C q1191 dX5_alike_6 ?_
      refine g_iconst C dX5_alike_9 ?_
      refine M_ld_row C (by omega) dX5_alike_10 ?_
      refine g_icmp_ge C (tgt := 50) dX5_alike_11 (by decide) (by omega) (fun c1 => ?_) (fun c1 => ?_)
      · refine g_iload_n C dX5_alike_50 (gi _) rfl ?_
        exact g_iret C hQ rfl dX5_alike_51 ⟨gv (by rw [hI2, show a = S 0 2 by omega]; rfl), rfl, rfl⟩
      · refine g_iconst C dX5_alike_14 ?_
        refine g_istore_n1003 C dX5_alike_15 (gi _) rfl ?_
        have lp16_2 : ∀ (fuel : Nat) (n2 b : Int), ((0 ≤ b ∧ b ≤ a) ∧ n2 = fo (alkF S a) nn b.toNat ∧ 0 ≤ n2 ∧ n2 ≤ nn + b) → (a - b).toNat < fuel → G X 0 0 (ovM dA m S h) sz 16 [some (.ref m), some (vI n2), some (vI a), some (vI b)] [] := by
          intro fuel
          induction fuel with
          | zero => intro n2 b hI hfu; exact absurd hfu (Nat.not_lt_zero _)
          | succ fuel ih =>
            intro n2 b hI hfu
            have ih2 := ih
            obtain ⟨hJ1, hJ2, hJ3⟩ := hI
            refine g_iload_n C dX5_alike_16 (gi _) rfl ?_
            refine g_iload_n C dX5_alike_17 (gi _) rfl ?_
            refine g_icmp_ge C (tgt := 44) dX5_alike_18 (by decide) (by omega) (fun c2 => ?_) (fun c2 => ?_)
            · refine g_iinc1002 C dX5_alike_44 rfl ?_
              refine g_goto C (tgt := 4) dX5_alike_47 (by decide) ?_
              refine g_sub (L' := [some _, some _, some _, none]) ⟨rfl, ⟨rfl, ⟨rfl, trivial⟩⟩⟩ ?_
              exact ih1 _ _ (⟨by omega, by rw [fo_s (by omega), ← hI2, hJ2, show b = a by omega], by omega⟩) (by omega)
            · refine g_iload_n C dX5_alike_21 (gi _) rfl ?_
              refine g_aload_n C dX5_alike_22 (gr _) rfl ?_
              refine g_iload_n C dX5_alike_23 (gi _) rfl ?_
              refine g_iload_n C dX5_alike_24 (gi _) rfl ?_
              refine g_callV1z C (mX5_areAlike hY (hO) (by omega)) (lw_V q1535 q1537 qs62 q72 q1538) ⟨rfl, nd_X5_areAlike⟩ (ovM_0 _ _ _ _) rfl ⟨by decide, by decide⟩ ⟨Nat.le_of_ble_eq_true rfl, Nat.le_of_ble_eq_true rfl⟩ rfl (Nat.le_of_ble_eq_true rfl) dX5_alike_25 ?_
              refine g_ifeq_b C (tgt := 35) dX5_alike_28 (by decide) (fun c3 => ?_) (fun c3 => ?_)
              · refine g_iconst C dX5_alike_35 ?_
                refine g_iadd C dX5_alike_36 ?_
                refine g_istore_n1001 C dX5_alike_37 (gi _) rfl ?_
                refine g_iinc1003 C dX5_alike_38 rfl ?_
                refine g_goto C (tgt := 16) dX5_alike_41 (by decide) ?_
                exact ih2 _ _ (⟨by omega, by rw [fo_s (by omega), ← hJ2]; simp [alkF, c3, bI], by omega⟩) (by omega)
              · refine g_iconst C dX5_alike_31 ?_
                refine g_goto C (tgt := 36) dX5_alike_32 (by decide) ?_
                refine g_iadd C dX5_alike_36 ?_
                refine g_istore_n1001 C dX5_alike_37 (gi _) rfl ?_
                refine g_iinc1003 C dX5_alike_38 rfl ?_
                refine g_goto C (tgt := 16) dX5_alike_41 (by decide) ?_
                exact ih2 _ _ (⟨by omega, by rw [fo_s (by omega), ← hJ2]; simp [alkF, c3, bI], by omega⟩) (by omega)
        exact lp16_2 _ _ _ (⟨by omega, rfl, by omega⟩) (Nat.lt_succ_self _)
  refine g_sub (L' := [some _, some _, some _, none]) ⟨rfl, ⟨rfl, ⟨rfl, trivial⟩⟩⟩ ?_
  exact lp4_1 _ _ _ (⟨by omega, rfl, by omega⟩) (Nat.lt_succ_self _)

theorem nd_X5_idle : yX5_idle.cls ≠ "java/lang/invoke/MethodHandle" ∧ yX5_idle.cls ≠ "java/lang/invoke/VarHandle" ∧ (parseMethodDescriptor yX5_idle.desc).map (fun d => d.parameters.length) = some 3 := by decide +kernel
theorem mX5_idle {l : Launch} {D : va_G} {dA : Nat → ClassId} {N0 : Nat} {Y : State → Prop} (hY : gYok N0 Y) {h : gH} {sz m : Nat} {S : MS} {many fr places : Int} (hs : (1 ≤ many ∧ many ≤ 6) ∧ (0 ≤ places ∧ places ≤ 12) ∧ 0 ≤ fr ∧ fr ≤ 22) (hv : ∀ k : Int, 0 ≤ k → k < places → 0 ≤ S 0 (fr + k) ∧ S 0 (fr + k) < 6) : gM l D dA N0 Y yX5_idle cX5_idle 6 (some .int) 0 0 0 0 [.ref m, vI many, vI fr, vI places] (ovM dA m S h) sz (gP (some (vI (idleV S many fr places))) (ovM dA m S h) sz) := by
  refine gM.of hY (by decide +kernel) (Nat.le_of_ble_eq_true rfl) ?_
  intro X hX C hQ
  subst hX
  have C : gC X cX5_idle RX5 "idle" 6 (some .int) D dA N0 Y ({ frames := 0, cells := 0, slots := 0, locals := 0 }) := C
  show G X 0 0 _ _ 0 [some (.ref m), some (vI many), some (vI fr), some (vI places), none, none] []
  have hm := sh6 (i := many) (by omega)
  refine g_iconst C dX5_idle_0 ?_
  refine g_iload_n C dX5_idle_1 (gi _) rfl ?_
  refine g_ishl C dX5_idle_2 (zI_shl (by omega)) ?_
  refine g_iconst C dX5_idle_3 ?_
  refine g_isub C dX5_idle_4 ?_
  refine g_istore1004 C dX5_idle_5 (gi _) rfl ?_
  refine g_iconst C dX5_idle_7 ?_
  refine g_istore1005 C dX5_idle_8 (gi _) rfl ?_
  have lp10_1 : ∀ (fuel : Nat) (set k : Int), ((0 ≤ k ∧ k ≤ places) ∧ set = fo (idleF S fr) (shI many - 1) k.toNat ∧ 0 ≤ set ∧ set < 64) → (places - k).toNat < fuel → G X 0 0 (ovM dA m S h) sz 10 [some (.ref m), some (vI many), some (vI fr), some (vI places), some (vI set), some (vI k)] [] := by
    intro fuel
    induction fuel with
    | zero => intro set k hI hfu; exact absurd hfu (Nat.not_lt_zero _)
    | succ fuel ih =>
      intro set k hI hfu
      have ih1 := ih
      obtain ⟨hI1, hI2, hI3⟩ := hI
      refine g_iload C dX5_idle_10 (gi _) rfl ?_
      refine g_iload_n C dX5_idle_12 (gi _) rfl ?_
      refine g_icmp_ge C (tgt := 40) dX5_idle_13 (by decide) (by omega) (fun c1 => ?_) (fun c1 => ?_)
      · refine g_iload C dX5_idle_40 (gi _) rfl ?_
        exact g_iret C hQ rfl dX5_idle_42 ⟨gv (by rw [hI2, show k = places by omega]; rfl), rfl, rfl⟩
      · have hvk := hv k hI1.1 c1
        refine g_iload C dX5_idle_16 (gi _) rfl ?_
        refine g_iconst C dX5_idle_18 ?_
        refine g_aload_n C dX5_idle_19 (gr _) rfl ?_
        refine M_g_row C q1191 dX5_idle_20 ?_
        refine g_iload_n C dX5_idle_23 (gi _) rfl ?_
        refine g_iload C dX5_idle_24 (gi _) rfl ?_
        refine g_iadd C dX5_idle_26 ?_
        refine M_ld_row C (by omega) dX5_idle_27 ?_
        refine g_ishl C dX5_idle_28 (zI_shl (by omega)) ?_
        refine g_iconst C dX5_idle_29 ?_
        refine g_ixorX C dX5_idle_30 ?_
        refine g_iandX C dX5_idle_31 (g_topv (v' := vI (clrI set (S 0 (fr + k)))) (congrArg Value.int (clr_bits hI3 hvk)) ?_)
        refine g_istore1004 C dX5_idle_32 (gi _) rfl ?_
        refine g_iinc1005 C dX5_idle_34 rfl ?_
        refine g_goto C (tgt := 10) dX5_idle_37 (by decide) ?_
        exact ih1 _ _ (⟨by omega, by rw [fo_s (by omega), ← hI2]; rfl, clr_rg hI3 (hv k hI1.1 c1)⟩) (by omega)
  exact lp10_1 _ _ _ (⟨by omega, rfl, by omega⟩) (Nat.lt_succ_self _)

theorem nd_X5_allUp : yX5_allUp.cls ≠ "java/lang/invoke/MethodHandle" ∧ yX5_allUp.cls ≠ "java/lang/invoke/VarHandle" ∧ (parseMethodDescriptor yX5_allUp.desc).map (fun d => d.parameters.length) = some 0 := by decide +kernel
theorem mX5_allUp {l : Launch} {D : va_G} {dA : Nat → ClassId} {N0 : Nat} {Y : State → Prop} (hY : gYok N0 Y) {h : gH} {sz m : Nat} {S : MS} (hO : OkD (S 0)) : gM l D dA N0 Y yX5_allUp cX5_allUp 3 (some .int) 3 66 0 0 [.ref m] (ovM dA m S h) sz (gP (some (vI (aupV S))) (ovM dA m S h) sz) := by
  refine gM.of hY (by decide +kernel) (Nat.le_of_ble_eq_true rfl) ?_
  intro X hX C hQ
  subst hX
  have C : gC X cX5_allUp RX5 "allUp" 3 (some .int) D dA N0 Y ({ frames := 3, cells := 0, slots := 0, locals := 66 }) := C
  show G X 0 0 _ _ 0 [some (.ref m), none, none] []
  have hn := hO.1
  refine g_iconst C dX5_allUp_0 ?_
  refine g_istore_n1001 C dX5_allUp_1 (gi _) rfl ?_
  refine g_iconst C dX5_allUp_2 ?_
  refine g_istore_n1002 C dX5_allUp_3 (gi _) rfl ?_
  have lp4_1 : ∀ (fuel : Nat) (nn q : Int), ((0 ≤ q ∧ q ≤ S 0 1) ∧ nn = fo (fun q n => n + onesV (upPick S q)) 0 q.toNat ∧ 0 ≤ nn ∧ nn ≤ 12 * q) → (S 0 1 - q).toNat < fuel → G X 0 0 (ovM dA m S h) sz 4 [some (.ref m), some (vI nn), some (vI q)] [] := by
    intro fuel
    induction fuel with
    | zero => intro nn q hI hfu; exact absurd hfu (Nat.not_lt_zero _)
    | succ fuel ih =>
      intro nn q hI hfu
      have ih1 := ih
      obtain ⟨hI1, hI2, hI3⟩ := hI
      have hu := upPick_rg (S := S) q hO
      have hs := ones_rg (upPick S q)
      refine g_iload_n C dX5_allUp_4 (gi _) rfl ?_
      refine g_aload_n C dX5_allUp_5 (gr _) rfl ?_
      refine M_g_row C q1191 dX5_allUp_6 ?_
      refine g_iconst C dX5_allUp_9 ?_
      refine M_ld_row C (by omega) dX5_allUp_10 ?_
      refine g_icmp_ge C (tgt := 31) dX5_allUp_11 (by decide) (by omega) (fun c1 => ?_) (fun c1 => ?_)
      · refine g_iload_n C dX5_allUp_31 (gi _) rfl ?_
        exact g_iret C hQ rfl dX5_allUp_32 ⟨gv (by rw [hI2, show q = S 0 1 by omega]; rfl), rfl, rfl⟩
      · refine g_iload_n C dX5_allUp_14 (gi _) rfl ?_
        refine g_aload_n C dX5_allUp_15 (gr _) rfl ?_
        refine g_iload_n C dX5_allUp_16 (gi _) rfl ?_
        refine g_callV1z C (mX5_upPick hY (hO) (by omega)) (lw_V q1343 q1345 qs41 q72 q1346) ⟨rfl, nd_X5_upPick⟩ (ovM_0 _ _ _ _) rfl ⟨by decide, by decide⟩ ⟨Nat.le_of_ble_eq_true rfl, Nat.le_of_ble_eq_true rfl⟩ rfl (Nat.le_of_ble_eq_true rfl) dX5_allUp_17 ?_
        refine g_callS1z C (mX5_ones hY (by omega)) (lw_S q1461 q1462 q72 q1463) nd_X5_ones ⟨by decide, by decide⟩ ⟨Nat.le_of_ble_eq_true rfl, Nat.le_of_ble_eq_true rfl⟩ rfl (Nat.le_of_ble_eq_true rfl) dX5_allUp_20 ?_
        refine g_iadd C dX5_allUp_23 ?_
        refine g_istore_n1001 C dX5_allUp_24 (gi _) rfl ?_
        refine g_iinc1002 C dX5_allUp_25 rfl ?_
        refine g_goto C (tgt := 4) dX5_allUp_28 (by decide) ?_
        exact ih1 _ _ (⟨by omega, by rw [fo_s (by omega), ← hI2], by omega⟩) (by omega)
  exact lp4_1 _ _ _ (⟨by omega, rfl, by omega⟩) (Nat.lt_succ_self _)

theorem nd_X5_column : yX5_column.cls ≠ "java/lang/invoke/MethodHandle" ∧ yX5_column.cls ≠ "java/lang/invoke/VarHandle" ∧ (parseMethodDescriptor yX5_column.desc).map (fun d => d.parameters.length) = some 1 := by decide +kernel
theorem mX5_column {l : Launch} {D : va_G} {dA : Nat → ClassId} {N0 : Nat} {Y : State → Prop} (hY : gYok N0 Y) {h : gH} {sz m : Nat} {S : MS} {i : Int} (hR : OkR S) (hi : 0 ≤ i ∧ i < 12) : gM l D dA N0 Y yX5_column cX5_column 4 (some .int) 1 21 0 0 [.ref m, vI i] (ovM dA m S h) sz (gP (some (vI (colV S i))) (ovM dA m S h) sz) := by
  refine gM.of hY (by decide +kernel) (Nat.le_of_ble_eq_true rfl) ?_
  intro X hX C hQ
  subst hX
  have C : gC X cX5_column RX5 "column" 4 (some .int) D dA N0 Y ({ frames := 1, cells := 0, slots := 0, locals := 21 }) := C
  show G X 0 0 _ _ 0 [some (.ref m), some (vI i), none, none] []
  obtain ⟨hR1, hR2, hR3⟩ := hR
  refine g_iconst C dX5_column_0 ?_
  refine g_istore_n1002 C dX5_column_1 (gi _) rfl ?_
  refine g_iconst C dX5_column_2 ?_
  refine g_istore_n1003 C dX5_column_3 (gi _) rfl ?_
  have lp4_1 : ∀ (fuel : Nat) (set r : Int), ((0 ≤ r ∧ r ≤ S 10 0) ∧ set = fo (colF S i) 0 r.toNat ∧ 0 ≤ set ∧ set < 4096) → (S 10 0 - r).toNat < fuel → G X 0 0 (ovM dA m S h) sz 4 [some (.ref m), some (vI i), some (vI set), some (vI r)] [] := by
    intro fuel
    induction fuel with
    | zero => intro set r hI hfu; exact absurd hfu (Nat.not_lt_zero _)
    | succ fuel ih =>
      intro set r hI hfu
      have ih1 := ih
      obtain ⟨hI1, hI2, hI3⟩ := hI
      refine g_iload_n C dX5_column_4 (gi _) rfl ?_
      refine g_aload_n C dX5_column_5 (gr _) rfl ?_
      refine M_g_rows C q1193 dX5_column_6 ?_
      refine g_icmp_ge C (tgt := 41) dX5_column_9 (by decide) (by omega) (fun c1 => ?_) (fun c1 => ?_)
      · refine g_iload_n C dX5_column_41 (gi _) rfl ?_
        exact g_iret C hQ rfl dX5_column_42 ⟨gv (by rw [hI2, show r = S 10 0 by omega]; rfl), rfl, rfl⟩
      · have hs := sh12 (i := r) (by omega)
        have hc := hR3 r hI1.1 c1
        refine g_iload_n C dX5_column_12 (gi _) rfl ?_
        refine g_aload_n C dX5_column_13 (gr _) rfl ?_
        refine M_g_crosses C q1192 dX5_column_14 ?_
        refine g_iload_n C dX5_column_17 (gi _) rfl ?_
        refine M_ld_crosses C (by omega) dX5_column_18 ?_
        refine g_iload_n C dX5_column_19 (gi _) rfl ?_
        refine g_callS1z C (mX5_has hY (by omega)) (lw_S q1329 q1330 q72 q1331) nd_X5_has ⟨by decide, by decide⟩ ⟨Nat.le_of_ble_eq_true rfl, Nat.le_of_ble_eq_true rfl⟩ rfl (Nat.le_of_ble_eq_true rfl) dX5_column_20 ?_
        refine g_ifeq_b C (tgt := 32) dX5_column_23 (by decide) (fun c2 => ?_) (fun c2 => ?_)
        · refine g_iconst C dX5_column_32 ?_
          refine g_ior C dX5_column_33 (zI_or (by omega)) ?_
          refine g_istore_n1002 C dX5_column_34 (gi _) rfl ?_
          refine g_iinc1003 C dX5_column_35 rfl ?_
          refine g_goto C (tgt := 4) dX5_column_38 (by decide) ?_
          exact ih1 _ _ (⟨by omega, by rw [fo_s (by omega), ← hI2]; simp only [colF, c2, if_false, Bool.false_eq_true], or12 (by omega)⟩) (by omega)
        · refine g_iconst C dX5_column_26 ?_
          refine g_iload_n C dX5_column_27 (gi _) rfl ?_
          refine g_ishl C dX5_column_28 (zI_shl (by omega)) ?_
          refine g_goto C (tgt := 33) dX5_column_29 (by decide) ?_
          refine g_ior C dX5_column_33 (zI_or (by omega)) ?_
          refine g_istore_n1002 C dX5_column_34 (gi _) rfl ?_
          refine g_iinc1003 C dX5_column_35 rfl ?_
          refine g_goto C (tgt := 4) dX5_column_38 (by decide) ?_
          exact ih1 _ _ (⟨by omega, by rw [fo_s (by omega), ← hI2]; simp only [colF, c2, if_true], or12 (by omega)⟩) (by omega)
  exact lp4_1 _ _ _ (⟨by omega, rfl, by omega⟩) (Nat.lt_succ_self _)

theorem nd_X5_shaftOf : yX5_shaftOf.cls ≠ "java/lang/invoke/MethodHandle" ∧ yX5_shaftOf.cls ≠ "java/lang/invoke/VarHandle" ∧ (parseMethodDescriptor yX5_shaftOf.desc).map (fun d => d.parameters.length) = some 1 := by decide +kernel
theorem mX5_shaftOf {l : Launch} {D : va_G} {dA : Nat → ClassId} {N0 : Nat} {Y : State → Prop} (hY : gYok N0 Y) {h : gH} {sz m : Nat} {S : MS} {i : Int} (hR : OkR S) (hi : 0 ≤ i ∧ i < 12) : gM l D dA N0 Y yX5_shaftOf cX5_shaftOf 6 (some .int) 2 44 0 0 [.ref m, vI i] (ovM dA m S h) sz (gP (some (vI (numV (colV S) (S 10 1) i))) (ovM dA m S h) sz) := by
  refine gM.of hY (by decide +kernel) (Nat.le_of_ble_eq_true rfl) ?_
  intro X hX C hQ
  subst hX
  have C : gC X cX5_shaftOf RX5 "shaftOf" 6 (some .int) D dA N0 Y ({ frames := 2, cells := 0, slots := 0, locals := 44 }) := C
  show G X 0 0 _ _ 0 [some (.ref m), some (vI i), none, none, none, none] []
  have hR0 := hR
  obtain ⟨hR1, hR2, hR3⟩ := hR0
  refine g_iconst C dX5_shaftOf_0 ?_
  refine g_istore_n1002 C dX5_shaftOf_1 (gi _) rfl ?_
  refine g_iconst C dX5_shaftOf_2 ?_
  refine g_istore_n1003 C dX5_shaftOf_3 (gi _) rfl ?_
  have lp4_1 : ∀ (fuel : Nat) (nn k : Int), ((0 ≤ k ∧ k ≤ S 10 1) ∧ nn = cntN (colV S) k ∧ firstR (eqB (colV S) i) (S 10 1 - k).toNat k = firstR (eqB (colV S) i) (S 10 1).toNat 0) → (S 10 1 - k).toNat < fuel → G X 0 0 (ovM dA m S h) sz 4 [some (.ref m), some (vI i), some (vI nn), some (vI k), none, none] [] := by
    intro fuel
    induction fuel with
    | zero => intro nn k hI hfu; exact absurd hfu (Nat.not_lt_zero _)
    | succ fuel ih =>
      intro nn k hI hfu
      have ih1 := ih
      obtain ⟨hI1, hI2, hI3⟩ := hI
      have hcn := cntN_rg (colV S) k hI1.1
      refine g_iload_n C dX5_shaftOf_4 (gi _) rfl ?_
      refine g_aload_n C dX5_shaftOf_5 (gr _) rfl ?_
      refine M_g_columns C q1194 dX5_shaftOf_6 ?_
      refine g_icmp_ge C (tgt := 90) dX5_shaftOf_9 (by decide) (by omega) (fun c1 => ?_) (fun c1 => ?_)
      · refine g_iload_n C dX5_shaftOf_90 (gi _) rfl ?_
        exact g_iret C hQ rfl dX5_shaftOf_91 ⟨gv (by rw [numV, ← hI3, show (S 10 1 - k).toNat = 0 by omega]; exact hI2), rfl, rfl⟩
      · have hy1 := colV_rg (S := S) k hR
        have hy2 := colV_rg (S := S) i hR
        refine g_iconst C dX5_shaftOf_12 ?_
        refine g_istore1004 C dX5_shaftOf_13 (gi _) rfl ?_
        refine g_iconst C dX5_shaftOf_15 ?_
        refine g_istore1005 C dX5_shaftOf_16 (gi _) rfl ?_
        have lp18_2 : ∀ (fuel : Nat) (x : Bool) (hh : Int), ((0 ≤ hh ∧ hh ≤ k) ∧ x = fo (newF (colV S) k) true hh.toNat) → (k - hh).toNat < fuel → G X 0 0 (ovM dA m S h) sz 18 [some (.ref m), some (vI i), some (vI nn), some (vI k), some (vI (bI x)), some (vI hh)] [] := by
          intro fuel
          induction fuel with
          | zero => intro x hh hI hfu; exact absurd hfu (Nat.not_lt_zero _)
          | succ fuel ih =>
            intro x hh hI hfu
            have ih2 := ih
            obtain ⟨hJ1, hJ2⟩ := hI
            have hx1 := colV_rg (S := S) hh hR
            have hx2 := colV_rg (S := S) k hR
            refine g_iload C dX5_shaftOf_18 (gi _) rfl ?_
            refine g_iload_n C dX5_shaftOf_20 (gi _) rfl ?_
            refine g_icmp_ge C (tgt := 56) dX5_shaftOf_21 (by decide) (by omega) (fun c2 => ?_) (fun c2 => ?_)
            · refine g_aload_n C dX5_shaftOf_56 (gr _) rfl ?_
              refine g_iload_n C dX5_shaftOf_57 (gi _) rfl ?_
              refine g_callV1z C (mX5_column hY (hR) (by omega)) (lw_V q1412 q1414 qs50 q72 q1415) ⟨rfl, nd_X5_column⟩ (ovM_0 _ _ _ _) rfl ⟨by decide, by decide⟩ ⟨Nat.le_of_ble_eq_true rfl, Nat.le_of_ble_eq_true rfl⟩ rfl (Nat.le_of_ble_eq_true rfl) dX5_shaftOf_58 ?_
              refine g_aload_n C dX5_shaftOf_61 (gr _) rfl ?_
              refine g_iload_n C dX5_shaftOf_62 (gi _) rfl ?_
              refine g_callV1z C (mX5_column hY (hR) (by omega)) (lw_V q1412 q1414 qs50 q72 q1415) ⟨rfl, nd_X5_column⟩ (ovM_0 _ _ _ _) rfl ⟨by decide, by decide⟩ ⟨Nat.le_of_ble_eq_true rfl, Nat.le_of_ble_eq_true rfl⟩ rfl (Nat.le_of_ble_eq_true rfl) dX5_shaftOf_63 ?_
              refine g_icmp_ne C (tgt := 71) dX5_shaftOf_66 (by decide) (by omega) (fun c3 => ?_) (fun c3 => ?_)
              · refine g_iload_n C dX5_shaftOf_71 (gi _) rfl ?_
                refine g_iload C dX5_shaftOf_72 (gi _) rfl ?_
                refine g_ifeq_b C (tgt := 81) dX5_shaftOf_74 (by decide) (fun c4 => ?_) (fun c4 => ?_)
                · refine g_iconst C dX5_shaftOf_81 ?_
                  refine g_iadd C dX5_shaftOf_82 ?_
                  refine g_istore_n1002 C dX5_shaftOf_83 (gi _) rfl ?_
                  refine g_iinc1003 C dX5_shaftOf_84 rfl ?_
                  refine g_goto C (tgt := 4) dX5_shaftOf_87 (by decide) ?_
                  have he : eqB (colV S) i k = false := by simp [eqB]; exact c3
                  have hnb : newB (colV S) k = x := by rw [newB, hJ2, show hh = k by omega]
                  refine g_sub (L' := [some _, some _, some _, some _, none, none]) ⟨rfl, ⟨rfl, ⟨rfl, ⟨rfl, trivial⟩⟩⟩⟩ ?_
                  exact ih1 _ _ (⟨by omega, by rw [cntN_s _ hI1.1, ← hI2, hnb, c4]; rfl, by rw [show S 10 1 - (k + 1) = S 10 1 - k - 1 by omega, ← firstR_f he (by omega)]; exact hI3⟩) (by omega)
                · refine g_iconst C dX5_shaftOf_77 ?_
                  refine g_goto C (tgt := 82) dX5_shaftOf_78 (by decide) ?_
                  refine g_iadd C dX5_shaftOf_82 ?_
                  refine g_istore_n1002 C dX5_shaftOf_83 (gi _) rfl ?_
                  refine g_iinc1003 C dX5_shaftOf_84 rfl ?_
                  refine g_goto C (tgt := 4) dX5_shaftOf_87 (by decide) ?_
                  have he : eqB (colV S) i k = false := by simp [eqB]; exact c3
                  have hnb : newB (colV S) k = x := by rw [newB, hJ2, show hh = k by omega]
                  refine g_sub (L' := [some _, some _, some _, some _, none, none]) ⟨rfl, ⟨rfl, ⟨rfl, ⟨rfl, trivial⟩⟩⟩⟩ ?_
                  exact ih1 _ _ (⟨by omega, by rw [cntN_s _ hI1.1, ← hI2, hnb, c4]; rfl, by rw [show S 10 1 - (k + 1) = S 10 1 - k - 1 by omega, ← firstR_f he (by omega)]; exact hI3⟩) (by omega)
              · refine g_iload_n C dX5_shaftOf_69 (gi _) rfl ?_
                exact g_iret C hQ rfl dX5_shaftOf_70 ⟨gv (by rw [numV, ← hI3, firstR_t (by simp [eqB, c3]) (by omega)]; exact hI2), rfl, rfl⟩
            · refine g_iload C dX5_shaftOf_24 (gi _) rfl ?_
              refine g_ifeq_b C (tgt := 47) dX5_shaftOf_26 (by decide) (fun c5 => ?_) (fun c5 => ?_)
              · refine g_iconst C dX5_shaftOf_47 ?_
                refine g_istore1004 C dX5_shaftOf_48 (gi _) rfl ?_
                refine g_iinc1005 C dX5_shaftOf_50 rfl ?_
                refine g_goto C (tgt := 18) dX5_shaftOf_53 (by decide) ?_
                exact ih2 false _ (⟨by omega, by rw [fo_s (by omega), ← hJ2, c5]; rfl⟩) (by omega)
              · refine g_aload_n C dX5_shaftOf_29 (gr _) rfl ?_
                refine g_iload C dX5_shaftOf_30 (gi _) rfl ?_
                refine g_callV1z C (mX5_column hY (hR) (by omega)) (lw_V q1412 q1414 qs50 q72 q1415) ⟨rfl, nd_X5_column⟩ (ovM_0 _ _ _ _) rfl ⟨by decide, by decide⟩ ⟨Nat.le_of_ble_eq_true rfl, Nat.le_of_ble_eq_true rfl⟩ rfl (Nat.le_of_ble_eq_true rfl) dX5_shaftOf_32 ?_
                refine g_aload_n C dX5_shaftOf_35 (gr _) rfl ?_
                refine g_iload_n C dX5_shaftOf_36 (gi _) rfl ?_
                refine g_callV1z C (mX5_column hY (hR) (by omega)) (lw_V q1412 q1414 qs50 q72 q1415) ⟨rfl, nd_X5_column⟩ (ovM_0 _ _ _ _) rfl ⟨by decide, by decide⟩ ⟨Nat.le_of_ble_eq_true rfl, Nat.le_of_ble_eq_true rfl⟩ rfl (Nat.le_of_ble_eq_true rfl) dX5_shaftOf_37 ?_
                refine g_icmp_eq C (tgt := 47) dX5_shaftOf_40 (by decide) (by omega) (fun c6 => ?_) (fun c6 => ?_)
                · refine g_iconst C dX5_shaftOf_47 ?_
                  refine g_istore1004 C dX5_shaftOf_48 (gi _) rfl ?_
                  refine g_iinc1005 C dX5_shaftOf_50 rfl ?_
                  refine g_goto C (tgt := 18) dX5_shaftOf_53 (by decide) ?_
                  exact ih2 false _ (⟨by omega, by rw [fo_s (by omega), ← hJ2]; simp [newF, c6]⟩) (by omega)
                · refine g_iconst C dX5_shaftOf_43 ?_
                  refine g_goto C (tgt := 48) dX5_shaftOf_44 (by decide) ?_
                  refine g_istore1004 C dX5_shaftOf_48 (gi _) rfl ?_
                  refine g_iinc1005 C dX5_shaftOf_50 rfl ?_
                  refine g_goto C (tgt := 18) dX5_shaftOf_53 (by decide) ?_
                  exact ih2 true _ (⟨by omega, by rw [fo_s (by omega), ← hJ2, c5]; simp [newF, c6]⟩) (by omega)
        exact lp18_2 _ true _ (⟨by omega, rfl⟩) (Nat.lt_succ_self _)
  refine g_sub (L' := [some _, some _, some _, some _, none, none]) ⟨rfl, ⟨rfl, ⟨rfl, ⟨rfl, trivial⟩⟩⟩⟩ ?_
  exact lp4_1 _ _ _ (⟨by omega, rfl, by rw [show S 10 1 - 0 = S 10 1 by omega]⟩) (Nat.lt_succ_self _)

theorem nd_X5_treadleOf : yX5_treadleOf.cls ≠ "java/lang/invoke/MethodHandle" ∧ yX5_treadleOf.cls ≠ "java/lang/invoke/VarHandle" ∧ (parseMethodDescriptor yX5_treadleOf.desc).map (fun d => d.parameters.length) = some 1 := by decide +kernel
theorem mX5_treadleOf {l : Launch} {D : va_G} {dA : Nat → ClassId} {N0 : Nat} {Y : State → Prop} (hY : gYok N0 Y) {h : gH} {sz m : Nat} {S : MS} {i : Int} (hR : OkR S) (hi : 0 ≤ i ∧ i < S 10 0) : gM l D dA N0 Y yX5_treadleOf cX5_treadleOf 6 (some .int) 0 0 0 0 [.ref m, vI i] (ovM dA m S h) sz (gP (some (vI (numV (S 1) (S 10 0) i))) (ovM dA m S h) sz) := by
  refine gM.of hY (by decide +kernel) (Nat.le_of_ble_eq_true rfl) ?_
  intro X hX C hQ
  subst hX
  have C : gC X cX5_treadleOf RX5 "treadleOf" 6 (some .int) D dA N0 Y ({ frames := 0, cells := 0, slots := 0, locals := 0 }) := C
  show G X 0 0 _ _ 0 [some (.ref m), some (vI i), none, none, none, none] []
  have hR0 := hR
  obtain ⟨hR1, hR2, hR3⟩ := hR0
  refine g_iconst C dX5_treadleOf_0 ?_
  refine g_istore_n1002 C dX5_treadleOf_1 (gi _) rfl ?_
  refine g_iconst C dX5_treadleOf_2 ?_
  refine g_istore_n1003 C dX5_treadleOf_3 (gi _) rfl ?_
  have lp4_1 : ∀ (fuel : Nat) (nn k : Int), ((0 ≤ k ∧ k ≤ S 10 0) ∧ nn = cntN (S 1) k ∧ firstR (eqB (S 1) i) (S 10 0 - k).toNat k = firstR (eqB (S 1) i) (S 10 0).toNat 0) → (S 10 0 - k).toNat < fuel → G X 0 0 (ovM dA m S h) sz 4 [some (.ref m), some (vI i), some (vI nn), some (vI k), none, none] [] := by
    intro fuel
    induction fuel with
    | zero => intro nn k hI hfu; exact absurd hfu (Nat.not_lt_zero _)
    | succ fuel ih =>
      intro nn k hI hfu
      have ih1 := ih
      obtain ⟨hI1, hI2, hI3⟩ := hI
      have hcn := cntN_rg (S 1) k hI1.1
      refine g_iload_n C dX5_treadleOf_4 (gi _) rfl ?_
      refine g_aload_n C dX5_treadleOf_5 (gr _) rfl ?_
      refine M_g_rows C q1193 dX5_treadleOf_6 ?_
      refine g_icmp_ge C (tgt := 94) dX5_treadleOf_9 (by decide) (by omega) (fun c1 => ?_) (fun c1 => ?_)
      · refine g_iload_n C dX5_treadleOf_94 (gi _) rfl ?_
        exact g_iret C hQ rfl dX5_treadleOf_95 ⟨gv (by rw [numV, ← hI3, show (S 10 0 - k).toNat = 0 by omega]; exact hI2), rfl, rfl⟩
      · have hy1 := hR3 k hI1.1 c1
        have hy2 := hR3 i hi.1 hi.2
        refine g_iconst C dX5_treadleOf_12 ?_
        refine g_istore1004 C dX5_treadleOf_13 (gi _) rfl ?_
        refine g_iconst C dX5_treadleOf_15 ?_
        refine g_istore1005 C dX5_treadleOf_16 (gi _) rfl ?_
        have lp18_2 : ∀ (fuel : Nat) (x : Bool) (hh : Int), ((0 ≤ hh ∧ hh ≤ k) ∧ x = fo (newF (S 1) k) true hh.toNat) → (k - hh).toNat < fuel → G X 0 0 (ovM dA m S h) sz 18 [some (.ref m), some (vI i), some (vI nn), some (vI k), some (vI (bI x)), some (vI hh)] [] := by
          intro fuel
          induction fuel with
          | zero => intro x hh hI hfu; exact absurd hfu (Nat.not_lt_zero _)
          | succ fuel ih =>
            intro x hh hI hfu
            have ih2 := ih
            obtain ⟨hJ1, hJ2⟩ := hI
            refine g_iload C dX5_treadleOf_18 (gi _) rfl ?_
            refine g_iload_n C dX5_treadleOf_20 (gi _) rfl ?_
            refine g_icmp_ge C (tgt := 58) dX5_treadleOf_21 (by decide) (by omega) (fun c2 => ?_) (fun c2 => ?_)
            · refine g_aload_n C dX5_treadleOf_58 (gr _) rfl ?_
              refine M_g_crosses C q1192 dX5_treadleOf_59 ?_
              refine g_iload_n C dX5_treadleOf_62 (gi _) rfl ?_
              refine M_ld_crosses C (by omega) dX5_treadleOf_63 ?_
              refine g_aload_n C dX5_treadleOf_64 (gr _) rfl ?_
              refine M_g_crosses C q1192 dX5_treadleOf_65 ?_
              refine g_iload_n C dX5_treadleOf_68 (gi _) rfl ?_
              refine M_ld_crosses C (by omega) dX5_treadleOf_69 ?_
              refine g_icmp_ne C (tgt := 75) dX5_treadleOf_70 (by decide) (by omega) (fun c3 => ?_) (fun c3 => ?_)
              · refine g_iload_n C dX5_treadleOf_75 (gi _) rfl ?_
                refine g_iload C dX5_treadleOf_76 (gi _) rfl ?_
                refine g_ifeq_b C (tgt := 85) dX5_treadleOf_78 (by decide) (fun c4 => ?_) (fun c4 => ?_)
                · refine g_iconst C dX5_treadleOf_85 ?_
                  refine g_iadd C dX5_treadleOf_86 ?_
                  refine g_istore_n1002 C dX5_treadleOf_87 (gi _) rfl ?_
                  refine g_iinc1003 C dX5_treadleOf_88 rfl ?_
                  refine g_goto C (tgt := 4) dX5_treadleOf_91 (by decide) ?_
                  have he : eqB (S 1) i k = false := by simp [eqB]; exact c3
                  have hnb : newB (S 1) k = x := by rw [newB, hJ2, show hh = k by omega]
                  refine g_sub (L' := [some _, some _, some _, some _, none, none]) ⟨rfl, ⟨rfl, ⟨rfl, ⟨rfl, trivial⟩⟩⟩⟩ ?_
                  exact ih1 _ _ (⟨by omega, by rw [cntN_s _ hI1.1, ← hI2, hnb, c4]; rfl, by rw [show S 10 0 - (k + 1) = S 10 0 - k - 1 by omega, ← firstR_f he (by omega)]; exact hI3⟩) (by omega)
                · refine g_iconst C dX5_treadleOf_81 ?_
                  refine g_goto C (tgt := 86) dX5_treadleOf_82 (by decide) ?_
                  refine g_iadd C dX5_treadleOf_86 ?_
                  refine g_istore_n1002 C dX5_treadleOf_87 (gi _) rfl ?_
                  refine g_iinc1003 C dX5_treadleOf_88 rfl ?_
                  refine g_goto C (tgt := 4) dX5_treadleOf_91 (by decide) ?_
                  have he : eqB (S 1) i k = false := by simp [eqB]; exact c3
                  have hnb : newB (S 1) k = x := by rw [newB, hJ2, show hh = k by omega]
                  refine g_sub (L' := [some _, some _, some _, some _, none, none]) ⟨rfl, ⟨rfl, ⟨rfl, ⟨rfl, trivial⟩⟩⟩⟩ ?_
                  exact ih1 _ _ (⟨by omega, by rw [cntN_s _ hI1.1, ← hI2, hnb, c4]; rfl, by rw [show S 10 0 - (k + 1) = S 10 0 - k - 1 by omega, ← firstR_f he (by omega)]; exact hI3⟩) (by omega)
              · refine g_iload_n C dX5_treadleOf_73 (gi _) rfl ?_
                exact g_iret C hQ rfl dX5_treadleOf_74 ⟨gv (by rw [numV, ← hI3, firstR_t (by simp [eqB, c3]) (by omega)]; exact hI2), rfl, rfl⟩
            · have hx1 := hR3 hh hJ1.1 (by omega)
              refine g_iload C dX5_treadleOf_24 (gi _) rfl ?_
              refine g_ifeq_b C (tgt := 49) dX5_treadleOf_26 (by decide) (fun c5 => ?_) (fun c5 => ?_)
              · refine g_iconst C dX5_treadleOf_49 ?_
                refine g_istore1004 C dX5_treadleOf_50 (gi _) rfl ?_
                refine g_iinc1005 C dX5_treadleOf_52 rfl ?_
                refine g_goto C (tgt := 18) dX5_treadleOf_55 (by decide) ?_
                exact ih2 false _ (⟨by omega, by rw [fo_s (by omega), ← hJ2, c5]; rfl⟩) (by omega)
              · refine g_aload_n C dX5_treadleOf_29 (gr _) rfl ?_
                refine M_g_crosses C q1192 dX5_treadleOf_30 ?_
                refine g_iload C dX5_treadleOf_33 (gi _) rfl ?_
                refine M_ld_crosses C (by omega) dX5_treadleOf_35 ?_
                refine g_aload_n C dX5_treadleOf_36 (gr _) rfl ?_
                refine M_g_crosses C q1192 dX5_treadleOf_37 ?_
                refine g_iload_n C dX5_treadleOf_40 (gi _) rfl ?_
                refine M_ld_crosses C (by omega) dX5_treadleOf_41 ?_
                refine g_icmp_eq C (tgt := 49) dX5_treadleOf_42 (by decide) (by omega) (fun c6 => ?_) (fun c6 => ?_)
                · refine g_iconst C dX5_treadleOf_49 ?_
                  refine g_istore1004 C dX5_treadleOf_50 (gi _) rfl ?_
                  refine g_iinc1005 C dX5_treadleOf_52 rfl ?_
                  refine g_goto C (tgt := 18) dX5_treadleOf_55 (by decide) ?_
                  exact ih2 false _ (⟨by omega, by rw [fo_s (by omega), ← hJ2]; simp [newF, c6]⟩) (by omega)
                · refine g_iconst C dX5_treadleOf_45 ?_
                  refine g_goto C (tgt := 50) dX5_treadleOf_46 (by decide) ?_
                  refine g_istore1004 C dX5_treadleOf_50 (gi _) rfl ?_
                  refine g_iinc1005 C dX5_treadleOf_52 rfl ?_
                  refine g_goto C (tgt := 18) dX5_treadleOf_55 (by decide) ?_
                  exact ih2 true _ (⟨by omega, by rw [fo_s (by omega), ← hJ2, c5]; simp [newF, c6]⟩) (by omega)
        exact lp18_2 _ true _ (⟨by omega, rfl⟩) (Nat.lt_succ_self _)
  refine g_sub (L' := [some _, some _, some _, some _, none, none]) ⟨rfl, ⟨rfl, ⟨rfl, ⟨rfl, trivial⟩⟩⟩⟩ ?_
  exact lp4_1 _ _ _ (⟨by omega, rfl, by rw [show S 10 0 - 0 = S 10 0 by omega]⟩) (Nat.lt_succ_self _)

theorem nd_X5_leastShafts : yX5_leastShafts.cls ≠ "java/lang/invoke/MethodHandle" ∧ yX5_leastShafts.cls ≠ "java/lang/invoke/VarHandle" ∧ (parseMethodDescriptor yX5_leastShafts.desc).map (fun d => d.parameters.length) = some 0 := by decide +kernel
theorem mX5_leastShafts {l : Launch} {D : va_G} {dA : Nat → ClassId} {N0 : Nat} {Y : State → Prop} (hY : gYok N0 Y) {h : gH} {sz m : Nat} {S : MS} (hR : OkR S) : gM l D dA N0 Y yX5_leastShafts cX5_leastShafts 3 (some .int) 3 69 0 0 [.ref m] (ovM dA m S h) sz (gP (some (vI (lsV (colV S) (S 10 1)))) (ovM dA m S h) sz) := by
  refine gM.of hY (by decide +kernel) (Nat.le_of_ble_eq_true rfl) ?_
  intro X hX C hQ
  subst hX
  have C : gC X cX5_leastShafts RX5 "leastShafts" 3 (some .int) D dA N0 Y ({ frames := 3, cells := 0, slots := 0, locals := 69 }) := C
  show G X 0 0 _ _ 0 [some (.ref m), none, none] []
  have hR0 := hR
  obtain ⟨hR1, hR2, hR3⟩ := hR0
  refine g_iconst C dX5_leastShafts_0 ?_
  refine g_istore_n1001 C dX5_leastShafts_1 (gi _) rfl ?_
  refine g_iconst C dX5_leastShafts_2 ?_
  refine g_istore_n1002 C dX5_leastShafts_3 (gi _) rfl ?_
  have lp4_1 : ∀ (fuel : Nat) (mo i : Int), ((0 ≤ i ∧ i ≤ S 10 1) ∧ mo = fo (lsF (colV S) (S 10 1)) 0 i.toNat) → (S 10 1 - i).toNat < fuel → G X 0 0 (ovM dA m S h) sz 4 [some (.ref m), some (vI mo), some (vI i)] [] := by
    intro fuel
    induction fuel with
    | zero => intro mo i hI hfu; exact absurd hfu (Nat.not_lt_zero _)
    | succ fuel ih =>
      intro mo i hI hfu
      have ih1 := ih
      obtain ⟨hI1, hI2⟩ := hI
      have hs := lsV_rg (colV S) (S 10 1) (by omega) i.toNat
      rw [← hI2] at hs
      have hv := numV_rg (colV S) (S 10 1) i (by omega)
      refine g_iload_n C dX5_leastShafts_4 (gi _) rfl ?_
      refine g_aload_n C dX5_leastShafts_5 (gr _) rfl ?_
      refine M_g_columns C q1194 dX5_leastShafts_6 ?_
      refine g_icmp_ge C (tgt := 39) dX5_leastShafts_9 (by decide) (by omega) (fun c1 => ?_) (fun c1 => ?_)
      · refine g_iload_n C dX5_leastShafts_39 (gi _) rfl ?_
        exact g_iret C hQ rfl dX5_leastShafts_40 ⟨gv (by rw [hI2, show i = S 10 1 by omega]; rfl), rfl, rfl⟩
      · refine g_aload_n C dX5_leastShafts_12 (gr _) rfl ?_
        refine g_iload_n C dX5_leastShafts_13 (gi _) rfl ?_
        refine g_callV1z C (mX5_shaftOf hY (hR) (by omega)) (lw_V q1408 q1410 qs49 q72 q1411) ⟨rfl, nd_X5_shaftOf⟩ (ovM_0 _ _ _ _) rfl ⟨by decide, by decide⟩ ⟨Nat.le_of_ble_eq_true rfl, Nat.le_of_ble_eq_true rfl⟩ rfl (Nat.le_of_ble_eq_true rfl) dX5_leastShafts_14 ?_
        refine g_iload_n C dX5_leastShafts_17 (gi _) rfl ?_
        refine g_icmp_lt C (tgt := 31) dX5_leastShafts_18 (by decide) (by omega) (fun c2 => ?_) (fun c2 => ?_)
        · refine g_iload_n C dX5_leastShafts_31 (gi _) rfl ?_
          refine g_istore_n1001 C dX5_leastShafts_32 (gi _) rfl ?_
          refine g_iinc1002 C dX5_leastShafts_33 rfl ?_
          refine g_goto C (tgt := 4) dX5_leastShafts_36 (by decide) ?_
          exact ih1 _ _ (⟨by omega, by rw [fo_s (by omega), ← hI2]; unfold lsF; rw [if_neg (by omega)]⟩) (by omega)
        · refine g_aload_n C dX5_leastShafts_21 (gr _) rfl ?_
          refine g_iload_n C dX5_leastShafts_22 (gi _) rfl ?_
          refine g_callV1z C (mX5_shaftOf hY (hR) (by omega)) (lw_V q1408 q1410 qs49 q72 q1411) ⟨rfl, nd_X5_shaftOf⟩ (ovM_0 _ _ _ _) rfl ⟨by decide, by decide⟩ ⟨Nat.le_of_ble_eq_true rfl, Nat.le_of_ble_eq_true rfl⟩ rfl (Nat.le_of_ble_eq_true rfl) dX5_leastShafts_23 ?_
          refine g_iconst C dX5_leastShafts_26 ?_
          refine g_iadd C dX5_leastShafts_27 ?_
          refine g_goto C (tgt := 32) dX5_leastShafts_28 (by decide) ?_
          refine g_istore_n1001 C dX5_leastShafts_32 (gi _) rfl ?_
          refine g_iinc1002 C dX5_leastShafts_33 rfl ?_
          refine g_goto C (tgt := 4) dX5_leastShafts_36 (by decide) ?_
          exact ih1 _ _ (⟨by omega, by rw [fo_s (by omega), ← hI2]; unfold lsF; rw [if_pos (by omega)]⟩) (by omega)
  exact lp4_1 _ _ _ (⟨by omega, rfl⟩) (Nat.lt_succ_self _)

theorem nd_X5_leastTreadles : yX5_leastTreadles.cls ≠ "java/lang/invoke/MethodHandle" ∧ yX5_leastTreadles.cls ≠ "java/lang/invoke/VarHandle" ∧ (parseMethodDescriptor yX5_leastTreadles.desc).map (fun d => d.parameters.length) = some 0 := by decide +kernel
theorem mX5_leastTreadles {l : Launch} {D : va_G} {dA : Nat → ClassId} {N0 : Nat} {Y : State → Prop} (hY : gYok N0 Y) {h : gH} {sz m : Nat} {S : MS} (hR : OkR S) : gM l D dA N0 Y yX5_leastTreadles cX5_leastTreadles 3 (some .int) 1 25 0 0 [.ref m] (ovM dA m S h) sz (gP (some (vI (lsV (S 1) (S 10 0)))) (ovM dA m S h) sz) := by
  refine gM.of hY (by decide +kernel) (Nat.le_of_ble_eq_true rfl) ?_
  intro X hX C hQ
  subst hX
  have C : gC X cX5_leastTreadles RX5 "leastTreadles" 3 (some .int) D dA N0 Y ({ frames := 1, cells := 0, slots := 0, locals := 25 }) := C
  show G X 0 0 _ _ 0 [some (.ref m), none, none] []
  have hR0 := hR
  obtain ⟨hR1, hR2, hR3⟩ := hR0
  refine g_iconst C dX5_leastTreadles_0 ?_
  refine g_istore_n1001 C dX5_leastTreadles_1 (gi _) rfl ?_
  refine g_iconst C dX5_leastTreadles_2 ?_
  refine g_istore_n1002 C dX5_leastTreadles_3 (gi _) rfl ?_
  have lp4_1 : ∀ (fuel : Nat) (mo i : Int), ((0 ≤ i ∧ i ≤ S 10 0) ∧ mo = fo (lsF (S 1) (S 10 0)) 0 i.toNat) → (S 10 0 - i).toNat < fuel → G X 0 0 (ovM dA m S h) sz 4 [some (.ref m), some (vI mo), some (vI i)] [] := by
    intro fuel
    induction fuel with
    | zero => intro mo i hI hfu; exact absurd hfu (Nat.not_lt_zero _)
    | succ fuel ih =>
      intro mo i hI hfu
      have ih1 := ih
      obtain ⟨hI1, hI2⟩ := hI
      have hs := lsV_rg (S 1) (S 10 0) (by omega) i.toNat
      rw [← hI2] at hs
      have hv := numV_rg (S 1) (S 10 0) i (by omega)
      refine g_iload_n C dX5_leastTreadles_4 (gi _) rfl ?_
      refine g_aload_n C dX5_leastTreadles_5 (gr _) rfl ?_
      refine M_g_rows C q1193 dX5_leastTreadles_6 ?_
      refine g_icmp_ge C (tgt := 39) dX5_leastTreadles_9 (by decide) (by omega) (fun c1 => ?_) (fun c1 => ?_)
      · refine g_iload_n C dX5_leastTreadles_39 (gi _) rfl ?_
        exact g_iret C hQ rfl dX5_leastTreadles_40 ⟨gv (by rw [hI2, show i = S 10 0 by omega]; rfl), rfl, rfl⟩
      · refine g_aload_n C dX5_leastTreadles_12 (gr _) rfl ?_
        refine g_iload_n C dX5_leastTreadles_13 (gi _) rfl ?_
        refine g_callV1z C (mX5_treadleOf hY (hR) (by omega)) (lw_V q1420 q1422 qs52 q72 q1423) ⟨rfl, nd_X5_treadleOf⟩ (ovM_0 _ _ _ _) rfl ⟨by decide, by decide⟩ ⟨Nat.le_of_ble_eq_true rfl, Nat.le_of_ble_eq_true rfl⟩ rfl (Nat.le_of_ble_eq_true rfl) dX5_leastTreadles_14 ?_
        refine g_iload_n C dX5_leastTreadles_17 (gi _) rfl ?_
        refine g_icmp_lt C (tgt := 31) dX5_leastTreadles_18 (by decide) (by omega) (fun c2 => ?_) (fun c2 => ?_)
        · refine g_iload_n C dX5_leastTreadles_31 (gi _) rfl ?_
          refine g_istore_n1001 C dX5_leastTreadles_32 (gi _) rfl ?_
          refine g_iinc1002 C dX5_leastTreadles_33 rfl ?_
          refine g_goto C (tgt := 4) dX5_leastTreadles_36 (by decide) ?_
          exact ih1 _ _ (⟨by omega, by rw [fo_s (by omega), ← hI2]; unfold lsF; rw [if_neg (by omega)]⟩) (by omega)
        · refine g_aload_n C dX5_leastTreadles_21 (gr _) rfl ?_
          refine g_iload_n C dX5_leastTreadles_22 (gi _) rfl ?_
          refine g_callV1z C (mX5_treadleOf hY (hR) (by omega)) (lw_V q1420 q1422 qs52 q72 q1423) ⟨rfl, nd_X5_treadleOf⟩ (ovM_0 _ _ _ _) rfl ⟨by decide, by decide⟩ ⟨Nat.le_of_ble_eq_true rfl, Nat.le_of_ble_eq_true rfl⟩ rfl (Nat.le_of_ble_eq_true rfl) dX5_leastTreadles_23 ?_
          refine g_iconst C dX5_leastTreadles_26 ?_
          refine g_iadd C dX5_leastTreadles_27 ?_
          refine g_goto C (tgt := 32) dX5_leastTreadles_28 (by decide) ?_
          refine g_istore_n1001 C dX5_leastTreadles_32 (gi _) rfl ?_
          refine g_iinc1002 C dX5_leastTreadles_33 rfl ?_
          refine g_goto C (tgt := 4) dX5_leastTreadles_36 (by decide) ?_
          exact ih1 _ _ (⟨by omega, by rw [fo_s (by omega), ← hI2]; unfold lsF; rw [if_pos (by omega)]⟩) (by omega)
  exact lp4_1 _ _ _ (⟨by omega, rfl⟩) (Nat.lt_succ_self _)

theorem nd_X5_isSame : yX5_isSame.cls ≠ "java/lang/invoke/MethodHandle" ∧ yX5_isSame.cls ≠ "java/lang/invoke/VarHandle" ∧ (parseMethodDescriptor yX5_isSame.desc).map (fun d => d.parameters.length) = some 0 := by decide +kernel
theorem mX5_isSame {l : Launch} {D : va_G} {dA : Nat → ClassId} {N0 : Nat} {Y : State → Prop} (hY : gYok N0 Y) {h : gH} {sz m : Nat} {S : MS} (hO : OkD (S 0)) (hR : OkR S) : gM l D dA N0 Y yX5_isSame cX5_isSame 3 (some .boolean) 3 66 0 0 [.ref m] (ovM dA m S h) sz (gP (some (vI (bI (sameB S)))) (ovM dA m S h) sz) := by
  refine gM.of hY (by decide +kernel) (Nat.le_of_ble_eq_true rfl) ?_
  intro X hX C hQ
  subst hX
  have C : gC X cX5_isSame RX5 "isSame" 3 (some .boolean) D dA N0 Y ({ frames := 3, cells := 0, slots := 0, locals := 66 }) := C
  show G X 0 0 _ _ 0 [some (.ref m), none, none] []
  have hn := hO.1
  have hR0 := hR
  obtain ⟨hR1, hR2, hR3⟩ := hR0
  have jn38 : ∀ (b : Bool), (b = same0 S) → G X 0 0 (ovM dA m S h) sz 38 [some (.ref m), none, none] [vI (bI b)] := by
    intro b hb
    refine g_istore_n1001 C dX5_isSame_38 (gi _) rfl ?_
    refine g_iconst C dX5_isSame_39 ?_
    refine g_istore_n1002 C dX5_isSame_40 (gi _) rfl ?_
    have lp41_1 : ∀ (fuel : Nat) (x : Bool) (r : Int), ((0 ≤ r ∧ r ≤ S 10 0) ∧ x = fo (sameF S) (same0 S) r.toNat) → (S 10 0 - r).toNat < fuel → G X 0 0 (ovM dA m S h) sz 41 [some (.ref m), some (vI (bI x)), some (vI r)] [] := by
      intro fuel
      induction fuel with
      | zero => intro x r hI hfu; exact absurd hfu (Nat.not_lt_zero _)
      | succ fuel ih =>
        intro x r hI hfu
        have ih1 := ih
        obtain ⟨hI1, hI2⟩ := hI
        have hu := upPick_rg (S := S) r hO
        refine g_iload_n C dX5_isSame_41 (gi _) rfl ?_
        refine g_aload_n C dX5_isSame_42 (gr _) rfl ?_
        refine M_g_rows C q1193 dX5_isSame_43 ?_
        refine g_icmp_ge C (tgt := 79) dX5_isSame_46 (by decide) (by omega) (fun c1 => ?_) (fun c1 => ?_)
        · refine g_iload_n C dX5_isSame_79 (gi _) rfl ?_
          exact g_zret C hQ rfl dX5_isSame_80 ⟨gz (by rw [hI2, show r = S 10 0 by omega]; rfl), rfl, rfl⟩
        · have hc := hR3 r hI1.1 c1
          have hsd := same0_r S
          refine g_iload_n C dX5_isSame_49 (gi _) rfl ?_
          refine g_ifeq_b C (tgt := 79) dX5_isSame_50 (by decide) (fun c2 => ?_) (fun c2 => ?_)
          · refine g_iload_n C dX5_isSame_79 (gi _) rfl ?_
            exact g_zret C hQ rfl dX5_isSame_80 ⟨gz (by rw [c2]; exact (fo_false (fun _ => rfl) ⟨hI1.1, by omega⟩ (hI2.symm.trans c2)).symm), rfl, rfl⟩
          · have hlt : same0 S = true := by
              cases hs0 : same0 S with
              | true => rfl
              | false => rw [hs0] at hI2; rw [fo_false (fun _ => rfl) ⟨Int.le_refl 0, by omega⟩ rfl] at hI2; rw [hI2] at c2; cases c2
            have hpk := hsd hlt
            refine g_aload_n C dX5_isSame_53 (gr _) rfl ?_
            refine g_iload_n C dX5_isSame_54 (gi _) rfl ?_
            refine g_callV1z C (mX5_upPick hY (hO) (by omega)) (lw_V q1343 q1345 qs41 q72 q1346) ⟨rfl, nd_X5_upPick⟩ (ovM_0 _ _ _ _) rfl ⟨by decide, by decide⟩ ⟨Nat.le_of_ble_eq_true rfl, Nat.le_of_ble_eq_true rfl⟩ rfl (Nat.le_of_ble_eq_true rfl) dX5_isSame_55 ?_
            refine g_aload_n C dX5_isSame_58 (gr _) rfl ?_
            refine M_g_crosses C q1192 dX5_isSame_59 ?_
            refine g_iload_n C dX5_isSame_62 (gi _) rfl ?_
            refine M_ld_crosses C (by omega) dX5_isSame_63 ?_
            refine g_icmp_ne C (tgt := 71) dX5_isSame_64 (by decide) (by omega) (fun c3 => ?_) (fun c3 => ?_)
            · refine g_iconst C dX5_isSame_71 ?_
              refine g_istore_n1001 C dX5_isSame_72 (gi _) rfl ?_
              refine g_iinc1002 C dX5_isSame_73 rfl ?_
              refine g_goto C (tgt := 41) dX5_isSame_76 (by decide) ?_
              exact ih1 false _ (⟨by omega, by rw [fo_s (by omega), ← hI2]; simp [sameF, c3]⟩) (by omega)
            · refine g_iconst C dX5_isSame_67 ?_
              refine g_goto C (tgt := 72) dX5_isSame_68 (by decide) ?_
              refine g_istore_n1001 C dX5_isSame_72 (gi _) rfl ?_
              refine g_iinc1002 C dX5_isSame_73 rfl ?_
              refine g_goto C (tgt := 41) dX5_isSame_76 (by decide) ?_
              exact ih1 true _ (⟨by omega, by rw [fo_s (by omega), ← hI2, c2]; simp [sameF, c3]⟩) (by omega)
    exact lp41_1 _ _ _ (⟨by omega, hb⟩) (Nat.lt_succ_self _)
  refine g_aload_n C dX5_isSame_0 (gr _) rfl ?_
  refine M_g_rows C q1193 dX5_isSame_1 ?_
  refine g_if_le C (tgt := 37) dX5_isSame_4 (by decide) (by omega) (fun c4 => ?_) (fun c4 => ?_)
  · refine g_iconst C dX5_isSame_37 ?_
    refine g_sub (L' := [some _, none, none]) ⟨rfl, trivial⟩ ?_
    exact jn38 false (by simp [same0]; omega)
  · refine g_aload_n C dX5_isSame_7 (gr _) rfl ?_
    refine M_g_rows C q1193 dX5_isSame_8 ?_
    refine g_aload_n C dX5_isSame_11 (gr _) rfl ?_
    refine M_g_row C q1191 dX5_isSame_12 ?_
    refine g_iconst C dX5_isSame_15 ?_
    refine M_ld_row C (by omega) dX5_isSame_16 ?_
    refine g_icmp_ne C (tgt := 37) dX5_isSame_17 (by decide) (by omega) (fun c5 => ?_) (fun c5 => ?_)
    · refine g_iconst C dX5_isSame_37 ?_
      refine g_sub (L' := [some _, none, none]) ⟨rfl, trivial⟩ ?_
      exact jn38 false (by simp [same0]; omega)
    · refine g_aload_n C dX5_isSame_20 (gr _) rfl ?_
      refine M_g_columns C q1194 dX5_isSame_21 ?_
      refine g_aload_n C dX5_isSame_24 (gr _) rfl ?_
      refine M_g_row C q1191 dX5_isSame_25 ?_
      refine g_iconst C dX5_isSame_28 ?_
      refine M_ld_row C (by omega) dX5_isSame_29 ?_
      refine g_icmp_ne C (tgt := 37) dX5_isSame_30 (by decide) (by omega) (fun c6 => ?_) (fun c6 => ?_)
      · refine g_iconst C dX5_isSame_37 ?_
        refine g_sub (L' := [some _, none, none]) ⟨rfl, trivial⟩ ?_
        exact jn38 false (by simp [same0]; omega)
      · refine g_iconst C dX5_isSame_33 ?_
        refine g_goto C (tgt := 38) dX5_isSame_34 (by decide) ?_
        refine g_sub (L' := [some _, none, none]) ⟨rfl, trivial⟩ ?_
        exact jn38 true (by simp [same0]; omega)

theorem nd_X5_least : yX5_least.cls ≠ "java/lang/invoke/MethodHandle" ∧ yX5_least.cls ≠ "java/lang/invoke/VarHandle" ∧ (parseMethodDescriptor yX5_least.desc).map (fun d => d.parameters.length) = some 1 := by decide +kernel
theorem mX5_least {l : Launch} {D : va_G} {dA : Nat → ClassId} {N0 : Nat} {Y : State → Prop} (hY : gYok N0 Y) {h : gH} {sz m : Nat} {S : MS} {w : Int} (hO : OkD (S 0)) (hR : OkR S) (hrw : -2147483648 ≤ w ∧ w ≤ 2147483647) : gM l D dA N0 Y yX5_least cX5_least 2 (some .int) 4 91 0 0 [.ref m, vI w] (ovM dA m S h) sz (gP (some (vI (leastV S w))) (ovM dA m S h) sz) := by
  refine gM.of hY (by decide +kernel) (Nat.le_of_ble_eq_true rfl) ?_
  intro X hX C hQ
  subst hX
  have C : gC X cX5_least RX5 "least" 2 (some .int) D dA N0 Y ({ frames := 4, cells := 0, slots := 0, locals := 91 }) := C
  show G X 0 0 _ _ 0 [some (.ref m), some (vI w)] []
  refine g_iload_n C dX5_least_0 (gi _) rfl ?_
  rcases (show w = 0 ∨ w = 1 ∨ w = 2 ∨ w = 3 ∨ w = 4 ∨ (w < 0 ∨ 4 < w) by omega) with rfl | rfl | rfl | rfl | rfl | w1
  · refine g_tabIn C (off := 35) (tgt := 36) dX5_least_1 (by omega) (by omega) rfl (by decide) ?_
    refine g_aload_n C dX5_least_36 (gr _) rfl ?_
    refine M_g_rows C q1193 dX5_least_37 ?_
    exact g_iret C hQ rfl dX5_least_40 ⟨gv (by simp [leastV]), rfl, rfl⟩
  · refine g_tabIn C (off := 40) (tgt := 41) dX5_least_1 (by omega) (by omega) rfl (by decide) ?_
    refine g_aload_n C dX5_least_41 (gr _) rfl ?_
    refine M_g_columns C q1194 dX5_least_42 ?_
    exact g_iret C hQ rfl dX5_least_45 ⟨gv (by simp [leastV]), rfl, rfl⟩
  · refine g_tabIn C (off := 45) (tgt := 46) dX5_least_1 (by omega) (by omega) rfl (by decide) ?_
    refine g_aload_n C dX5_least_46 (gr _) rfl ?_
    refine g_callV1z C (mX5_leastShafts hY (hR)) (lw_V q1404 q1406 qs48 q72 q1407) ⟨rfl, nd_X5_leastShafts⟩ (ovM_0 _ _ _ _) rfl ⟨by decide, by decide⟩ ⟨Nat.le_of_ble_eq_true rfl, Nat.le_of_ble_eq_true rfl⟩ rfl (Nat.le_of_ble_eq_true rfl) dX5_least_47 ?_
    exact g_iret C hQ rfl dX5_least_50 ⟨gv (by simp [leastV]), rfl, rfl⟩
  · refine g_tabIn C (off := 50) (tgt := 51) dX5_least_1 (by omega) (by omega) rfl (by decide) ?_
    refine g_aload_n C dX5_least_51 (gr _) rfl ?_
    refine g_callV1z C (mX5_leastTreadles hY (hR)) (lw_V q1416 q1418 qs51 q72 q1419) ⟨rfl, nd_X5_leastTreadles⟩ (ovM_0 _ _ _ _) rfl ⟨by decide, by decide⟩ ⟨Nat.le_of_ble_eq_true rfl, Nat.le_of_ble_eq_true rfl⟩ rfl (Nat.le_of_ble_eq_true rfl) dX5_least_52 ?_
    exact g_iret C hQ rfl dX5_least_55 ⟨gv (by simp [leastV]), rfl, rfl⟩
  · refine g_tabIn C (off := 55) (tgt := 56) dX5_least_1 (by omega) (by omega) rfl (by decide) ?_
    refine g_aload_n C dX5_least_56 (gr _) rfl ?_
    refine g_callV1z C (mX5_isSame hY (hO) (hR)) (lw_V q1448 q1450 qs54 q72 q1451) ⟨rfl, nd_X5_isSame⟩ (ovM_0 _ _ _ _) rfl ⟨by decide, by decide⟩ ⟨Nat.le_of_ble_eq_true rfl, Nat.le_of_ble_eq_true rfl⟩ rfl (Nat.le_of_ble_eq_true rfl) dX5_least_57 ?_
    refine g_ifeq_b C (tgt := 67) dX5_least_60 (by decide) (fun c2 => ?_) (fun c2 => ?_)
    · refine g_iconst C dX5_least_67 ?_
      exact g_iret C hQ rfl dX5_least_68 ⟨gv (by simp [leastV, c2, bI]), rfl, rfl⟩
    · refine g_iconst C dX5_least_63 ?_
      refine g_goto C (tgt := 68) dX5_least_64 (by decide) ?_
      exact g_iret C hQ rfl dX5_least_68 ⟨gv (by simp [leastV, c2, bI]), rfl, rfl⟩
  · refine g_tabOut C (tgt := 69) dX5_least_1 (by omega) (by omega) (by decide) ?_
    refine g_bipush C dX5_least_69 (by decide +kernel) ?_
    exact g_iret C hQ rfl dX5_least_71 ⟨gv (by simp [leastV]; (repeat' split) <;> omega), rfl, rfl⟩

theorem nd_X5_sampled : yX5_sampled.cls ≠ "java/lang/invoke/MethodHandle" ∧ yX5_sampled.cls ≠ "java/lang/invoke/VarHandle" ∧ (parseMethodDescriptor yX5_sampled.desc).map (fun d => d.parameters.length) = some 2 := by decide +kernel
theorem mX5_sampled {l : Launch} {D : va_G} {dA : Nat → ClassId} {N0 : Nat} {Y : State → Prop} (hY : gYok N0 Y) {h : gH} {sz m : Nat} {S : MS} {r i : Int} (hR : OkR S) (hrr : -2147483648 ≤ r ∧ r ≤ 2147483647) (hri : -2147483648 ≤ i ∧ i ≤ 2147483647) : gM l D dA N0 Y yX5_sampled cX5_sampled 3 (some .int) 1 21 0 0 [.ref m, vI r, vI i] (ovM dA m S h) sz (gP (some (vI (sampledV S r i))) (ovM dA m S h) sz) := by
  refine gM.of hY (by decide +kernel) (Nat.le_of_ble_eq_true rfl) ?_
  intro X hX C hQ
  subst hX
  have C : gC X cX5_sampled RX5 "sampled" 3 (some .int) D dA N0 Y ({ frames := 1, cells := 0, slots := 0, locals := 21 }) := C
  show G X 0 0 _ _ 0 [some (.ref m), some (vI r), some (vI i)] []
  have hR0 := hR
  obtain ⟨hR1, hR2, hR3⟩ := hR0
  refine g_iload_n C dX5_sampled_0 (gi _) rfl ?_
  refine g_if_lt C (tgt := 8) dX5_sampled_1 (by decide) (by omega) (fun c1 => ?_) (fun c1 => ?_)
  · refine g_bipush C dX5_sampled_8 (by decide +kernel) ?_
    exact g_iret C hQ rfl dX5_sampled_10 ⟨gv (by unfold sampledV; (repeat' split) <;> first | omega | (simp_all [bI]; done)), rfl, rfl⟩
  · refine g_iload_n C dX5_sampled_4 (gi _) rfl ?_
    refine g_if_ge C (tgt := 11) dX5_sampled_5 (by decide) (by omega) (fun c2 => ?_) (fun c2 => ?_)
    · refine g_iload_n C dX5_sampled_11 (gi _) rfl ?_
      refine g_aload_n C dX5_sampled_12 (gr _) rfl ?_
      refine M_g_rows C q1193 dX5_sampled_13 ?_
      refine g_icmp_ge C (tgt := 27) dX5_sampled_16 (by decide) (by omega) (fun c3 => ?_) (fun c3 => ?_)
      · refine g_iconst C dX5_sampled_27 ?_
        refine g_goto C (tgt := 49) dX5_sampled_28 (by decide) ?_
        exact g_iret C hQ rfl dX5_sampled_49 ⟨gv (by unfold sampledV; (repeat' split) <;> first | omega | (simp_all [bI]; done)), rfl, rfl⟩
      · refine g_iload_n C dX5_sampled_19 (gi _) rfl ?_
        refine g_aload_n C dX5_sampled_20 (gr _) rfl ?_
        refine M_g_columns C q1194 dX5_sampled_21 ?_
        refine g_icmp_lt C (tgt := 31) dX5_sampled_24 (by decide) (by omega) (fun c4 => ?_) (fun c4 => ?_)
        · have hc := hR3 r (by omega) (by omega)
          refine g_aload_n C dX5_sampled_31 (gr _) rfl ?_
          refine M_g_crosses C q1192 dX5_sampled_32 ?_
          refine g_iload_n C dX5_sampled_35 (gi _) rfl ?_
          refine M_ld_crosses C (by omega) dX5_sampled_36 ?_
          refine g_iload_n C dX5_sampled_37 (gi _) rfl ?_
          refine g_callS1z C (mX5_has hY (by omega)) (lw_S q1329 q1330 q72 q1331) nd_X5_has ⟨by decide, by decide⟩ ⟨Nat.le_of_ble_eq_true rfl, Nat.le_of_ble_eq_true rfl⟩ rfl (Nat.le_of_ble_eq_true rfl) dX5_sampled_38 ?_
          refine g_ifeq_b C (tgt := 48) dX5_sampled_41 (by decide) (fun c5 => ?_) (fun c5 => ?_)
          · refine g_iconst C dX5_sampled_48 ?_
            exact g_iret C hQ rfl dX5_sampled_49 ⟨gv (by unfold sampledV; (repeat' split) <;> first | omega | (simp_all [bI]; done)), rfl, rfl⟩
          · refine g_iconst C dX5_sampled_44 ?_
            refine g_goto C (tgt := 49) dX5_sampled_45 (by decide) ?_
            exact g_iret C hQ rfl dX5_sampled_49 ⟨gv (by unfold sampledV; (repeat' split) <;> first | omega | (simp_all [bI]; done)), rfl, rfl⟩
        · refine g_iconst C dX5_sampled_27 ?_
          refine g_goto C (tgt := 49) dX5_sampled_28 (by decide) ?_
          exact g_iret C hQ rfl dX5_sampled_49 ⟨gv (by unfold sampledV; (repeat' split) <;> first | omega | (simp_all [bI]; done)), rfl, rfl⟩
    · refine g_bipush C dX5_sampled_8 (by decide +kernel) ?_
      exact g_iret C hQ rfl dX5_sampled_10 ⟨gv (by unfold sampledV; (repeat' split) <;> first | omega | (simp_all [bI]; done)), rfl, rfl⟩

theorem nd_X5_all : yX5_all.cls ≠ "java/lang/invoke/MethodHandle" ∧ yX5_all.cls ≠ "java/lang/invoke/VarHandle" ∧ (parseMethodDescriptor yX5_all.desc).map (fun d => d.parameters.length) = some 1 := by decide +kernel
theorem mX5_all {l : Launch} {D : va_G} {dA : Nat → ClassId} {N0 : Nat} {Y : State → Prop} (hY : gYok N0 Y) {h : gH} {sz m : Nat} {S : MS} {t : Int} (hT : OkT S) (ht : 0 ≤ t ∧ t < 3) : gM l D dA N0 Y yX5_all cX5_all 4 (some .int) 0 0 0 0 [.ref m, vI t] (ovM dA m S h) sz (gP (some (vI (allV S t))) (ovM dA m S h) sz) := by
  refine gM.of hY (by decide +kernel) (Nat.le_of_ble_eq_true rfl) ?_
  intro X hX C hQ
  subst hX
  have C : gC X cX5_all RX5 "all" 4 (some .int) D dA N0 Y ({ frames := 0, cells := 0, slots := 0, locals := 0 }) := C
  show G X 0 0 _ _ 0 [some (.ref m), some (vI t), none, none] []
  have hT1 := hT t ht.1 ht.2
  refine g_iconst C dX5_all_0 ?_
  refine g_istore_n1002 C dX5_all_1 (gi _) rfl ?_
  refine g_iconst C dX5_all_2 ?_
  refine g_istore_n1003 C dX5_all_3 (gi _) rfl ?_
  have lp4_1 : ∀ (fuel : Nat) (nn k : Int), ((0 ≤ k ∧ k ≤ 8 ∧ (S 4 t < k → k = 0)) ∧ nn = fo (allF S t) 0 k.toNat) → (S 4 t - k).toNat < fuel → G X 0 0 (ovM dA m S h) sz 4 [some (.ref m), some (vI t), some (vI nn), some (vI k)] [] := by
    intro fuel
    induction fuel with
    | zero => intro nn k hI hfu; exact absurd hfu (Nat.not_lt_zero _)
    | succ fuel ih =>
      intro nn k hI hfu
      have ih1 := ih
      obtain ⟨hI1, hI2⟩ := hI
      refine g_iload_n C dX5_all_4 (gi _) rfl ?_
      refine g_aload_n C dX5_all_5 (gr _) rfl ?_
      refine M_g_sizes C q1199 dX5_all_6 ?_
      refine g_iload_n C dX5_all_9 (gi _) rfl ?_
      refine M_ld_sizes C (by omega) dX5_all_10 ?_
      refine g_icmp_ge C (tgt := 34) dX5_all_11 (by decide) (by omega) (fun c1 => ?_) (fun c1 => ?_)
      · refine g_iload_n C dX5_all_34 (gi _) rfl ?_
        exact g_iret C hQ rfl dX5_all_35 ⟨gv (by rw [hI2]; unfold allV; rw [show (S 4 t).toNat = k.toNat by omega]), rfl, rfl⟩
      · have hv := hT1.2 k hI1.1 c1
        have hg := allV_rg t hT ht k.toNat (by omega)
        rw [← hI2] at hg
        refine g_iload_n C dX5_all_14 (gi _) rfl ?_
        refine g_aload_n C dX5_all_15 (gr _) rfl ?_
        refine M_g_threads C q1200 dX5_all_16 ?_
        refine g_bipush C dX5_all_19 (by decide +kernel) ?_
        refine g_iload_n C dX5_all_21 (gi _) rfl ?_
        refine g_imul C dX5_all_22 ?_
        refine g_iload_n C dX5_all_23 (gi _) rfl ?_
        refine g_iadd C dX5_all_24 ?_
        refine M_ld_threads C (by omega) dX5_all_25 ?_
        refine g_iadd C dX5_all_26 ?_
        refine g_istore_n1002 C dX5_all_27 (gi _) rfl ?_
        refine g_iinc1003 C dX5_all_28 rfl ?_
        refine g_goto C (tgt := 4) dX5_all_31 (by decide) ?_
        exact ih1 _ _ (⟨by omega, by rw [fo_s (by omega), ← hI2]; rfl⟩) (by omega)
  exact lp4_1 _ _ _ (⟨by omega, rfl⟩) (Nat.lt_succ_self _)

theorem nd_X5_allThreads : yX5_allThreads.cls ≠ "java/lang/invoke/MethodHandle" ∧ yX5_allThreads.cls ≠ "java/lang/invoke/VarHandle" ∧ (parseMethodDescriptor yX5_allThreads.desc).map (fun d => d.parameters.length) = some 0 := by decide +kernel
theorem mX5_allThreads {l : Launch} {D : va_G} {dA : Nat → ClassId} {N0 : Nat} {Y : State → Prop} (hY : gYok N0 Y) {h : gH} {sz m : Nat} {S : MS} (hT : OkT S) : gM l D dA N0 Y yX5_allThreads cX5_allThreads 3 (some .int) 0 0 0 0 [.ref m] (ovM dA m S h) sz (gP (some (vI (atV S))) (ovM dA m S h) sz) := by
  refine gM.of hY (by decide +kernel) (Nat.le_of_ble_eq_true rfl) ?_
  intro X hX C hQ
  subst hX
  have C : gC X cX5_allThreads RX5 "allThreads" 3 (some .int) D dA N0 Y ({ frames := 0, cells := 0, slots := 0, locals := 0 }) := C
  show G X 0 0 _ _ 0 [some (.ref m), none, none] []
  refine g_iconst C dX5_allThreads_0 ?_
  refine g_istore_n1001 C dX5_allThreads_1 (gi _) rfl ?_
  refine g_iconst C dX5_allThreads_2 ?_
  refine g_istore_n1002 C dX5_allThreads_3 (gi _) rfl ?_
  have lp4_1 : ∀ (fuel : Nat) (nn t : Int), ((0 ≤ t ∧ t ≤ 3) ∧ nn = fo (atF S) 0 t.toNat ∧ 0 ≤ nn ∧ nn ≤ 8 * t) → (3 - t).toNat < fuel → G X 0 0 (ovM dA m S h) sz 4 [some (.ref m), some (vI nn), some (vI t)] [] := by
    intro fuel
    induction fuel with
    | zero => intro nn t hI hfu; exact absurd hfu (Nat.not_lt_zero _)
    | succ fuel ih =>
      intro nn t hI hfu
      have ih1 := ih
      obtain ⟨hI1, hI2, hI3⟩ := hI
      refine g_iload_n C dX5_allThreads_4 (gi _) rfl ?_
      refine g_iconst C dX5_allThreads_5 ?_
      refine g_icmp_ge C (tgt := 37) dX5_allThreads_6 (by decide) (by omega) (fun c1 => ?_) (fun c1 => ?_)
      · refine g_iload_n C dX5_allThreads_37 (gi _) rfl ?_
        exact g_iret C hQ rfl dX5_allThreads_38 ⟨gv (by rw [hI2, show t = 3 by omega]; rfl), rfl, rfl⟩
      · have hT1 := (hT t hI1.1 c1).1
        refine g_iload_n C dX5_allThreads_9 (gi _) rfl ?_
        refine g_aload_n C dX5_allThreads_10 (gr _) rfl ?_
        refine M_g_sizes C q1199 dX5_allThreads_11 ?_
        refine g_iload_n C dX5_allThreads_14 (gi _) rfl ?_
        refine M_ld_sizes C (by omega) dX5_allThreads_15 ?_
        refine g_if_ge C (tgt := 23) dX5_allThreads_16 (by decide) (by omega) (fun c2 => ?_) (fun c2 => ?_)
        · refine g_aload_n C dX5_allThreads_23 (gr _) rfl ?_
          refine M_g_sizes C q1199 dX5_allThreads_24 ?_
          refine g_iload_n C dX5_allThreads_27 (gi _) rfl ?_
          refine M_ld_sizes C (by omega) dX5_allThreads_28 ?_
          refine g_iadd C dX5_allThreads_29 ?_
          refine g_istore_n1001 C dX5_allThreads_30 (gi _) rfl ?_
          refine g_iinc1002 C dX5_allThreads_31 rfl ?_
          refine g_goto C (tgt := 4) dX5_allThreads_34 (by decide) ?_
          exact ih1 _ _ (⟨by omega, by rw [fo_s (by omega), ← hI2]; simp only [atF]; rw [if_neg (by omega)], by omega⟩) (by omega)
        · refine g_iconst C dX5_allThreads_19 ?_
          refine g_goto C (tgt := 29) dX5_allThreads_20 (by decide) ?_
          refine g_iadd C dX5_allThreads_29 ?_
          refine g_istore_n1001 C dX5_allThreads_30 (gi _) rfl ?_
          refine g_iinc1002 C dX5_allThreads_31 rfl ?_
          refine g_goto C (tgt := 4) dX5_allThreads_34 (by decide) ?_
          exact ih1 _ _ (⟨by omega, by rw [fo_s (by omega), ← hI2]; simp only [atF]; rw [if_pos (by omega)], by omega⟩) (by omega)
  exact lp4_1 _ _ _ (⟨by omega, rfl, by omega⟩) (Nat.lt_succ_self _)

theorem nd_X5_measure : yX5_measure.cls ≠ "java/lang/invoke/MethodHandle" ∧ yX5_measure.cls ≠ "java/lang/invoke/VarHandle" ∧ (parseMethodDescriptor yX5_measure.desc).map (fun d => d.parameters.length) = some 2 := by decide +kernel
theorem mX5_measure {l : Launch} {D : va_G} {dA : Nat → ClassId} {N0 : Nat} {Y : State → Prop} (hY : gYok N0 Y) {h : gH} {sz m : Nat} {S : MS} {t w : Int} (hT : OkT S) (hrt : -2147483648 ≤ t ∧ t ≤ 2147483647) (hrw : -2147483648 ≤ w ∧ w ≤ 2147483647) : gM l D dA N0 Y yX5_measure cX5_measure 8 (some .int) 2 45 0 0 [.ref m, vI t, vI w] (ovM dA m S h) sz (gP (some (vI (measureV S t w))) (ovM dA m S h) sz) := by
  refine gM.of hY (by decide +kernel) (Nat.le_of_ble_eq_true rfl) ?_
  intro X hX C hQ
  subst hX
  have C : gC X cX5_measure RX5 "measure" 8 (some .int) D dA N0 Y ({ frames := 2, cells := 0, slots := 0, locals := 45 }) := C
  show G X 0 0 _ _ 0 [some (.ref m), some (vI t), some (vI w), none, none, none, none, none] []
  refine g_iload_n C dX5_measure_0 (gi _) rfl ?_
  refine g_callS1z C (mX5_isSpool hY (by omega)) (lw_S q1476 q1477 q72 q1478) nd_X5_isSpool ⟨by decide, by decide⟩ ⟨Nat.le_of_ble_eq_true rfl, Nat.le_of_ble_eq_true rfl⟩ rfl (Nat.le_of_ble_eq_true rfl) dX5_measure_1 ?_
  refine g_ifne_b C (tgt := 10) dX5_measure_4 (by decide) (fun c1 => ?_) (fun c1 => ?_)
  · have hti := c1
    have hte := inB_t.mp c1
    have hT1 := hT t (by omega) (by omega)
    refine g_iload_n C dX5_measure_10 (gi _) rfl ?_
    refine g_i2lz C dX5_measure_11 (by omega) ?_
    refine g_lconstz C 0 rfl dX5_measure_12 ?_
    refine g_ldc2z C 3 (by decide +kernel) q1502 dX5_measure_13 ?_
    refine g_callS1z C (mX5_in hY (by omega)) (lw_S q1252 q1253 q72 q1254) nd_X5_in ⟨by decide, by decide⟩ ⟨Nat.le_of_ble_eq_true rfl, Nat.le_of_ble_eq_true rfl⟩ rfl (Nat.le_of_ble_eq_true rfl) dX5_measure_16 ?_
    refine g_ifne_b C (tgt := 25) dX5_measure_19 (by decide) (fun c2 => ?_) (fun c2 => ?_)
    · have hwi := c2
      have hwe := inB_t.mp c2
      refine g_aload_n C dX5_measure_25 (gr _) rfl ?_
      refine M_g_sizes C q1199 dX5_measure_26 ?_
      refine g_iload_n C dX5_measure_29 (gi _) rfl ?_
      refine M_ld_sizes C (by omega) dX5_measure_30 ?_
      have jn61 : (0 ≤ S 4 t ∧ ¬ (S 4 t = 0 ∧ inB w 1 2 = true)) → G X 0 0 (ovM dA m S h) sz 61 [some (.ref m), some (vI t), some (vI w), none, none, none, none, none] [] := by
        intro hj
        refine g_iconst C dX5_measure_61 ?_
        refine g_istore_n1003 C dX5_measure_62 (gi _) rfl ?_
        refine g_iconst C dX5_measure_63 ?_
        refine g_istore1004 C dX5_measure_64 (gi _) rfl ?_
        refine g_iconst C dX5_measure_66 ?_
        refine g_istore1005 C dX5_measure_67 (gi _) rfl ?_
        refine g_iconst C dX5_measure_69 ?_
        refine g_istore1006 C dX5_measure_70 (gi _) rfl ?_
        have lp72_1 : ∀ (fuel : Nat) (lg lo la k : Int), ((0 ≤ k ∧ k ≤ S 4 t) ∧ (lo, lg, la) = fo (msF S t) (0, 0, 0) k.toNat) → (S 4 t - k).toNat < fuel → G X 0 0 (ovM dA m S h) sz 72 [some (.ref m), some (vI t), some (vI w), some (vI lg), some (vI lo), some (vI la), some (vI k), none] [] := by
          intro fuel
          induction fuel with
          | zero => intro lg lo la k hI hfu; exact absurd hfu (Nat.not_lt_zero _)
          | succ fuel ih =>
            intro lg lo la k hI hfu
            have ih1 := ih
            obtain ⟨hI1, hI2⟩ := hI
            have hg := ms_rg t hT (by omega) k.toNat (by omega)
            rw [← hI2] at hg
            simp only at hg
            refine g_iload C dX5_measure_72 (gi _) rfl ?_
            refine g_aload_n C dX5_measure_74 (gr _) rfl ?_
            refine M_g_sizes C q1199 dX5_measure_75 ?_
            refine g_iload_n C dX5_measure_78 (gi _) rfl ?_
            refine M_ld_sizes C (by omega) dX5_measure_79 ?_
            refine g_icmp_ge C (tgt := 142) dX5_measure_80 (by decide) (by omega) (fun c3 => ?_) (fun c3 => ?_)
            · have hms : msV S t = (lo, lg, la) := by rw [msV, hI2, show (S 4 t).toNat = k.toNat by omega]
              refine g_iload_n C dX5_measure_142 (gi _) rfl ?_
              refine g_if_ne C (tgt := 154) dX5_measure_143 (by decide) (by omega) (fun c4 => ?_) (fun c4 => ?_)
              · refine g_iload_n C dX5_measure_154 (gi _) rfl ?_
                refine g_iconst C dX5_measure_155 ?_
                refine g_icmp_ne C (tgt := 163) dX5_measure_156 (by decide) (by omega) (fun c5 => ?_) (fun c5 => ?_)
                · refine g_iload_n C dX5_measure_163 (gi _) rfl ?_
                  refine g_iconst C dX5_measure_164 ?_
                  refine g_icmp_ne C (tgt := 173) dX5_measure_165 (by decide) (by omega) (fun c6 => ?_) (fun c6 => ?_)
                  · refine g_iload C dX5_measure_173 (gi _) rfl ?_
                    exact g_iret C hQ rfl dX5_measure_175 ⟨gv (by unfold measureV; rw [if_neg (by rw [hti]; decide), if_neg (by rw [hwi]; decide), if_neg (show ¬ S 4 t < 0 by omega), if_neg hj.2, if_neg (show ¬ w = 0 by omega), if_neg (show ¬ w = 1 by omega), if_neg (show ¬ w = 2 by omega), hms]), rfl, rfl⟩
                  · refine g_iload C dX5_measure_168 (gi _) rfl ?_
                    refine g_goto C (tgt := 175) dX5_measure_170 (by decide) ?_
                    exact g_iret C hQ rfl dX5_measure_175 ⟨gv (by unfold measureV; rw [if_neg (by rw [hti]; decide), if_neg (by rw [hwi]; decide), if_neg (show ¬ S 4 t < 0 by omega), if_neg hj.2, if_neg (show ¬ w = 0 by omega), if_neg (show ¬ w = 1 by omega), if_pos (show w = 2 by omega), hms]), rfl, rfl⟩
                · refine g_iload_n C dX5_measure_159 (gi _) rfl ?_
                  refine g_goto C (tgt := 175) dX5_measure_160 (by decide) ?_
                  exact g_iret C hQ rfl dX5_measure_175 ⟨gv (by unfold measureV; rw [if_neg (by rw [hti]; decide), if_neg (by rw [hwi]; decide), if_neg (show ¬ S 4 t < 0 by omega), if_neg hj.2, if_neg (show ¬ w = 0 by omega), if_pos (show w = 1 by omega), hms]), rfl, rfl⟩
              · refine g_aload_n C dX5_measure_146 (gr _) rfl ?_
                refine g_iload_n C dX5_measure_147 (gi _) rfl ?_
                refine g_callV1z C (mX5_all hY (hT) (by omega)) (lw_V q1490 q1492 qs56 q72 q1493) ⟨rfl, nd_X5_all⟩ (ovM_0 _ _ _ _) rfl ⟨by decide, by decide⟩ ⟨Nat.le_of_ble_eq_true rfl, Nat.le_of_ble_eq_true rfl⟩ rfl (Nat.le_of_ble_eq_true rfl) dX5_measure_148 ?_
                refine g_goto C (tgt := 175) dX5_measure_151 (by decide) ?_
                exact g_iret C hQ rfl dX5_measure_175 ⟨gv (by unfold measureV; rw [if_neg (by rw [hti]; decide), if_neg (by rw [hwi]; decide), if_neg (show ¬ S 4 t < 0 by omega), if_neg hj.2, if_pos (show w = 0 by omega)]), rfl, rfl⟩
            · have hv := hT1.2 k hI1.1 c3
              refine g_aload_n C dX5_measure_83 (gr _) rfl ?_
              refine M_g_threads C q1200 dX5_measure_84 ?_
              refine g_bipush C dX5_measure_87 (by decide +kernel) ?_
              refine g_iload_n C dX5_measure_89 (gi _) rfl ?_
              refine g_imul C dX5_measure_90 ?_
              refine g_iload C dX5_measure_91 (gi _) rfl ?_
              refine g_iadd C dX5_measure_93 ?_
              refine M_ld_threads C (by omega) dX5_measure_94 ?_
              refine g_istore1007 C dX5_measure_95 (gi _) rfl ?_
              refine g_iload C dX5_measure_97 (gi _) rfl ?_
              refine g_iload C dX5_measure_99 (gi _) rfl ?_
              refine g_if_le C (tgt := 115) dX5_measure_101 (by decide) (by omega) (fun c7 => ?_) (fun c7 => ?_)
              · refine g_iconst C dX5_measure_115 ?_
                refine g_iadd C dX5_measure_116 ?_
                refine g_istore1004 C dX5_measure_117 (gi _) rfl ?_
                refine g_iload C dX5_measure_119 (gi _) rfl ?_
                refine g_iload_n C dX5_measure_121 (gi _) rfl ?_
                refine g_icmp_le C (tgt := 130) dX5_measure_122 (by decide) (by omega) (fun c8 => ?_) (fun c8 => ?_)
                · refine g_iload_n C dX5_measure_130 (gi _) rfl ?_
                  refine g_istore_n1003 C dX5_measure_131 (gi _) rfl ?_
                  refine g_iload C dX5_measure_132 (gi _) rfl ?_
                  refine g_istore1005 C dX5_measure_134 (gi _) rfl ?_
                  refine g_iinc1006 C dX5_measure_136 rfl ?_
                  refine g_goto C (tgt := 72) dX5_measure_139 (by decide) ?_
                  refine g_sub (L' := [some _, some _, some _, some _, some _, some _, some _, none]) ⟨rfl, ⟨rfl, ⟨rfl, ⟨rfl, ⟨rfl, ⟨rfl, ⟨rfl, trivial⟩⟩⟩⟩⟩⟩⟩ ?_
                  exact ih1 _ _ _ _ (⟨by omega, by rw [fo_s (by omega), ← hI2]; simp only [msF, mxI]; (repeat' split) <;> first | omega | rfl⟩) (by omega)
                · refine g_iload C dX5_measure_125 (gi _) rfl ?_
                  refine g_goto C (tgt := 131) dX5_measure_127 (by decide) ?_
                  refine g_istore_n1003 C dX5_measure_131 (gi _) rfl ?_
                  refine g_iload C dX5_measure_132 (gi _) rfl ?_
                  refine g_istore1005 C dX5_measure_134 (gi _) rfl ?_
                  refine g_iinc1006 C dX5_measure_136 rfl ?_
                  refine g_goto C (tgt := 72) dX5_measure_139 (by decide) ?_
                  refine g_sub (L' := [some _, some _, some _, some _, some _, some _, some _, none]) ⟨rfl, ⟨rfl, ⟨rfl, ⟨rfl, ⟨rfl, ⟨rfl, ⟨rfl, trivial⟩⟩⟩⟩⟩⟩⟩ ?_
                  exact ih1 _ _ _ _ (⟨by omega, by rw [fo_s (by omega), ← hI2]; simp only [msF, mxI]; (repeat' split) <;> first | omega | rfl⟩) (by omega)
              · refine g_iload C dX5_measure_104 (gi _) rfl ?_
                refine g_iload C dX5_measure_106 (gi _) rfl ?_
                refine g_icmp_le C (tgt := 115) dX5_measure_108 (by decide) (by omega) (fun c9 => ?_) (fun c9 => ?_)
                · refine g_iconst C dX5_measure_115 ?_
                  refine g_iadd C dX5_measure_116 ?_
                  refine g_istore1004 C dX5_measure_117 (gi _) rfl ?_
                  refine g_iload C dX5_measure_119 (gi _) rfl ?_
                  refine g_iload_n C dX5_measure_121 (gi _) rfl ?_
                  refine g_icmp_le C (tgt := 130) dX5_measure_122 (by decide) (by omega) (fun c10 => ?_) (fun c10 => ?_)
                  · refine g_iload_n C dX5_measure_130 (gi _) rfl ?_
                    refine g_istore_n1003 C dX5_measure_131 (gi _) rfl ?_
                    refine g_iload C dX5_measure_132 (gi _) rfl ?_
                    refine g_istore1005 C dX5_measure_134 (gi _) rfl ?_
                    refine g_iinc1006 C dX5_measure_136 rfl ?_
                    refine g_goto C (tgt := 72) dX5_measure_139 (by decide) ?_
                    refine g_sub (L' := [some _, some _, some _, some _, some _, some _, some _, none]) ⟨rfl, ⟨rfl, ⟨rfl, ⟨rfl, ⟨rfl, ⟨rfl, ⟨rfl, trivial⟩⟩⟩⟩⟩⟩⟩ ?_
                    exact ih1 _ _ _ _ (⟨by omega, by rw [fo_s (by omega), ← hI2]; simp only [msF, mxI]; (repeat' split) <;> first | omega | rfl⟩) (by omega)
                  · refine g_iload C dX5_measure_125 (gi _) rfl ?_
                    refine g_goto C (tgt := 131) dX5_measure_127 (by decide) ?_
                    refine g_istore_n1003 C dX5_measure_131 (gi _) rfl ?_
                    refine g_iload C dX5_measure_132 (gi _) rfl ?_
                    refine g_istore1005 C dX5_measure_134 (gi _) rfl ?_
                    refine g_iinc1006 C dX5_measure_136 rfl ?_
                    refine g_goto C (tgt := 72) dX5_measure_139 (by decide) ?_
                    refine g_sub (L' := [some _, some _, some _, some _, some _, some _, some _, none]) ⟨rfl, ⟨rfl, ⟨rfl, ⟨rfl, ⟨rfl, ⟨rfl, ⟨rfl, trivial⟩⟩⟩⟩⟩⟩⟩ ?_
                    exact ih1 _ _ _ _ (⟨by omega, by rw [fo_s (by omega), ← hI2]; simp only [msF, mxI]; (repeat' split) <;> first | omega | rfl⟩) (by omega)
                · refine g_iconst C dX5_measure_111 ?_
                  refine g_goto C (tgt := 116) dX5_measure_112 (by decide) ?_
                  refine g_iadd C dX5_measure_116 ?_
                  refine g_istore1004 C dX5_measure_117 (gi _) rfl ?_
                  refine g_iload C dX5_measure_119 (gi _) rfl ?_
                  refine g_iload_n C dX5_measure_121 (gi _) rfl ?_
                  refine g_icmp_le C (tgt := 130) dX5_measure_122 (by decide) (by omega) (fun c11 => ?_) (fun c11 => ?_)
                  · refine g_iload_n C dX5_measure_130 (gi _) rfl ?_
                    refine g_istore_n1003 C dX5_measure_131 (gi _) rfl ?_
                    refine g_iload C dX5_measure_132 (gi _) rfl ?_
                    refine g_istore1005 C dX5_measure_134 (gi _) rfl ?_
                    refine g_iinc1006 C dX5_measure_136 rfl ?_
                    refine g_goto C (tgt := 72) dX5_measure_139 (by decide) ?_
                    refine g_sub (L' := [some _, some _, some _, some _, some _, some _, some _, none]) ⟨rfl, ⟨rfl, ⟨rfl, ⟨rfl, ⟨rfl, ⟨rfl, ⟨rfl, trivial⟩⟩⟩⟩⟩⟩⟩ ?_
                    exact ih1 _ _ _ _ (⟨by omega, by rw [fo_s (by omega), ← hI2]; simp only [msF, mxI]; (repeat' split) <;> first | omega | rfl⟩) (by omega)
                  · refine g_iload C dX5_measure_125 (gi _) rfl ?_
                    refine g_goto C (tgt := 131) dX5_measure_127 (by decide) ?_
                    refine g_istore_n1003 C dX5_measure_131 (gi _) rfl ?_
                    refine g_iload C dX5_measure_132 (gi _) rfl ?_
                    refine g_istore1005 C dX5_measure_134 (gi _) rfl ?_
                    refine g_iinc1006 C dX5_measure_136 rfl ?_
                    refine g_goto C (tgt := 72) dX5_measure_139 (by decide) ?_
                    refine g_sub (L' := [some _, some _, some _, some _, some _, some _, some _, none]) ⟨rfl, ⟨rfl, ⟨rfl, ⟨rfl, ⟨rfl, ⟨rfl, ⟨rfl, trivial⟩⟩⟩⟩⟩⟩⟩ ?_
                    exact ih1 _ _ _ _ (⟨by omega, by rw [fo_s (by omega), ← hI2]; simp only [msF, mxI]; (repeat' split) <;> first | omega | rfl⟩) (by omega)
        refine g_sub (L' := [some _, some _, some _, some _, some _, some _, some _, none]) ⟨rfl, ⟨rfl, ⟨rfl, ⟨rfl, ⟨rfl, ⟨rfl, ⟨rfl, trivial⟩⟩⟩⟩⟩⟩⟩ ?_
        exact lp72_1 _ _ _ _ _ (⟨by omega, rfl⟩) (Nat.lt_succ_self _)
      refine g_if_ge C (tgt := 37) dX5_measure_31 (by decide) (by omega) (fun c12 => ?_) (fun c12 => ?_)
      · refine g_aload_n C dX5_measure_37 (gr _) rfl ?_
        refine M_g_sizes C q1199 dX5_measure_38 ?_
        refine g_iload_n C dX5_measure_41 (gi _) rfl ?_
        refine M_ld_sizes C (by omega) dX5_measure_42 ?_
        refine g_if_ne C (tgt := 61) dX5_measure_43 (by decide) (by omega) (fun c13 => ?_) (fun c13 => ?_)
        · refine g_sub (L' := [some _, some _, some _, none, none, none, none, none]) ⟨rfl, ⟨rfl, ⟨rfl, trivial⟩⟩⟩ ?_
          exact jn61  (⟨by omega, by omega⟩)
        · refine g_iload_n C dX5_measure_46 (gi _) rfl ?_
          refine g_i2lz C dX5_measure_47 (by omega) ?_
          refine g_lconstz C 1 rfl dX5_measure_48 ?_
          refine g_ldc2z C 2 (by decide +kernel) q1479 dX5_measure_49 ?_
          refine g_callS1z C (mX5_in hY (by omega)) (lw_S q1252 q1253 q72 q1254) nd_X5_in ⟨by decide, by decide⟩ ⟨Nat.le_of_ble_eq_true rfl, Nat.le_of_ble_eq_true rfl⟩ rfl (Nat.le_of_ble_eq_true rfl) dX5_measure_52 ?_
          refine g_ifeq_b C (tgt := 61) dX5_measure_55 (by decide) (fun c14 => ?_) (fun c14 => ?_)
          · have hwf := c14
            refine g_sub (L' := [some _, some _, some _, none, none, none, none, none]) ⟨rfl, ⟨rfl, ⟨rfl, trivial⟩⟩⟩ ?_
            exact jn61  (⟨by omega, by simp [hwf]⟩)
          · refine g_bipush C dX5_measure_58 (by decide +kernel) ?_
            exact g_iret C hQ rfl dX5_measure_60 ⟨gv (by simp_all [measureV]; try omega), rfl, rfl⟩
      · refine g_bipush C dX5_measure_34 (by decide +kernel) ?_
        exact g_iret C hQ rfl dX5_measure_36 ⟨gv (by simp_all [measureV]; try omega), rfl, rfl⟩
    · refine g_bipush C dX5_measure_22 (by decide +kernel) ?_
      exact g_iret C hQ rfl dX5_measure_24 ⟨gv (by simp_all [measureV]; try omega), rfl, rfl⟩
  · refine g_bipush C dX5_measure_7 (by decide +kernel) ?_
    exact g_iret C hQ rfl dX5_measure_9 ⟨gv (by simp_all [measureV]; try omega), rfl, rfl⟩

theorem nd_X5_tamed : yX5_tamed.cls ≠ "java/lang/invoke/MethodHandle" ∧ yX5_tamed.cls ≠ "java/lang/invoke/VarHandle" ∧ (parseMethodDescriptor yX5_tamed.desc).map (fun d => d.parameters.length) = some 2 := by decide +kernel
theorem mX5_tamed {l : Launch} {D : va_G} {dA : Nat → ClassId} {N0 : Nat} {Y : State → Prop} (hY : gYok N0 Y) {h : gH} {sz m : Nat} {S : MS} {q k : Int} (hO : OkD (S 0)) (hrq : -2147483648 ≤ q ∧ q ≤ 2147483647) (hrk : -2147483648 ≤ k ∧ k ≤ 2147483647) : gM l D dA N0 Y yX5_tamed cX5_tamed 7 (some .int) 3 66 0 0 [.ref m, vI q, vI k] (ovM dA m S h) sz (gP (some (vI (tamedV S q k))) (ovM dA m S h) sz) := by
  refine gM.of hY (by decide +kernel) (Nat.le_of_ble_eq_true rfl) ?_
  intro X hX C hQ
  subst hX
  have C : gC X cX5_tamed RX5 "tamed" 7 (some .int) D dA N0 Y ({ frames := 3, cells := 0, slots := 0, locals := 66 }) := C
  show G X 0 0 _ _ 0 [some (.ref m), some (vI q), some (vI k), none, none, none, none] []
  have hn := hO.1
  refine g_aload_n C dX5_tamed_0 (gr _) rfl ?_
  refine g_iload_n C dX5_tamed_1 (gi _) rfl ?_
  refine g_callV1z C (mX5_isPick hY (by omega)) (lw_V q1339 q1341 qs40 q72 q1342) ⟨rfl, nd_X5_isPick⟩ (ovM_0 _ _ _ _) rfl ⟨by decide, by decide⟩ ⟨Nat.le_of_ble_eq_true rfl, Nat.le_of_ble_eq_true rfl⟩ rfl (Nat.le_of_ble_eq_true rfl) dX5_tamed_2 ?_
  refine g_ifne_b C (tgt := 11) dX5_tamed_5 (by decide) (fun c1 => ?_) (fun c1 => ?_)
  · have hqe := inB_t.mp c1
    have hu := upPick_rg (S := S) q hO
    have hsh := sh13 (i := S 0 0) (by omega)
    refine g_iload_n C dX5_tamed_11 (gi _) rfl ?_
    refine g_i2lz C dX5_tamed_12 (by omega) ?_
    refine g_lconstz C 1 rfl dX5_tamed_13 ?_
    refine g_ldc2z C 12 (by decide +kernel) q1460 dX5_tamed_14 ?_
    refine g_callS1z C (mX5_in hY (by omega)) (lw_S q1252 q1253 q72 q1254) nd_X5_in ⟨by decide, by decide⟩ ⟨Nat.le_of_ble_eq_true rfl, Nat.le_of_ble_eq_true rfl⟩ rfl (Nat.le_of_ble_eq_true rfl) dX5_tamed_17 ?_
    refine g_ifne_b C (tgt := 26) dX5_tamed_20 (by decide) (fun c2 => ?_) (fun c2 => ?_)
    · have hke := inB_t.mp c2
      refine g_aload_n C dX5_tamed_26 (gr _) rfl ?_
      refine g_iload_n C dX5_tamed_27 (gi _) rfl ?_
      refine g_callV1z C (mX5_upPick hY (hO) (by omega)) (lw_V q1343 q1345 qs41 q72 q1346) ⟨rfl, nd_X5_upPick⟩ (ovM_0 _ _ _ _) rfl ⟨by decide, by decide⟩ ⟨Nat.le_of_ble_eq_true rfl, Nat.le_of_ble_eq_true rfl⟩ rfl (Nat.le_of_ble_eq_true rfl) dX5_tamed_28 ?_
      refine g_istore_n1003 C dX5_tamed_31 (gi _) rfl ?_
      refine g_aload_n C dX5_tamed_32 (gr _) rfl ?_
      refine M_g_row C q1191 dX5_tamed_33 ?_
      refine g_iconst C dX5_tamed_36 ?_
      refine M_ld_row C (by omega) dX5_tamed_37 ?_
      refine g_istore1004 C dX5_tamed_38 (gi _) rfl ?_
      refine g_iload C dX5_tamed_40 (gi _) rfl ?_
      refine g_istore1005 C dX5_tamed_42 (gi _) rfl ?_
      refine g_iconst C dX5_tamed_44 ?_
      refine g_istore1006 C dX5_tamed_45 (gi _) rfl ?_
      have lp47_1 : ∀ (fuel : Nat) (best set : Int), ((0 ≤ set ∧ set ≤ shI (S 0 0)) ∧ best = fo (tmF (upPick S q) (S 0 0) k) (S 0 0) set.toNat ∧ 0 ≤ best ∧ best ≤ 12) → (shI (S 0 0) - set).toNat < fuel → G X 0 0 (ovM dA m S h) sz 47 [some (.ref m), some (vI q), some (vI k), some (vI (upPick S q)), some (vI (S 0 0)), some (vI best), some (vI set)] [] := by
        intro fuel
        induction fuel with
        | zero => intro best set hI hfu; exact absurd hfu (Nat.not_lt_zero _)
        | succ fuel ih =>
          intro best set hI hfu
          have ih1 := ih
          obtain ⟨hI1, hI2, hI3⟩ := hI
          refine g_iload C dX5_tamed_47 (gi _) rfl ?_
          refine g_iconst C dX5_tamed_49 ?_
          refine g_iload C dX5_tamed_50 (gi _) rfl ?_
          refine g_ishl C dX5_tamed_52 (zI_shl (by omega)) ?_
          refine g_icmp_ge C (tgt := 107) dX5_tamed_53 (by decide) (by omega) (fun c3 => ?_) (fun c3 => ?_)
          · refine g_iload C dX5_tamed_107 (gi _) rfl ?_
            exact g_iret C hQ rfl dX5_tamed_109 ⟨gv (by unfold tamedV; rw [if_neg (by rw [c1]; decide), if_neg (by rw [c2]; decide), hI2, show set = shI (S 0 0) by omega]), rfl, rfl⟩
          · have hon := ones_rg set
            have hx := xor12 (a := upPick S q) (b := set) (by omega)
            have hr1 := runV_rg (xorI (upPick S q) set) (S 0 0) true (by omega)
            have hr2 := runV_rg (xorI (upPick S q) set) (S 0 0) false (by omega)
            refine g_iload C dX5_tamed_56 (gi _) rfl ?_
            refine g_callS1z C (mX5_ones hY (by omega)) (lw_S q1461 q1462 q72 q1463) nd_X5_ones ⟨by decide, by decide⟩ ⟨Nat.le_of_ble_eq_true rfl, Nat.le_of_ble_eq_true rfl⟩ rfl (Nat.le_of_ble_eq_true rfl) dX5_tamed_58 ?_
            refine g_iload C dX5_tamed_61 (gi _) rfl ?_
            refine g_icmp_ge C (tgt := 101) dX5_tamed_63 (by decide) (by omega) (fun c4 => ?_) (fun c4 => ?_)
            · refine g_iinc1006 C dX5_tamed_101 rfl ?_
              refine g_goto C (tgt := 47) dX5_tamed_104 (by decide) ?_
              exact ih1 _ _ (⟨by omega, by rw [fo_s (by omega), ← hI2]; unfold tmF; rw [if_neg (by omega)], by omega⟩) (by omega)
            · refine g_iload_n C dX5_tamed_66 (gi _) rfl ?_
              refine g_iload C dX5_tamed_67 (gi _) rfl ?_
              refine g_ixor C dX5_tamed_69 (zI_xor (by omega)) ?_
              refine g_iload C dX5_tamed_70 (gi _) rfl ?_
              refine g_iconst C dX5_tamed_72 ?_
              refine g_callS1z C (mX5_run hY (by omega) (by omega) (b := true)) (lw_S q1332 q1333 q72 q1334) nd_X5_run ⟨by decide, by decide⟩ ⟨Nat.le_of_ble_eq_true rfl, Nat.le_of_ble_eq_true rfl⟩ rfl (Nat.le_of_ble_eq_true rfl) dX5_tamed_73 ?_
              refine g_iload_n C dX5_tamed_76 (gi _) rfl ?_
              refine g_icmp_gt C (tgt := 101) dX5_tamed_77 (by decide) (by omega) (fun c5 => ?_) (fun c5 => ?_)
              · refine g_iinc1006 C dX5_tamed_101 rfl ?_
                refine g_goto C (tgt := 47) dX5_tamed_104 (by decide) ?_
                exact ih1 _ _ (⟨by omega, by rw [fo_s (by omega), ← hI2]; unfold tmF; rw [if_neg (by omega)], by omega⟩) (by omega)
              · refine g_iload_n C dX5_tamed_80 (gi _) rfl ?_
                refine g_iload C dX5_tamed_81 (gi _) rfl ?_
                refine g_ixor C dX5_tamed_83 (zI_xor (by omega)) ?_
                refine g_iload C dX5_tamed_84 (gi _) rfl ?_
                refine g_iconst C dX5_tamed_86 ?_
                refine g_callS1z C (mX5_run hY (by omega) (by omega) (b := false)) (lw_S q1332 q1333 q72 q1334) nd_X5_run ⟨by decide, by decide⟩ ⟨Nat.le_of_ble_eq_true rfl, Nat.le_of_ble_eq_true rfl⟩ rfl (Nat.le_of_ble_eq_true rfl) dX5_tamed_87 ?_
                refine g_iload_n C dX5_tamed_90 (gi _) rfl ?_
                refine g_icmp_gt C (tgt := 101) dX5_tamed_91 (by decide) (by omega) (fun c6 => ?_) (fun c6 => ?_)
                · refine g_iinc1006 C dX5_tamed_101 rfl ?_
                  refine g_goto C (tgt := 47) dX5_tamed_104 (by decide) ?_
                  exact ih1 _ _ (⟨by omega, by rw [fo_s (by omega), ← hI2]; unfold tmF; rw [if_neg (by omega)], by omega⟩) (by omega)
                · refine g_iload C dX5_tamed_94 (gi _) rfl ?_
                  refine g_callS1z C (mX5_ones hY (by omega)) (lw_S q1461 q1462 q72 q1463) nd_X5_ones ⟨by decide, by decide⟩ ⟨Nat.le_of_ble_eq_true rfl, Nat.le_of_ble_eq_true rfl⟩ rfl (Nat.le_of_ble_eq_true rfl) dX5_tamed_96 ?_
                  refine g_istore1005 C dX5_tamed_99 (gi _) rfl ?_
                  refine g_iinc1006 C dX5_tamed_101 rfl ?_
                  refine g_goto C (tgt := 47) dX5_tamed_104 (by decide) ?_
                  exact ih1 _ _ (⟨by omega, by rw [fo_s (by omega), ← hI2]; unfold tmF; rw [if_pos (by omega)], by omega⟩) (by omega)
      exact lp47_1 _ _ _ (⟨by omega, rfl, by omega⟩) (Nat.lt_succ_self _)
    · refine g_bipush C dX5_tamed_23 (by decide +kernel) ?_
      exact g_iret C hQ rfl dX5_tamed_25 ⟨gv (by simp [tamedV, c1, c2]), rfl, rfl⟩
  · refine g_bipush C dX5_tamed_8 (by decide +kernel) ?_
    exact g_iret C hQ rfl dX5_tamed_10 ⟨gv (by simp [tamedV, c1]), rfl, rfl⟩

theorem nd_X5_swap : yX5_swap.cls ≠ "java/lang/invoke/MethodHandle" ∧ yX5_swap.cls ≠ "java/lang/invoke/VarHandle" ∧ (parseMethodDescriptor yX5_swap.desc).map (fun d => d.parameters.length) = some 2 := by decide +kernel
theorem mX5_swap {l : Launch} {D : va_G} {dA : Nat → ClassId} {N0 : Nat} {Y : State → Prop} (hY : gYok N0 Y) {h : gH} {sz m : Nat} {S : MS} {a b : Int} (hs : (0 ≤ a ∧ a < 638) ∧ 0 ≤ b ∧ b < 638) : gM l D dA N0 Y yX5_swap cX5_swap 4 none 0 0 0 0 [.ref m, vI a, vI b] (ovM dA m S h) sz (gP none (ovM dA m (swapS S a b) h) sz) := by
  refine gM.of hY (by decide +kernel) (Nat.le_of_ble_eq_true rfl) ?_
  intro X hX C hQ
  subst hX
  have C : gC X cX5_swap RX5 "swap" 4 none D dA N0 Y ({ frames := 0, cells := 0, slots := 0, locals := 0 }) := C
  show G X 0 0 _ _ 0 [some (.ref m), some (vI a), some (vI b), none] []
  refine g_aload_n C dX5_swap_0 (gr _) rfl ?_
  refine M_g_row C q1191 dX5_swap_1 ?_
  refine g_iload_n C dX5_swap_4 (gi _) rfl ?_
  refine M_ld_row C (by omega) dX5_swap_5 ?_
  refine g_istore_n1003 C dX5_swap_6 (gi _) rfl ?_
  refine g_aload_n C dX5_swap_7 (gr _) rfl ?_
  refine M_g_row C q1191 dX5_swap_8 ?_
  refine g_iload_n C dX5_swap_11 (gi _) rfl ?_
  refine g_aload_n C dX5_swap_12 (gr _) rfl ?_
  refine M_g_row C q1191 dX5_swap_13 ?_
  refine g_iload_n C dX5_swap_16 (gi _) rfl ?_
  refine M_ld_row C (by omega) dX5_swap_17 ?_
  refine M_st_row C (by omega) dX5_swap_18 ?_
  refine g_aload_n C dX5_swap_19 (gr _) rfl ?_
  refine M_g_row C q1191 dX5_swap_20 ?_
  refine g_iload_n C dX5_swap_23 (gi _) rfl ?_
  refine g_iload_n C dX5_swap_24 (gi _) rfl ?_
  refine M_st_row C (by omega) dX5_swap_25 ?_
  exact g_vret C hQ rfl dX5_swap_26 ⟨rfl, rfl, rfl⟩

theorem nd_X5_changed : yX5_changed.cls ≠ "java/lang/invoke/MethodHandle" ∧ yX5_changed.cls ≠ "java/lang/invoke/VarHandle" ∧ (parseMethodDescriptor yX5_changed.desc).map (fun d => d.parameters.length) = some 2 := by decide +kernel
theorem mX5_changed {l : Launch} {D : va_G} {dA : Nat → ClassId} {N0 : Nat} {Y : State → Prop} (hY : gYok N0 Y) {h : gH} {sz m : Nat} {S : MS} {a b : Int} (hO : OkD (S 0)) (hra : -2147483648 ≤ a ∧ a ≤ 2147483647) (hrb : -2147483648 ≤ b ∧ b ≤ 2147483647) : gM l D dA N0 Y yX5_changed cX5_changed 4 (some .int) 4 90 0 0 [.ref m, vI a, vI b] (ovM dA m S h) sz (gP (some (vI (changedV S a b))) (ovM dA m S h) sz) := by
  refine gM.of hY (by decide +kernel) (Nat.le_of_ble_eq_true rfl) ?_
  intro X hX C hQ
  subst hX
  have C : gC X cX5_changed RX5 "changed" 4 (some .int) D dA N0 Y ({ frames := 4, cells := 0, slots := 0, locals := 90 }) := C
  show G X 0 0 _ _ 0 [some (.ref m), some (vI a), some (vI b), none] []
  have hn := hO.1
  refine g_aload_n C dX5_changed_0 (gr _) rfl ?_
  refine g_iload_n C dX5_changed_1 (gi _) rfl ?_
  refine g_callV1z C (mX5_isEnd hY (by omega)) (lw_V q1317 q1319 qs37 q72 q1320) ⟨rfl, nd_X5_isEnd⟩ (ovM_0 _ _ _ _) rfl ⟨by decide, by decide⟩ ⟨Nat.le_of_ble_eq_true rfl, Nat.le_of_ble_eq_true rfl⟩ rfl (Nat.le_of_ble_eq_true rfl) dX5_changed_2 ?_
  refine g_ifeq_b C (tgt := 21) dX5_changed_5 (by decide) (fun c1 => ?_) (fun c1 => ?_)
  · refine g_bipush C dX5_changed_21 (by decide +kernel) ?_
    exact g_iret C hQ rfl dX5_changed_23 ⟨gv (by simp_all [changedV]), rfl, rfl⟩
  · have hae := inB_t.mp c1
    refine g_aload_n C dX5_changed_8 (gr _) rfl ?_
    refine g_iload_n C dX5_changed_9 (gi _) rfl ?_
    refine g_callV1z C (mX5_isEnd hY (by omega)) (lw_V q1317 q1319 qs37 q72 q1320) ⟨rfl, nd_X5_isEnd⟩ (ovM_0 _ _ _ _) rfl ⟨by decide, by decide⟩ ⟨Nat.le_of_ble_eq_true rfl, Nat.le_of_ble_eq_true rfl⟩ rfl (Nat.le_of_ble_eq_true rfl) dX5_changed_10 ?_
    refine g_ifeq_b C (tgt := 21) dX5_changed_13 (by decide) (fun c2 => ?_) (fun c2 => ?_)
    · refine g_bipush C dX5_changed_21 (by decide +kernel) ?_
      exact g_iret C hQ rfl dX5_changed_23 ⟨gv (by simp_all [changedV]), rfl, rfl⟩
    · have hbe := inB_t.mp c2
      have hO2 := OkD_swap (a := a) (b := b) hO (by omega) (by omega)
      refine g_iload_n C dX5_changed_16 (gi _) rfl ?_
      refine g_iload_n C dX5_changed_17 (gi _) rfl ?_
      refine g_icmp_ne C (tgt := 24) dX5_changed_18 (by decide) (by omega) (fun c3 => ?_) (fun c3 => ?_)
      · refine g_aload_n C dX5_changed_24 (gr _) rfl ?_
        refine g_iconst C dX5_changed_25 ?_
        refine g_iload_n C dX5_changed_26 (gi _) rfl ?_
        refine g_iadd C dX5_changed_27 ?_
        refine g_iconst C dX5_changed_28 ?_
        refine g_iload_n C dX5_changed_29 (gi _) rfl ?_
        refine g_iadd C dX5_changed_30 ?_
        refine g_callV0z C (mX5_swap hY (by omega)) (lw_V q1428 q1430 qs53 q72 q1431) ⟨rfl, nd_X5_swap⟩ (ovM_0 _ _ _ _) rfl ⟨by decide, by decide⟩ ⟨Nat.le_of_ble_eq_true rfl, Nat.le_of_ble_eq_true rfl⟩ rfl (Nat.le_of_ble_eq_true rfl) dX5_changed_31 ?_
        refine g_aload_n C dX5_changed_34 (gr _) rfl ?_
        refine g_callV1z C (mX5_longestOfPicks hY (hO2)) (lw_V q1468 q1470 qs55 q72 q1471) ⟨rfl, nd_X5_longestOfPicks⟩ (ovM_0 _ _ _ _) rfl ⟨by decide, by decide⟩ ⟨Nat.le_of_ble_eq_true rfl, Nat.le_of_ble_eq_true rfl⟩ rfl (Nat.le_of_ble_eq_true rfl) dX5_changed_35 ?_
        refine g_istore_n1003 C dX5_changed_38 (gi _) rfl ?_
        refine g_aload_n C dX5_changed_39 (gr _) rfl ?_
        refine g_iconst C dX5_changed_40 ?_
        refine g_iload_n C dX5_changed_41 (gi _) rfl ?_
        refine g_iadd C dX5_changed_42 ?_
        refine g_iconst C dX5_changed_43 ?_
        refine g_iload_n C dX5_changed_44 (gi _) rfl ?_
        refine g_iadd C dX5_changed_45 ?_
        refine g_callV0z C (mX5_swap hY (by omega)) (lw_V q1428 q1430 qs53 q72 q1431) ⟨rfl, nd_X5_swap⟩ (ovM_0 _ _ _ _) rfl ⟨by decide, by decide⟩ ⟨Nat.le_of_ble_eq_true rfl, Nat.le_of_ble_eq_true rfl⟩ rfl (Nat.le_of_ble_eq_true rfl) dX5_changed_46 ?_
        rw [swapS_2]
        refine g_iload_n C dX5_changed_49 (gi _) rfl ?_
        exact g_iret C hQ rfl dX5_changed_50 ⟨gv (by simp_all [changedV]), rfl, rfl⟩
      · refine g_bipush C dX5_changed_21 (by decide +kernel) ?_
        exact g_iret C hQ rfl dX5_changed_23 ⟨gv (by simp_all [changedV]), rfl, rfl⟩

theorem nd_X5_count : yX5_count.cls ≠ "java/lang/invoke/MethodHandle" ∧ yX5_count.cls ≠ "java/lang/invoke/VarHandle" ∧ (parseMethodDescriptor yX5_count.desc).map (fun d => d.parameters.length) = some 1 := by decide +kernel
theorem mX5_count {l : Launch} {D : va_G} {dA : Nat → ClassId} {N0 : Nat} {Y : State → Prop} (hY : gYok N0 Y) {h : gH} {sz m : Nat} {S : MS} {w : Int} (hO : OkD (S 0)) (hT : OkT S) (hrw : -2147483648 ≤ w ∧ w ≤ 2147483647) : gM l D dA N0 Y yX5_count cX5_count 2 (some .int) 4 90 0 0 [.ref m, vI w] (ovM dA m S h) sz (gP (some (vI (countV S w))) (ovM dA m S h) sz) := by
  refine gM.of hY (by decide +kernel) (Nat.le_of_ble_eq_true rfl) ?_
  intro X hX C hQ
  subst hX
  have C : gC X cX5_count RX5 "count" 2 (some .int) D dA N0 Y ({ frames := 4, cells := 0, slots := 0, locals := 90 }) := C
  show G X 0 0 _ _ 0 [some (.ref m), some (vI w)] []
  have hn := hO.1
  have hv0 : ∀ k : Int, 0 ≤ k → k < S 0 0 → 0 ≤ S 0 (4 + k) ∧ S 0 (4 + k) < 6 := fun k h0 h1 => by have := hO.2.1 k h0 (by omega); omega
  have hv1 : ∀ k : Int, 0 ≤ k → k < S 0 1 → 0 ≤ S 0 (22 + k) ∧ S 0 (22 + k) < 6 := fun k h0 h1 => by have := hO.2.2.1 k h0 (by omega); omega
  refine g_iload_n C dX5_count_0 (gi _) rfl ?_
  rcases (show w = 0 ∨ w = 1 ∨ w = 2 ∨ w = 3 ∨ w = 4 ∨ w = 5 ∨ w = 6 ∨ w = 7 ∨ w = 8 ∨ w = 9 ∨ w = 10 ∨ w = 11 ∨ w = 12 ∨ w = 13 ∨ w = 14 ∨ w = 15 ∨ (w < 0 ∨ 15 < w) by omega) with rfl | rfl | rfl | rfl | rfl | rfl | rfl | rfl | rfl | rfl | rfl | rfl | rfl | rfl | rfl | rfl | w1
  · refine g_tabIn C (off := 79) (tgt := 80) dX5_count_1 (by omega) (by omega) rfl (by decide) ?_
    refine g_aload_n C dX5_count_80 (gr _) rfl ?_
    refine M_g_row C q1191 dX5_count_81 ?_
    refine g_iload_n C dX5_count_84 (gi _) rfl ?_
    refine M_ld_row C (by omega) dX5_count_85 ?_
    exact g_iret C hQ rfl dX5_count_86 ⟨gv (by simp [countV]; try ((repeat' split) <;> omega)), rfl, rfl⟩
  · refine g_tabIn C (off := 79) (tgt := 80) dX5_count_1 (by omega) (by omega) rfl (by decide) ?_
    refine g_aload_n C dX5_count_80 (gr _) rfl ?_
    refine M_g_row C q1191 dX5_count_81 ?_
    refine g_iload_n C dX5_count_84 (gi _) rfl ?_
    refine M_ld_row C (by omega) dX5_count_85 ?_
    exact g_iret C hQ rfl dX5_count_86 ⟨gv (by simp [countV]; try ((repeat' split) <;> omega)), rfl, rfl⟩
  · refine g_tabIn C (off := 79) (tgt := 80) dX5_count_1 (by omega) (by omega) rfl (by decide) ?_
    refine g_aload_n C dX5_count_80 (gr _) rfl ?_
    refine M_g_row C q1191 dX5_count_81 ?_
    refine g_iload_n C dX5_count_84 (gi _) rfl ?_
    refine M_ld_row C (by omega) dX5_count_85 ?_
    exact g_iret C hQ rfl dX5_count_86 ⟨gv (by simp [countV]; try ((repeat' split) <;> omega)), rfl, rfl⟩
  · refine g_tabIn C (off := 79) (tgt := 80) dX5_count_1 (by omega) (by omega) rfl (by decide) ?_
    refine g_aload_n C dX5_count_80 (gr _) rfl ?_
    refine M_g_row C q1191 dX5_count_81 ?_
    refine g_iload_n C dX5_count_84 (gi _) rfl ?_
    refine M_ld_row C (by omega) dX5_count_85 ?_
    exact g_iret C hQ rfl dX5_count_86 ⟨gv (by simp [countV]; try ((repeat' split) <;> omega)), rfl, rfl⟩
  · refine g_tabIn C (off := 86) (tgt := 87) dX5_count_1 (by omega) (by omega) rfl (by decide) ?_
    refine g_aload_n C dX5_count_87 (gr _) rfl ?_
    refine g_callV1z C (mX5_longestOfEnds hY (hO)) (lw_V q1515 q1517 qs57 q72 q1518) ⟨rfl, nd_X5_longestOfEnds⟩ (ovM_0 _ _ _ _) rfl ⟨by decide, by decide⟩ ⟨Nat.le_of_ble_eq_true rfl, Nat.le_of_ble_eq_true rfl⟩ rfl (Nat.le_of_ble_eq_true rfl) dX5_count_88 ?_
    exact g_iret C hQ rfl dX5_count_91 ⟨gv (by simp [countV]; try ((repeat' split) <;> omega)), rfl, rfl⟩
  · refine g_tabIn C (off := 91) (tgt := 92) dX5_count_1 (by omega) (by omega) rfl (by decide) ?_
    refine g_aload_n C dX5_count_92 (gr _) rfl ?_
    refine g_callV1z C (mX5_longestOfPicks hY (hO)) (lw_V q1468 q1470 qs55 q72 q1471) ⟨rfl, nd_X5_longestOfPicks⟩ (ovM_0 _ _ _ _) rfl ⟨by decide, by decide⟩ ⟨Nat.le_of_ble_eq_true rfl, Nat.le_of_ble_eq_true rfl⟩ rfl (Nat.le_of_ble_eq_true rfl) dX5_count_93 ?_
    exact g_iret C hQ rfl dX5_count_96 ⟨gv (by simp [countV]; try ((repeat' split) <;> omega)), rfl, rfl⟩
  · refine g_tabIn C (off := 96) (tgt := 97) dX5_count_1 (by omega) (by omega) rfl (by decide) ?_
    refine g_aload_n C dX5_count_97 (gr _) rfl ?_
    refine g_callV1z C (mX5_repeatOfEnds hY (hO)) (lw_V q1519 q1521 qs58 q72 q1522) ⟨rfl, nd_X5_repeatOfEnds⟩ (ovM_0 _ _ _ _) rfl ⟨by decide, by decide⟩ ⟨Nat.le_of_ble_eq_true rfl, Nat.le_of_ble_eq_true rfl⟩ rfl (Nat.le_of_ble_eq_true rfl) dX5_count_98 ?_
    exact g_iret C hQ rfl dX5_count_101 ⟨gv (by simp [countV]; try ((repeat' split) <;> omega)), rfl, rfl⟩
  · refine g_tabIn C (off := 101) (tgt := 102) dX5_count_1 (by omega) (by omega) rfl (by decide) ?_
    refine g_aload_n C dX5_count_102 (gr _) rfl ?_
    refine g_callV1z C (mX5_repeatOfPicks hY (hO)) (lw_V q1523 q1525 qs59 q72 q1526) ⟨rfl, nd_X5_repeatOfPicks⟩ (ovM_0 _ _ _ _) rfl ⟨by decide, by decide⟩ ⟨Nat.le_of_ble_eq_true rfl, Nat.le_of_ble_eq_true rfl⟩ rfl (Nat.le_of_ble_eq_true rfl) dX5_count_103 ?_
    exact g_iret C hQ rfl dX5_count_106 ⟨gv (by simp [countV]; try ((repeat' split) <;> omega)), rfl, rfl⟩
  · refine g_tabIn C (off := 106) (tgt := 107) dX5_count_1 (by omega) (by omega) rfl (by decide) ?_
    refine g_aload_n C dX5_count_107 (gr _) rfl ?_
    refine g_callV1z C (mX5_allStitches hY (hO)) (lw_V q1527 q1529 qs60 q72 q1530) ⟨rfl, nd_X5_allStitches⟩ (ovM_0 _ _ _ _) rfl ⟨by decide, by decide⟩ ⟨Nat.le_of_ble_eq_true rfl, Nat.le_of_ble_eq_true rfl⟩ rfl (Nat.le_of_ble_eq_true rfl) dX5_count_108 ?_
    exact g_iret C hQ rfl dX5_count_111 ⟨gv (by simp [countV]; try ((repeat' split) <;> omega)), rfl, rfl⟩
  · refine g_tabIn C (off := 111) (tgt := 112) dX5_count_1 (by omega) (by omega) rfl (by decide) ?_
    refine g_aload_n C dX5_count_112 (gr _) rfl ?_
    refine g_callV1z C (mX5_alike hY (hO)) (lw_V q1531 q1533 qs61 q72 q1534) ⟨rfl, nd_X5_alike⟩ (ovM_0 _ _ _ _) rfl ⟨by decide, by decide⟩ ⟨Nat.le_of_ble_eq_true rfl, Nat.le_of_ble_eq_true rfl⟩ rfl (Nat.le_of_ble_eq_true rfl) dX5_count_113 ?_
    exact g_iret C hQ rfl dX5_count_116 ⟨gv (by simp [countV]; try ((repeat' split) <;> omega)), rfl, rfl⟩
  · refine g_tabIn C (off := 116) (tgt := 117) dX5_count_1 (by omega) (by omega) rfl (by decide) ?_
    refine g_aload_n C dX5_count_117 (gr _) rfl ?_
    refine g_aload_n C dX5_count_118 (gr _) rfl ?_
    refine M_g_row C q1191 dX5_count_119 ?_
    refine g_iconst C dX5_count_122 ?_
    refine M_ld_row C (by omega) dX5_count_123 ?_
    refine g_iconst C dX5_count_124 ?_
    refine g_aload_n C dX5_count_125 (gr _) rfl ?_
    refine M_g_row C q1191 dX5_count_126 ?_
    refine g_iconst C dX5_count_129 ?_
    refine M_ld_row C (by omega) dX5_count_130 ?_
    refine g_callV1z C (mX5_idle hY (by omega) (hv0)) (lw_V q1539 q1541 qs63 q72 q1542) ⟨rfl, nd_X5_idle⟩ (ovM_0 _ _ _ _) rfl ⟨by decide, by decide⟩ ⟨Nat.le_of_ble_eq_true rfl, Nat.le_of_ble_eq_true rfl⟩ rfl (Nat.le_of_ble_eq_true rfl) dX5_count_131 ?_
    exact g_iret C hQ rfl dX5_count_134 ⟨gv (by simp [countV]; try ((repeat' split) <;> omega)), rfl, rfl⟩
  · refine g_tabIn C (off := 134) (tgt := 135) dX5_count_1 (by omega) (by omega) rfl (by decide) ?_
    refine g_aload_n C dX5_count_135 (gr _) rfl ?_
    refine g_aload_n C dX5_count_136 (gr _) rfl ?_
    refine M_g_row C q1191 dX5_count_137 ?_
    refine g_iconst C dX5_count_140 ?_
    refine M_ld_row C (by omega) dX5_count_141 ?_
    refine g_bipush C dX5_count_142 (by decide +kernel) ?_
    refine g_aload_n C dX5_count_144 (gr _) rfl ?_
    refine M_g_row C q1191 dX5_count_145 ?_
    refine g_iconst C dX5_count_148 ?_
    refine M_ld_row C (by omega) dX5_count_149 ?_
    refine g_callV1z C (mX5_idle hY (by omega) (hv1)) (lw_V q1539 q1541 qs63 q72 q1542) ⟨rfl, nd_X5_idle⟩ (ovM_0 _ _ _ _) rfl ⟨by decide, by decide⟩ ⟨Nat.le_of_ble_eq_true rfl, Nat.le_of_ble_eq_true rfl⟩ rfl (Nat.le_of_ble_eq_true rfl) dX5_count_150 ?_
    exact g_iret C hQ rfl dX5_count_153 ⟨gv (by simp [countV]; try ((repeat' split) <;> omega)), rfl, rfl⟩
  · refine g_tabIn C (off := 153) (tgt := 154) dX5_count_1 (by omega) (by omega) rfl (by decide) ?_
    refine g_aload_n C dX5_count_154 (gr _) rfl ?_
    refine g_callV1z C (mX5_allUp hY (hO)) (lw_V q1543 q1545 qs64 q72 q1546) ⟨rfl, nd_X5_allUp⟩ (ovM_0 _ _ _ _) rfl ⟨by decide, by decide⟩ ⟨Nat.le_of_ble_eq_true rfl, Nat.le_of_ble_eq_true rfl⟩ rfl (Nat.le_of_ble_eq_true rfl) dX5_count_155 ?_
    exact g_iret C hQ rfl dX5_count_158 ⟨gv (by simp [countV]; try ((repeat' split) <;> omega)), rfl, rfl⟩
  · refine g_tabIn C (off := 158) (tgt := 159) dX5_count_1 (by omega) (by omega) rfl (by decide) ?_
    refine g_aload_n C dX5_count_159 (gr _) rfl ?_
    refine g_callV1z C (mX5_allThreads hY (hT)) (lw_V q1547 q1549 qs65 q72 q1550) ⟨rfl, nd_X5_allThreads⟩ (ovM_0 _ _ _ _) rfl ⟨by decide, by decide⟩ ⟨Nat.le_of_ble_eq_true rfl, Nat.le_of_ble_eq_true rfl⟩ rfl (Nat.le_of_ble_eq_true rfl) dX5_count_160 ?_
    exact g_iret C hQ rfl dX5_count_163 ⟨gv (by simp [countV]; try ((repeat' split) <;> omega)), rfl, rfl⟩
  · refine g_tabIn C (off := 163) (tgt := 164) dX5_count_1 (by omega) (by omega) rfl (by decide) ?_
    refine g_aload_n C dX5_count_164 (gr _) rfl ?_
    refine M_g_undos C q1195 dX5_count_165 ?_
    exact g_iret C hQ rfl dX5_count_168 ⟨gv (by simp [countV]; try ((repeat' split) <;> omega)), rfl, rfl⟩
  · refine g_tabIn C (off := 168) (tgt := 169) dX5_count_1 (by omega) (by omega) rfl (by decide) ?_
    refine g_aload_n C dX5_count_169 (gr _) rfl ?_
    refine M_g_length C q1198 dX5_count_170 ?_
    exact g_iret C hQ rfl dX5_count_173 ⟨gv (by simp [countV]; try ((repeat' split) <;> omega)), rfl, rfl⟩
  · refine g_tabOut C (tgt := 174) dX5_count_1 (by omega) (by omega) (by decide) ?_
    refine g_bipush C dX5_count_174 (by decide +kernel) ?_
    exact g_iret C hQ rfl dX5_count_176 ⟨gv (by simp [countV]; try ((repeat' split) <;> omega)), rfl, rfl⟩
