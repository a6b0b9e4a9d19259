/-! THE REFERENCE: what is seen of a draft -/
set_option maxRecDepth 100000
theorem bI_inj {a b : Bool} : bI a = bI b ↔ a = b := by cases a <;> cases b <;> simp [bI]

theorem nd_X5_isUp : yX5_isUp.cls ≠ "java/lang/invoke/MethodHandle" ∧ yX5_isUp.cls ≠ "java/lang/invoke/VarHandle" ∧ (parseMethodDescriptor yX5_isUp.desc).map (fun d => d.parameters.length) = some 2 := by decide +kernel
theorem mX5_isUp {l : Launch} {D : va_G} {dA : Nat → ClassId} {N0 : Nat} {Y : State → Prop} (hY : gYok N0 Y) {h : gH} {sz m : Nat} {S : MS} {q i : Int} (hO : OkD (S 0)) (hq : 0 ≤ q ∧ q < 12) (hi : 0 ≤ i ∧ i < 12) : gM l D dA N0 Y yX5_isUp cX5_isUp 3 (some .boolean) 1 21 0 0 [.ref m, vI q, vI i] (ovM dA m S h) sz (gP (some (vI (bI (upB S q i)))) (ovM dA m S h) sz) := by
  refine gM.of hY (by decide +kernel) (Nat.le_of_ble_eq_true rfl) ?_
  intro X hX C hQ
  subst hX
  have C : gC X cX5_isUp RX5 "isUp" 3 (some .boolean) D dA N0 Y ({ frames := 1, cells := 0, slots := 0, locals := 21 }) := C
  show G X 0 0 _ _ 0 [some (.ref m), some (vI q), some (vI i)] []
  have hn := hO.1
  have h1 := hO.2.2.1 q hq.1 hq.2
  have h2 := hO.2.1 i hi.1 hi.2
  have h3 := hO.tied (S 0 (22 + q)) (by omega)
  refine g_aload_n C dX5_isUp_0 (gr _) rfl ?_
  refine M_g_row C q1191 dX5_isUp_1 ?_
  refine g_bipush C dX5_isUp_4 (by decide +kernel) ?_
  refine g_aload_n C dX5_isUp_6 (gr _) rfl ?_
  refine M_g_row C q1191 dX5_isUp_7 ?_
  refine g_bipush C dX5_isUp_10 (by decide +kernel) ?_
  refine g_iload_n C dX5_isUp_12 (gi _) rfl ?_
  refine g_iadd C dX5_isUp_13 ?_
  refine M_ld_row C (by omega) dX5_isUp_14 ?_
  refine g_iadd C dX5_isUp_15 ?_
  refine M_ld_row C (by omega) dX5_isUp_16 ?_
  refine g_aload_n C dX5_isUp_17 (gr _) rfl ?_
  refine M_g_row C q1191 dX5_isUp_18 ?_
  refine g_iconst C dX5_isUp_21 ?_
  refine g_iload_n C dX5_isUp_22 (gi _) rfl ?_
  refine g_iadd C dX5_isUp_23 ?_
  refine M_ld_row C (by omega) dX5_isUp_24 ?_
  refine g_callS1z C (mX5_has hY (by omega)) (lw_S q1329 q1330 q72 q1331) nd_X5_has ⟨by decide, by decide⟩ ⟨Nat.le_of_ble_eq_true rfl, Nat.le_of_ble_eq_true rfl⟩ rfl (Nat.le_of_ble_eq_true rfl) dX5_isUp_25 ?_
  exact g_zret C hQ rfl dX5_isUp_28 ⟨rfl, rfl, rfl⟩

theorem nd_X5_upEnd : yX5_upEnd.cls ≠ "java/lang/invoke/MethodHandle" ∧ yX5_upEnd.cls ≠ "java/lang/invoke/VarHandle" ∧ (parseMethodDescriptor yX5_upEnd.desc).map (fun d => d.parameters.length) = some 1 := by decide +kernel
theorem mX5_upEnd {l : Launch} {D : va_G} {dA : Nat → ClassId} {N0 : Nat} {Y : State → Prop} (hY : gYok N0 Y) {h : gH} {sz m : Nat} {S : MS} {i : Int} (hO : OkD (S 0)) (hi : 0 ≤ i ∧ i < 12) : gM l D dA N0 Y yX5_upEnd cX5_upEnd 4 (some .int) 2 43 0 0 [.ref m, vI i] (ovM dA m S h) sz (gP (some (vI (upEnd S i))) (ovM dA m S h) sz) := by
  refine gM.of hY (by decide +kernel) (Nat.le_of_ble_eq_true rfl) ?_
  intro X hX C hQ
  subst hX
  have C : gC X cX5_upEnd RX5 "upEnd" 4 (some .int) D dA N0 Y ({ frames := 2, cells := 0, slots := 0, locals := 43 }) := C
  show G X 0 0 _ _ 0 [some (.ref m), some (vI i), none, none] []
  have hn := hO.1
  refine g_iconst C dX5_upEnd_0 ?_
  refine g_istore_n1002 C dX5_upEnd_1 (gi _) rfl ?_
  refine g_iconst C dX5_upEnd_2 ?_
  refine g_istore_n1003 C dX5_upEnd_3 (gi _) rfl ?_
  have lp4_1 : ∀ (fuel : Nat) (set q : Int), ((0 ≤ q ∧ q ≤ S 0 1) ∧ set = fo (upEndF S i) 0 q.toNat ∧ 0 ≤ set ∧ set < 4096) → (S 0 1 - q).toNat < fuel → G X 0 0 (ovM dA m S h) sz 4 [some (.ref m), some (vI i), some (vI set), some (vI q)] [] := by
    intro fuel
    induction fuel with
    | zero => intro set q hI hfu; exact absurd hfu (Nat.not_lt_zero _)
    | succ fuel ih =>
      intro set q hI hfu
      have ih1 := ih
      obtain ⟨hI1, hI2, hI3⟩ := hI
      refine g_iload_n C dX5_upEnd_4 (gi _) rfl ?_
      refine g_aload_n C dX5_upEnd_5 (gr _) rfl ?_
      refine M_g_row C q1191 dX5_upEnd_6 ?_
      refine g_iconst C dX5_upEnd_9 ?_
      refine M_ld_row C (by omega) dX5_upEnd_10 ?_
      refine g_icmp_ge C (tgt := 39) dX5_upEnd_11 (by decide) (by omega) (fun c1 => ?_) (fun c1 => ?_)
      · refine g_iload_n C dX5_upEnd_39 (gi _) rfl ?_
        exact g_iret C hQ rfl dX5_upEnd_40 ⟨gv (by rw [hI2, show q = S 0 1 by omega]; rfl), rfl, rfl⟩
      · have hs := sh12 (i := q) (by omega)
        refine g_iload_n C dX5_upEnd_14 (gi _) rfl ?_
        refine g_aload_n C dX5_upEnd_15 (gr _) rfl ?_
        refine g_iload_n C dX5_upEnd_16 (gi _) rfl ?_
        refine g_iload_n C dX5_upEnd_17 (gi _) rfl ?_
        refine g_callV1z C (mX5_isUp hY (hO) (by omega) (by omega)) (lw_V q1325 q1327 qs39 q72 q1328) ⟨rfl, nd_X5_isUp⟩ (ovM_0 _ _ _ _) rfl ⟨by decide, by decide⟩ ⟨Nat.le_of_ble_eq_true rfl, Nat.le_of_ble_eq_true rfl⟩ rfl (Nat.le_of_ble_eq_true rfl) dX5_upEnd_18 ?_
        refine g_ifeq_b C (tgt := 30) dX5_upEnd_21 (by decide) (fun c2 => ?_) (fun c2 => ?_)
        · refine g_iconst C dX5_upEnd_30 ?_
          refine g_ior C dX5_upEnd_31 (zI_or (by omega)) ?_
          refine g_istore_n1002 C dX5_upEnd_32 (gi _) rfl ?_
          refine g_iinc1003 C dX5_upEnd_33 rfl ?_
          refine g_goto C (tgt := 4) dX5_upEnd_36 (by decide) ?_
          exact ih1 _ _ (⟨by omega, by rw [fo_s (by omega), ← hI2]; simp only [upEndF, c2, if_false, Bool.false_eq_true], or12 (by omega)⟩) (by omega)
        · refine g_iconst C dX5_upEnd_24 ?_
          refine g_iload_n C dX5_upEnd_25 (gi _) rfl ?_
          refine g_ishl C dX5_upEnd_26 (zI_shl (by omega)) ?_
          refine g_goto C (tgt := 31) dX5_upEnd_27 (by decide) ?_
          refine g_ior C dX5_upEnd_31 (zI_or (by omega)) ?_
          refine g_istore_n1002 C dX5_upEnd_32 (gi _) rfl ?_
          refine g_iinc1003 C dX5_upEnd_33 rfl ?_
          refine g_goto C (tgt := 4) dX5_upEnd_36 (by decide) ?_
          exact ih1 _ _ (⟨by omega, by rw [fo_s (by omega), ← hI2]; simp only [upEndF, c2, if_true], or12 (by omega)⟩) (by omega)
  exact lp4_1 _ _ _ (⟨by omega, rfl, by omega⟩) (Nat.lt_succ_self _)

theorem nd_X5_upPick : yX5_upPick.cls ≠ "java/lang/invoke/MethodHandle" ∧ yX5_upPick.cls ≠ "java/lang/invoke/VarHandle" ∧ (parseMethodDescriptor yX5_upPick.desc).map (fun d => d.parameters.length) = some 1 := by decide +kernel
theorem mX5_upPick {l : Launch} {D : va_G} {dA : Nat → ClassId} {N0 : Nat} {Y : State → Prop} (hY : gYok N0 Y) {h : gH} {sz m : Nat} {S : MS} {q : Int} (hO : OkD (S 0)) (hq : 0 ≤ q ∧ q < 12) : gM l D dA N0 Y yX5_upPick cX5_upPick 4 (some .int) 2 43 0 0 [.ref m, vI q] (ovM dA m S h) sz (gP (some (vI (upPick S q))) (ovM dA m S h) sz) := by
  refine gM.of hY (by decide +kernel) (Nat.le_of_ble_eq_true rfl) ?_
  intro X hX C hQ
  subst hX
  have C : gC X cX5_upPick RX5 "upPick" 4 (some .int) D dA N0 Y ({ frames := 2, cells := 0, slots := 0, locals := 43 }) := C
  show G X 0 0 _ _ 0 [some (.ref m), some (vI q), none, none] []
  have hn := hO.1
  refine g_iconst C dX5_upPick_0 ?_
  refine g_istore_n1002 C dX5_upPick_1 (gi _) rfl ?_
  refine g_iconst C dX5_upPick_2 ?_
  refine g_istore_n1003 C dX5_upPick_3 (gi _) rfl ?_
  have lp4_1 : ∀ (fuel : Nat) (set i : Int), ((0 ≤ i ∧ i ≤ S 0 0) ∧ set = fo (upPickF S q) 0 i.toNat ∧ 0 ≤ set ∧ set < 4096) → (S 0 0 - i).toNat < fuel → G X 0 0 (ovM dA m S h) sz 4 [some (.ref m), some (vI q), some (vI set), some (vI i)] [] := by
    intro fuel
    induction fuel with
    | zero => intro set i hI hfu; exact absurd hfu (Nat.not_lt_zero _)
    | succ fuel ih =>
      intro set i hI hfu
      have ih1 := ih
      obtain ⟨hI1, hI2, hI3⟩ := hI
      refine g_iload_n C dX5_upPick_4 (gi _) rfl ?_
      refine g_aload_n C dX5_upPick_5 (gr _) rfl ?_
      refine M_g_row C q1191 dX5_upPick_6 ?_
      refine g_iconst C dX5_upPick_9 ?_
      refine M_ld_row C (by omega) dX5_upPick_10 ?_
      refine g_icmp_ge C (tgt := 39) dX5_upPick_11 (by decide) (by omega) (fun c1 => ?_) (fun c1 => ?_)
      · refine g_iload_n C dX5_upPick_39 (gi _) rfl ?_
        exact g_iret C hQ rfl dX5_upPick_40 ⟨gv (by rw [hI2, show i = S 0 0 by omega]; rfl), rfl, rfl⟩
      · have hs := sh12 (i := i) (by omega)
        refine g_iload_n C dX5_upPick_14 (gi _) rfl ?_
        refine g_aload_n C dX5_upPick_15 (gr _) rfl ?_
        refine g_iload_n C dX5_upPick_16 (gi _) rfl ?_
        refine g_iload_n C dX5_upPick_17 (gi _) rfl ?_
        refine g_callV1z C (mX5_isUp hY (hO) (by omega) (by omega)) (lw_V q1325 q1327 qs39 q72 q1328) ⟨rfl, nd_X5_isUp⟩ (ovM_0 _ _ _ _) rfl ⟨by decide, by decide⟩ ⟨Nat.le_of_ble_eq_true rfl, Nat.le_of_ble_eq_true rfl⟩ rfl (Nat.le_of_ble_eq_true rfl) dX5_upPick_18 ?_
        refine g_ifeq_b C (tgt := 30) dX5_upPick_21 (by decide) (fun c2 => ?_) (fun c2 => ?_)
        · refine g_iconst C dX5_upPick_30 ?_
          refine g_ior C dX5_upPick_31 (zI_or (by omega)) ?_
          refine g_istore_n1002 C dX5_upPick_32 (gi _) rfl ?_
          refine g_iinc1003 C dX5_upPick_33 rfl ?_
          refine g_goto C (tgt := 4) dX5_upPick_36 (by decide) ?_
          exact ih1 _ _ (⟨by omega, by rw [fo_s (by omega), ← hI2]; simp only [upPickF, c2, if_false, Bool.false_eq_true], or12 (by omega)⟩) (by omega)
        · refine g_iconst C dX5_upPick_24 ?_
          refine g_iload_n C dX5_upPick_25 (gi _) rfl ?_
          refine g_ishl C dX5_upPick_26 (zI_shl (by omega)) ?_
          refine g_goto C (tgt := 31) dX5_upPick_27 (by decide) ?_
          refine g_ior C dX5_upPick_31 (zI_or (by omega)) ?_
          refine g_istore_n1002 C dX5_upPick_32 (gi _) rfl ?_
          refine g_iinc1003 C dX5_upPick_33 rfl ?_
          refine g_goto C (tgt := 4) dX5_upPick_36 (by decide) ?_
          exact ih1 _ _ (⟨by omega, by rw [fo_s (by omega), ← hI2]; simp only [upPickF, c2, if_true], or12 (by omega)⟩) (by omega)
  exact lp4_1 _ _ _ (⟨by omega, rfl, by omega⟩) (Nat.lt_succ_self _)

theorem nd_X5_run : yX5_run.cls ≠ "java/lang/invoke/MethodHandle" ∧ yX5_run.cls ≠ "java/lang/invoke/VarHandle" ∧ (parseMethodDescriptor yX5_run.desc).map (fun d => d.parameters.length) = some 3 := by decide +kernel
theorem mX5_run {l : Launch} {D : va_G} {dA : Nat → ClassId} {N0 : Nat} {Y : State → Prop} (hY : gYok N0 Y) {h : gH} {sz : Nat} {set many : Int} {b : Bool} (hs : 0 ≤ set ∧ set < 4096) (hm : 0 ≤ many ∧ many ≤ 12) : gM l D dA N0 Y yX5_run cX5_run 6 (some .int) 1 21 0 0 [vI set, vI many, vI (bI b)] (h) sz (gP (some (vI (runV set many b))) h sz) := by
  refine gM.of hY (by decide +kernel) (Nat.le_of_ble_eq_true rfl) ?_
  intro X hX C hQ
  subst hX
  have C : gC X cX5_run RX5 "run" 6 (some .int) D dA N0 Y ({ frames := 1, cells := 0, slots := 0, locals := 21 }) := C
  show G X 0 0 _ _ 0 [some (vI set), some (vI many), some (vI (bI b)), none, none, none] []
  refine g_iconst C dX5_run_0 ?_
  refine g_istore_n1003 C dX5_run_1 (gi _) rfl ?_
  refine g_iconst C dX5_run_2 ?_
  refine g_istore1004 C dX5_run_3 (gi _) rfl ?_
  refine g_iconst C dX5_run_5 ?_
  refine g_istore1005 C dX5_run_6 (gi _) rfl ?_
  have lp8_1 : ∀ (fuel : Nat) (lg nw k : Int), ((0 ≤ k ∧ k ≤ many) ∧ (nw, lg) = fo (runF set b) (0, 0) k.toNat) → (many - k).toNat < fuel → G X 0 0 (h) sz 8 [some (vI set), some (vI many), some (vI (bI b)), some (vI lg), some (vI nw), some (vI k)] [] := by
    intro fuel
    induction fuel with
    | zero => intro lg nw k hI hfu; exact absurd hfu (Nat.not_lt_zero _)
    | succ fuel ih =>
      intro lg nw k hI hfu
      have ih1 := ih
      obtain ⟨hI1, hI2⟩ := hI
      have hq := run_rg set b k.toNat
      rw [← hI2] at hq
      simp only at hq
      refine g_iload C dX5_run_8 (gi _) rfl ?_
      refine g_iload_n C dX5_run_10 (gi _) rfl ?_
      refine g_icmp_ge C (tgt := 53) dX5_run_11 (by decide) (by omega) (fun c1 => ?_) (fun c1 => ?_)
      · refine g_iload_n C dX5_run_53 (gi _) rfl ?_
        exact g_iret C hQ rfl dX5_run_54 ⟨gv (by rw [show k = many by omega] at hI2; unfold runV; rw [← hI2]), rfl, rfl⟩
      · refine g_iload_n C dX5_run_14 (gi _) rfl ?_
        refine g_iload C dX5_run_15 (gi _) rfl ?_
        refine g_callS1z C (mX5_has hY (by omega)) (lw_S q1329 q1330 q72 q1331) nd_X5_has ⟨by decide, by decide⟩ ⟨Nat.le_of_ble_eq_true rfl, Nat.le_of_ble_eq_true rfl⟩ rfl (Nat.le_of_ble_eq_true rfl) dX5_run_17 ?_
        refine g_iload_n C dX5_run_20 (gi _) rfl ?_
        refine g_icmp_ne C (tgt := 31) dX5_run_21 (by decide) (by have := bI_rg (hasB set k); have := bI_rg b; omega) (fun c2 => ?_) (fun c2 => ?_)
        · have hne : ¬ hasB set k = b := fun z => c2 (bI_inj.mpr z)
          refine g_iconst C dX5_run_31 ?_
          refine g_istore1004 C dX5_run_32 (gi _) rfl ?_
          refine g_iload C dX5_run_34 (gi _) rfl ?_
          refine g_iload_n C dX5_run_36 (gi _) rfl ?_
          refine g_icmp_le C (tgt := 45) dX5_run_37 (by decide) (by omega) (fun c3 => ?_) (fun c3 => ?_)
          · refine g_iload_n C dX5_run_45 (gi _) rfl ?_
            refine g_istore_n1003 C dX5_run_46 (gi _) rfl ?_
            refine g_iinc1005 C dX5_run_47 rfl ?_
            refine g_goto C (tgt := 8) dX5_run_50 (by decide) ?_
            exact ih1 _ _ _ (⟨by omega, by rw [fo_s (by omega), ← hI2]; simp only [runF, if_neg hne, if_true, if_false, mxI, if_neg (show ¬ lg < 0 by omega)]⟩) (by omega)
          · refine g_iload C dX5_run_40 (gi _) rfl ?_
            refine g_goto C (tgt := 46) dX5_run_42 (by decide) ?_
            refine g_istore_n1003 C dX5_run_46 (gi _) rfl ?_
            refine g_iinc1005 C dX5_run_47 rfl ?_
            refine g_goto C (tgt := 8) dX5_run_50 (by decide) ?_
            exact ih1 _ _ _ (⟨by omega, by rw [fo_s (by omega), ← hI2]; simp only [runF, if_neg hne, if_true, if_false, mxI, if_pos (show lg < 0 by omega)]⟩) (by omega)
        · have heq : hasB set k = b := bI_inj.mp c2
          refine g_iload C dX5_run_24 (gi _) rfl ?_
          refine g_iconst C dX5_run_26 ?_
          refine g_iadd C dX5_run_27 ?_
          refine g_goto C (tgt := 32) dX5_run_28 (by decide) ?_
          refine g_istore1004 C dX5_run_32 (gi _) rfl ?_
          refine g_iload C dX5_run_34 (gi _) rfl ?_
          refine g_iload_n C dX5_run_36 (gi _) rfl ?_
          refine g_icmp_le C (tgt := 45) dX5_run_37 (by decide) (by omega) (fun c4 => ?_) (fun c4 => ?_)
          · refine g_iload_n C dX5_run_45 (gi _) rfl ?_
            refine g_istore_n1003 C dX5_run_46 (gi _) rfl ?_
            refine g_iinc1005 C dX5_run_47 rfl ?_
            refine g_goto C (tgt := 8) dX5_run_50 (by decide) ?_
            exact ih1 _ _ _ (⟨by omega, by rw [fo_s (by omega), ← hI2]; simp only [runF, heq, if_true, if_false, mxI, if_neg (show ¬ lg < nw + 1 by omega)]⟩) (by omega)
          · refine g_iload C dX5_run_40 (gi _) rfl ?_
            refine g_goto C (tgt := 46) dX5_run_42 (by decide) ?_
            refine g_istore_n1003 C dX5_run_46 (gi _) rfl ?_
            refine g_iinc1005 C dX5_run_47 rfl ?_
            refine g_goto C (tgt := 8) dX5_run_50 (by decide) ?_
            exact ih1 _ _ _ (⟨by omega, by rw [fo_s (by omega), ← hI2]; simp only [runF, heq, if_true, if_false, mxI, if_pos (show lg < nw + 1 by omega)]⟩) (by omega)
  exact lp8_1 _ _ _ _ (⟨by omega, rfl⟩) (Nat.lt_succ_self _)

theorem nd_X5_ones : yX5_ones.cls ≠ "java/lang/invoke/MethodHandle" ∧ yX5_ones.cls ≠ "java/lang/invoke/VarHandle" ∧ (parseMethodDescriptor yX5_ones.desc).map (fun d => d.parameters.length) = some 1 := by decide +kernel
theorem mX5_ones {l : Launch} {D : va_G} {dA : Nat → ClassId} {N0 : Nat} {Y : State → Prop} (hY : gYok N0 Y) {h : gH} {sz : Nat} {set : Int} (hs : 0 ≤ set ∧ set < 4096) : gM l D dA N0 Y yX5_ones cX5_ones 3 (some .int) 0 0 0 0 [vI set] (h) sz (gP (some (vI (onesV set))) h sz) := by
  refine gM.of hY (by decide +kernel) (Nat.le_of_ble_eq_true rfl) ?_
  intro X hX C hQ
  subst hX
  have C : gC X cX5_ones RX5 "ones" 3 (some .int) D dA N0 Y ({ frames := 0, cells := 0, slots := 0, locals := 0 }) := C
  show G X 0 0 _ _ 0 [some (vI set), none, none] []
  refine g_iconst C dX5_ones_0 ?_
  refine g_istore_n1001 C dX5_ones_1 (gi _) rfl ?_
  refine g_iconst C dX5_ones_2 ?_
  refine g_istore_n1002 C dX5_ones_3 (gi _) rfl ?_
  have lp4_1 : ∀ (fuel : Nat) (nn k : Int), ((0 ≤ k ∧ k ≤ 12) ∧ nn = fo (onesF set) 0 k.toNat) → (12 - k).toNat < fuel → G X 0 0 (h) sz 4 [some (vI set), some (vI nn), some (vI k)] [] := by
    intro fuel
    induction fuel with
    | zero => intro nn k hI hfu; exact absurd hfu (Nat.not_lt_zero _)
    | succ fuel ih =>
      intro nn k hI hfu
      have ih1 := ih
      obtain ⟨hI1, hI2⟩ := hI
      refine g_iload_n C dX5_ones_4 (gi _) rfl ?_
      refine g_bipush C dX5_ones_5 (by decide +kernel) ?_
      refine g_icmp_ge C (tgt := 24) dX5_ones_7 (by decide) (by omega) (fun c1 => ?_) (fun c1 => ?_)
      · refine g_iload_n C dX5_ones_24 (gi _) rfl ?_
        exact g_iret C hQ rfl dX5_ones_25 ⟨gv (by rw [hI2, show k = 12 by omega]; rfl), rfl, rfl⟩
      · refine g_iload_n C dX5_ones_10 (gi _) rfl ?_
        refine g_iload_n C dX5_ones_11 (gi _) rfl ?_
        refine g_iload_n C dX5_ones_12 (gi _) rfl ?_
        refine g_ishr C dX5_ones_13 (zI_shr (by omega) (by omega)) ?_
        refine g_iconst C dX5_ones_14 ?_
        refine g_iand C dX5_ones_15 (zI_and1 (by exact shr_rg (by omega))) ?_
        refine g_iadd C dX5_ones_16 ?_
        refine g_istore_n1001 C dX5_ones_17 (gi _) rfl ?_
        refine g_iinc1002 C dX5_ones_18 rfl ?_
        refine g_goto C (tgt := 4) dX5_ones_21 (by decide) ?_
        exact ih1 _ _ (⟨by omega, by rw [fo_s (by omega), ← hI2, hasB_mod (by omega) (by omega)]; rfl⟩) (by omega)
  exact lp4_1 _ _ _ (⟨by omega, rfl⟩) (Nat.lt_succ_self _)

theorem nd_X5_end : yX5_end.cls ≠ "java/lang/invoke/MethodHandle" ∧ yX5_end.cls ≠ "java/lang/invoke/VarHandle" ∧ (parseMethodDescriptor yX5_end.desc).map (fun d => d.parameters.length) = some 2 := by decide +kernel
theorem mX5_end {l : Launch} {D : va_G} {dA : Nat → ClassId} {N0 : Nat} {Y : State → Prop} (hY : gYok N0 Y) {h : gH} {sz m : Nat} {S : MS} {i w : Int} (hO : OkD (S 0)) (hri : -2147483648 ≤ i ∧ i ≤ 2147483647) (hrw : -2147483648 ≤ w ∧ w ≤ 2147483647) : gM l D dA N0 Y yX5_end cX5_end 3 (some .int) 3 66 0 0 [.ref m, vI i, vI w] (ovM dA m S h) sz (gP (some (vI (endV S i w))) (ovM dA m S h) sz) := by
  refine gM.of hY (by decide +kernel) (Nat.le_of_ble_eq_true rfl) ?_
  intro X hX C hQ
  subst hX
  have C : gC X cX5_end RX5 "end" 3 (some .int) D dA N0 Y ({ frames := 3, cells := 0, slots := 0, locals := 66 }) := C
  show G X 0 0 _ _ 0 [some (.ref m), some (vI i), some (vI w)] []
  have hn := hO.1
  refine g_aload_n C dX5_end_0 (gr _) rfl ?_
  refine g_iload_n C dX5_end_1 (gi _) rfl ?_
  refine g_callV1z C (mX5_isEnd hY (by omega)) (lw_V q1317 q1319 qs37 q72 q1320) ⟨rfl, nd_X5_isEnd⟩ (ovM_0 _ _ _ _) rfl ⟨by decide, by decide⟩ ⟨Nat.le_of_ble_eq_true rfl, Nat.le_of_ble_eq_true rfl⟩ rfl (Nat.le_of_ble_eq_true rfl) dX5_end_2 ?_
  refine g_ifne_b C (tgt := 11) dX5_end_5 (by decide) (fun c1 => ?_) (fun c1 => ?_)
  · have hie := inB_t.mp c1
    have hu := upEnd_rg (S := S) i hO
    refine g_iload_n C dX5_end_11 (gi _) rfl ?_
    rcases (show w = 0 ∨ w = 1 ∨ w = 2 ∨ w = 3 ∨ w = 4 ∨ (w < 0 ∨ 4 < w) by omega) with rfl | rfl | rfl | rfl | rfl | w2
    · refine g_tabIn C (off := 36) (tgt := 48) dX5_end_12 (by omega) (by omega) rfl (by decide) ?_
      refine g_aload_n C dX5_end_48 (gr _) rfl ?_
      refine M_g_row C q1191 dX5_end_49 ?_
      refine g_iconst C dX5_end_52 ?_
      refine g_iload_n C dX5_end_53 (gi _) rfl ?_
      refine g_iadd C dX5_end_54 ?_
      refine M_ld_row C (by omega) dX5_end_55 ?_
      exact g_iret C hQ rfl dX5_end_56 ⟨gv (by simp [endV, c1]; try (first | omega | ((repeat' split) <;> omega))), rfl, rfl⟩
    · refine g_tabIn C (off := 45) (tgt := 57) dX5_end_12 (by omega) (by omega) rfl (by decide) ?_
      refine g_aload_n C dX5_end_57 (gr _) rfl ?_
      refine M_g_row C q1191 dX5_end_58 ?_
      refine g_bipush C dX5_end_61 (by decide +kernel) ?_
      refine g_iload_n C dX5_end_63 (gi _) rfl ?_
      refine g_iadd C dX5_end_64 ?_
      refine M_ld_row C (by omega) dX5_end_65 ?_
      exact g_iret C hQ rfl dX5_end_66 ⟨gv (by simp [endV, c1]; try (first | omega | ((repeat' split) <;> omega))), rfl, rfl⟩
    · refine g_tabIn C (off := 55) (tgt := 67) dX5_end_12 (by omega) (by omega) rfl (by decide) ?_
      refine g_aload_n C dX5_end_67 (gr _) rfl ?_
      refine g_iload_n C dX5_end_68 (gi _) rfl ?_
      refine g_callV1z C (mX5_upEnd hY (hO) (by omega)) (lw_V q1321 q1323 qs38 q72 q1324) ⟨rfl, nd_X5_upEnd⟩ (ovM_0 _ _ _ _) rfl ⟨by decide, by decide⟩ ⟨Nat.le_of_ble_eq_true rfl, Nat.le_of_ble_eq_true rfl⟩ rfl (Nat.le_of_ble_eq_true rfl) dX5_end_69 ?_
      refine g_aload_n C dX5_end_72 (gr _) rfl ?_
      refine M_g_row C q1191 dX5_end_73 ?_
      refine g_iconst C dX5_end_76 ?_
      refine M_ld_row C (by omega) dX5_end_77 ?_
      refine g_iconst C dX5_end_78 ?_
      refine g_callS1z C (mX5_run hY (by omega) (by omega) (b := true)) (lw_S q1332 q1333 q72 q1334) nd_X5_run ⟨by decide, by decide⟩ ⟨Nat.le_of_ble_eq_true rfl, Nat.le_of_ble_eq_true rfl⟩ rfl (Nat.le_of_ble_eq_true rfl) dX5_end_79 ?_
      exact g_iret C hQ rfl dX5_end_82 ⟨gv (by simp [endV, c1]; try (first | omega | ((repeat' split) <;> omega))), rfl, rfl⟩
    · refine g_tabIn C (off := 71) (tgt := 83) dX5_end_12 (by omega) (by omega) rfl (by decide) ?_
      refine g_aload_n C dX5_end_83 (gr _) rfl ?_
      refine g_iload_n C dX5_end_84 (gi _) rfl ?_
      refine g_callV1z C (mX5_upEnd hY (hO) (by omega)) (lw_V q1321 q1323 qs38 q72 q1324) ⟨rfl, nd_X5_upEnd⟩ (ovM_0 _ _ _ _) rfl ⟨by decide, by decide⟩ ⟨Nat.le_of_ble_eq_true rfl, Nat.le_of_ble_eq_true rfl⟩ rfl (Nat.le_of_ble_eq_true rfl) dX5_end_85 ?_
      refine g_aload_n C dX5_end_88 (gr _) rfl ?_
      refine M_g_row C q1191 dX5_end_89 ?_
      refine g_iconst C dX5_end_92 ?_
      refine M_ld_row C (by omega) dX5_end_93 ?_
      refine g_iconst C dX5_end_94 ?_
      refine g_callS1z C (mX5_run hY (by omega) (by omega) (b := false)) (lw_S q1332 q1333 q72 q1334) nd_X5_run ⟨by decide, by decide⟩ ⟨Nat.le_of_ble_eq_true rfl, Nat.le_of_ble_eq_true rfl⟩ rfl (Nat.le_of_ble_eq_true rfl) dX5_end_95 ?_
      exact g_iret C hQ rfl dX5_end_98 ⟨gv (by simp [endV, c1]; try (first | omega | ((repeat' split) <;> omega))), rfl, rfl⟩
    · refine g_tabIn C (off := 87) (tgt := 99) dX5_end_12 (by omega) (by omega) rfl (by decide) ?_
      refine g_aload_n C dX5_end_99 (gr _) rfl ?_
      refine g_iload_n C dX5_end_100 (gi _) rfl ?_
      refine g_callV1z C (mX5_upEnd hY (hO) (by omega)) (lw_V q1321 q1323 qs38 q72 q1324) ⟨rfl, nd_X5_upEnd⟩ (ovM_0 _ _ _ _) rfl ⟨by decide, by decide⟩ ⟨Nat.le_of_ble_eq_true rfl, Nat.le_of_ble_eq_true rfl⟩ rfl (Nat.le_of_ble_eq_true rfl) dX5_end_101 ?_
      exact g_iret C hQ rfl dX5_end_104 ⟨gv (by simp [endV, c1]; try (first | omega | ((repeat' split) <;> omega))), rfl, rfl⟩
    · refine g_tabOut C (tgt := 105) dX5_end_12 (by omega) (by omega) (by decide) ?_
      refine g_bipush C dX5_end_105 (by decide +kernel) ?_
      exact g_iret C hQ rfl dX5_end_107 ⟨gv (by simp [endV, c1]; try (first | omega | ((repeat' split) <;> omega))), rfl, rfl⟩
  · refine g_bipush C dX5_end_8 (by decide +kernel) ?_
    exact g_iret C hQ rfl dX5_end_10 ⟨gv (by simp [endV, c1]; try (first | omega | ((repeat' split) <;> omega))), rfl, rfl⟩

theorem nd_X5_stitches : yX5_stitches.cls ≠ "java/lang/invoke/MethodHandle" ∧ yX5_stitches.cls ≠ "java/lang/invoke/VarHandle" ∧ (parseMethodDescriptor yX5_stitches.desc).map (fun d => d.parameters.length) = some 1 := by decide +kernel
theorem mX5_stitches {l : Launch} {D : va_G} {dA : Nat → ClassId} {N0 : Nat} {Y : State → Prop} (hY : gYok N0 Y) {h : gH} {sz m : Nat} {S : MS} {q : Int} (hO : OkD (S 0)) (hq : 0 ≤ q ∧ q < 12) : gM l D dA N0 Y yX5_stitches cX5_stitches 4 (some .int) 2 43 0 0 [.ref m, vI q] (ovM dA m S h) sz (gP (some (vI (stV S q))) (ovM dA m S h) sz) := by
  refine gM.of hY (by decide +kernel) (Nat.le_of_ble_eq_true rfl) ?_
  intro X hX C hQ
  subst hX
  have C : gC X cX5_stitches RX5 "stitches" 4 (some .int) D dA N0 Y ({ frames := 2, cells := 0, slots := 0, locals := 43 }) := C
  show G X 0 0 _ _ 0 [some (.ref m), some (vI q), none, none] []
  have hn := hO.1
  refine g_iconst C dX5_stitches_0 ?_
  refine g_istore_n1002 C dX5_stitches_1 (gi _) rfl ?_
  refine g_iconst C dX5_stitches_2 ?_
  refine g_istore_n1003 C dX5_stitches_3 (gi _) rfl ?_
  have lp4_1 : ∀ (fuel : Nat) (nn i : Int), ((0 ≤ i ∧ i ≤ S 0 0) ∧ nn = fo (stF S q) 0 i.toNat ∧ 0 ≤ nn ∧ nn ≤ i) → (S 0 0 - i).toNat < fuel → G X 0 0 (ovM dA m S h) sz 4 [some (.ref m), some (vI q), some (vI nn), some (vI i)] [] := by
    intro fuel
    induction fuel with
    | zero => intro nn i hI hfu; exact absurd hfu (Nat.not_lt_zero _)
    | succ fuel ih =>
      intro nn i hI hfu
      have ih1 := ih
      obtain ⟨hI1, hI2, hI3⟩ := hI
      refine g_iload_n C dX5_stitches_4 (gi _) rfl ?_
      refine g_aload_n C dX5_stitches_5 (gr _) rfl ?_
      refine M_g_row C q1191 dX5_stitches_6 ?_
      refine g_iconst C dX5_stitches_9 ?_
      refine M_ld_row C (by omega) dX5_stitches_10 ?_
      refine g_icmp_ge C (tgt := 72) dX5_stitches_11 (by decide) (by omega) (fun c1 => ?_) (fun c1 => ?_)
      · refine g_iload_n C dX5_stitches_72 (gi _) rfl ?_
        exact g_iret C hQ rfl dX5_stitches_73 ⟨gv (by rw [hI2, show i = S 0 0 by omega]; rfl), rfl, rfl⟩
      · refine g_iload_n C dX5_stitches_14 (gi _) rfl ?_
        refine g_iload_n C dX5_stitches_15 (gi _) rfl ?_
        refine g_iconst C dX5_stitches_16 ?_
        refine g_irem C (by omega) dX5_stitches_17 ?_
        refine g_if_ne C (tgt := 37) dX5_stitches_18 (by decide) (by omega) (fun c2 => ?_) (fun c2 => ?_)
        · refine g_iload_n C dX5_stitches_37 (gi _) rfl ?_
          refine g_iconst C dX5_stitches_38 ?_
          refine g_irem C (by omega) dX5_stitches_39 ?_
          refine g_iconst C dX5_stitches_40 ?_
          refine g_icmp_ne C (tgt := 63) dX5_stitches_41 (by decide) (by omega) (fun c3 => ?_) (fun c3 => ?_)
          · refine g_iconst C dX5_stitches_63 ?_
            refine g_iadd C dX5_stitches_64 ?_
            refine g_istore_n1002 C dX5_stitches_65 (gi _) rfl ?_
            refine g_iinc1003 C dX5_stitches_66 rfl ?_
            refine g_goto C (tgt := 4) dX5_stitches_69 (by decide) ?_
            exact ih1 _ _ (⟨by omega, by rw [fo_s (by omega), ← hI2]; simp_all [stF]; try omega, by omega⟩) (by omega)
          · refine g_iload_n C dX5_stitches_44 (gi _) rfl ?_
            refine g_iconst C dX5_stitches_45 ?_
            refine g_irem C (by omega) dX5_stitches_46 ?_
            refine g_if_ne C (tgt := 63) dX5_stitches_47 (by decide) (by omega) (fun c4 => ?_) (fun c4 => ?_)
            · refine g_iconst C dX5_stitches_63 ?_
              refine g_iadd C dX5_stitches_64 ?_
              refine g_istore_n1002 C dX5_stitches_65 (gi _) rfl ?_
              refine g_iinc1003 C dX5_stitches_66 rfl ?_
              refine g_goto C (tgt := 4) dX5_stitches_69 (by decide) ?_
              exact ih1 _ _ (⟨by omega, by rw [fo_s (by omega), ← hI2]; simp_all [stF]; try omega, by omega⟩) (by omega)
            · refine g_aload_n C dX5_stitches_50 (gr _) rfl ?_
              refine g_iload_n C dX5_stitches_51 (gi _) rfl ?_
              refine g_iload_n C dX5_stitches_52 (gi _) rfl ?_
              refine g_callV1z C (mX5_isUp hY (hO) (by omega) (by omega)) (lw_V q1325 q1327 qs39 q72 q1328) ⟨rfl, nd_X5_isUp⟩ (ovM_0 _ _ _ _) rfl ⟨by decide, by decide⟩ ⟨Nat.le_of_ble_eq_true rfl, Nat.le_of_ble_eq_true rfl⟩ rfl (Nat.le_of_ble_eq_true rfl) dX5_stitches_53 ?_
              refine g_ifne_b C (tgt := 63) dX5_stitches_56 (by decide) (fun c5 => ?_) (fun c5 => ?_)
              · refine g_iconst C dX5_stitches_63 ?_
                refine g_iadd C dX5_stitches_64 ?_
                refine g_istore_n1002 C dX5_stitches_65 (gi _) rfl ?_
                refine g_iinc1003 C dX5_stitches_66 rfl ?_
                refine g_goto C (tgt := 4) dX5_stitches_69 (by decide) ?_
                exact ih1 _ _ (⟨by omega, by rw [fo_s (by omega), ← hI2]; simp_all [stF]; try omega, by omega⟩) (by omega)
              · refine g_iconst C dX5_stitches_59 ?_
                refine g_goto C (tgt := 64) dX5_stitches_60 (by decide) ?_
                refine g_iadd C dX5_stitches_64 ?_
                refine g_istore_n1002 C dX5_stitches_65 (gi _) rfl ?_
                refine g_iinc1003 C dX5_stitches_66 rfl ?_
                refine g_goto C (tgt := 4) dX5_stitches_69 (by decide) ?_
                exact ih1 _ _ (⟨by omega, by rw [fo_s (by omega), ← hI2]; simp_all [stF]; try omega, by omega⟩) (by omega)
        · refine g_iload_n C dX5_stitches_21 (gi _) rfl ?_
          refine g_iconst C dX5_stitches_22 ?_
          refine g_irem C (by omega) dX5_stitches_23 ?_
          refine g_iconst C dX5_stitches_24 ?_
          refine g_icmp_ne C (tgt := 37) dX5_stitches_25 (by decide) (by omega) (fun c6 => ?_) (fun c6 => ?_)
          · refine g_iload_n C dX5_stitches_37 (gi _) rfl ?_
            refine g_iconst C dX5_stitches_38 ?_
            refine g_irem C (by omega) dX5_stitches_39 ?_
            refine g_iconst C dX5_stitches_40 ?_
            refine g_icmp_ne C (tgt := 63) dX5_stitches_41 (by decide) (by omega) (fun c7 => ?_) (fun c7 => ?_)
            · refine g_iconst C dX5_stitches_63 ?_
              refine g_iadd C dX5_stitches_64 ?_
              refine g_istore_n1002 C dX5_stitches_65 (gi _) rfl ?_
              refine g_iinc1003 C dX5_stitches_66 rfl ?_
              refine g_goto C (tgt := 4) dX5_stitches_69 (by decide) ?_
              exact ih1 _ _ (⟨by omega, by rw [fo_s (by omega), ← hI2]; simp_all [stF]; try omega, by omega⟩) (by omega)
            · refine g_iload_n C dX5_stitches_44 (gi _) rfl ?_
              refine g_iconst C dX5_stitches_45 ?_
              refine g_irem C (by omega) dX5_stitches_46 ?_
              refine g_if_ne C (tgt := 63) dX5_stitches_47 (by decide) (by omega) (fun c8 => ?_) (fun c8 => ?_)
              · refine g_iconst C dX5_stitches_63 ?_
                refine g_iadd C dX5_stitches_64 ?_
                refine g_istore_n1002 C dX5_stitches_65 (gi _) rfl ?_
                refine g_iinc1003 C dX5_stitches_66 rfl ?_
                refine g_goto C (tgt := 4) dX5_stitches_69 (by decide) ?_
                exact ih1 _ _ (⟨by omega, by rw [fo_s (by omega), ← hI2]; simp_all [stF]; try omega, by omega⟩) (by omega)
              · refine g_aload_n C dX5_stitches_50 (gr _) rfl ?_
                refine g_iload_n C dX5_stitches_51 (gi _) rfl ?_
                refine g_iload_n C dX5_stitches_52 (gi _) rfl ?_
                refine g_callV1z C (mX5_isUp hY (hO) (by omega) (by omega)) (lw_V q1325 q1327 qs39 q72 q1328) ⟨rfl, nd_X5_isUp⟩ (ovM_0 _ _ _ _) rfl ⟨by decide, by decide⟩ ⟨Nat.le_of_ble_eq_true rfl, Nat.le_of_ble_eq_true rfl⟩ rfl (Nat.le_of_ble_eq_true rfl) dX5_stitches_53 ?_
                refine g_ifne_b C (tgt := 63) dX5_stitches_56 (by decide) (fun c9 => ?_) (fun c9 => ?_)
                · refine g_iconst C dX5_stitches_63 ?_
                  refine g_iadd C dX5_stitches_64 ?_
                  refine g_istore_n1002 C dX5_stitches_65 (gi _) rfl ?_
                  refine g_iinc1003 C dX5_stitches_66 rfl ?_
                  refine g_goto C (tgt := 4) dX5_stitches_69 (by decide) ?_
                  exact ih1 _ _ (⟨by omega, by rw [fo_s (by omega), ← hI2]; simp_all [stF]; try omega, by omega⟩) (by omega)
                · refine g_iconst C dX5_stitches_59 ?_
                  refine g_goto C (tgt := 64) dX5_stitches_60 (by decide) ?_
                  refine g_iadd C dX5_stitches_64 ?_
                  refine g_istore_n1002 C dX5_stitches_65 (gi _) rfl ?_
                  refine g_iinc1003 C dX5_stitches_66 rfl ?_
                  refine g_goto C (tgt := 4) dX5_stitches_69 (by decide) ?_
                  exact ih1 _ _ (⟨by omega, by rw [fo_s (by omega), ← hI2]; simp_all [stF]; try omega, by omega⟩) (by omega)
          · refine g_aload_n C dX5_stitches_28 (gr _) rfl ?_
            refine g_iload_n C dX5_stitches_29 (gi _) rfl ?_
            refine g_iload_n C dX5_stitches_30 (gi _) rfl ?_
            refine g_callV1z C (mX5_isUp hY (hO) (by omega) (by omega)) (lw_V q1325 q1327 qs39 q72 q1328) ⟨rfl, nd_X5_isUp⟩ (ovM_0 _ _ _ _) rfl ⟨by decide, by decide⟩ ⟨Nat.le_of_ble_eq_true rfl, Nat.le_of_ble_eq_true rfl⟩ rfl (Nat.le_of_ble_eq_true rfl) dX5_stitches_31 ?_
            refine g_ifne_b C (tgt := 59) dX5_stitches_34 (by decide) (fun c10 => ?_) (fun c10 => ?_)
            · refine g_iconst C dX5_stitches_59 ?_
              refine g_goto C (tgt := 64) dX5_stitches_60 (by decide) ?_
              refine g_iadd C dX5_stitches_64 ?_
              refine g_istore_n1002 C dX5_stitches_65 (gi _) rfl ?_
              refine g_iinc1003 C dX5_stitches_66 rfl ?_
              refine g_goto C (tgt := 4) dX5_stitches_69 (by decide) ?_
              exact ih1 _ _ (⟨by omega, by rw [fo_s (by omega), ← hI2]; simp_all [stF]; try omega, by omega⟩) (by omega)
            · refine g_iload_n C dX5_stitches_37 (gi _) rfl ?_
              refine g_iconst C dX5_stitches_38 ?_
              refine g_irem C (by omega) dX5_stitches_39 ?_
              refine g_iconst C dX5_stitches_40 ?_
              refine g_icmp_ne C (tgt := 63) dX5_stitches_41 (by decide) (by omega) (fun c11 => ?_) (fun c11 => ?_)
              · refine g_iconst C dX5_stitches_63 ?_
                refine g_iadd C dX5_stitches_64 ?_
                refine g_istore_n1002 C dX5_stitches_65 (gi _) rfl ?_
                refine g_iinc1003 C dX5_stitches_66 rfl ?_
                refine g_goto C (tgt := 4) dX5_stitches_69 (by decide) ?_
                exact ih1 _ _ (⟨by omega, by rw [fo_s (by omega), ← hI2]; simp_all [stF]; try omega, by omega⟩) (by omega)
              · refine g_iload_n C dX5_stitches_44 (gi _) rfl ?_
                refine g_iconst C dX5_stitches_45 ?_
                refine g_irem C (by omega) dX5_stitches_46 ?_
                refine g_if_ne C (tgt := 63) dX5_stitches_47 (by decide) (by omega) (fun c12 => ?_) (fun c12 => ?_)
                · refine g_iconst C dX5_stitches_63 ?_
                  refine g_iadd C dX5_stitches_64 ?_
                  refine g_istore_n1002 C dX5_stitches_65 (gi _) rfl ?_
                  refine g_iinc1003 C dX5_stitches_66 rfl ?_
                  refine g_goto C (tgt := 4) dX5_stitches_69 (by decide) ?_
                  exact ih1 _ _ (⟨by omega, by rw [fo_s (by omega), ← hI2]; simp_all [stF]; try omega, by omega⟩) (by omega)
                · refine g_aload_n C dX5_stitches_50 (gr _) rfl ?_
                  refine g_iload_n C dX5_stitches_51 (gi _) rfl ?_
                  refine g_iload_n C dX5_stitches_52 (gi _) rfl ?_
                  refine g_callV1z C (mX5_isUp hY (hO) (by omega) (by omega)) (lw_V q1325 q1327 qs39 q72 q1328) ⟨rfl, nd_X5_isUp⟩ (ovM_0 _ _ _ _) rfl ⟨by decide, by decide⟩ ⟨Nat.le_of_ble_eq_true rfl, Nat.le_of_ble_eq_true rfl⟩ rfl (Nat.le_of_ble_eq_true rfl) dX5_stitches_53 ?_
                  refine g_ifne_b C (tgt := 63) dX5_stitches_56 (by decide) (fun c13 => ?_) (fun c13 => ?_)
                  · refine g_iconst C dX5_stitches_63 ?_
                    refine g_iadd C dX5_stitches_64 ?_
                    refine g_istore_n1002 C dX5_stitches_65 (gi _) rfl ?_
                    refine g_iinc1003 C dX5_stitches_66 rfl ?_
                    refine g_goto C (tgt := 4) dX5_stitches_69 (by decide) ?_
                    exact ih1 _ _ (⟨by omega, by rw [fo_s (by omega), ← hI2]; simp_all [stF]; try omega, by omega⟩) (by omega)
                  · refine g_iconst C dX5_stitches_59 ?_
                    refine g_goto C (tgt := 64) dX5_stitches_60 (by decide) ?_
                    refine g_iadd C dX5_stitches_64 ?_
                    refine g_istore_n1002 C dX5_stitches_65 (gi _) rfl ?_
                    refine g_iinc1003 C dX5_stitches_66 rfl ?_
                    refine g_goto C (tgt := 4) dX5_stitches_69 (by decide) ?_
                    exact ih1 _ _ (⟨by omega, by rw [fo_s (by omega), ← hI2]; simp_all [stF]; try omega, by omega⟩) (by omega)
  exact lp4_1 _ _ _ (⟨by omega, rfl, by omega⟩) (Nat.lt_succ_self _)

theorem nd_X5_pick : yX5_pick.cls ≠ "java/lang/invoke/MethodHandle" ∧ yX5_pick.cls ≠ "java/lang/invoke/VarHandle" ∧ (parseMethodDescriptor yX5_pick.desc).map (fun d => d.parameters.length) = some 2 := by decide +kernel
theorem mX5_pick {l : Launch} {D : va_G} {dA : Nat → ClassId} {N0 : Nat} {Y : State → Prop} (hY : gYok N0 Y) {h : gH} {sz m : Nat} {S : MS} {q w : Int} (hO : OkD (S 0)) (hrq : -2147483648 ≤ q ∧ q ≤ 2147483647) (hrw : -2147483648 ≤ w ∧ w ≤ 2147483647) : gM l D dA N0 Y yX5_pick cX5_pick 3 (some .int) 3 66 0 0 [.ref m, vI q, vI w] (ovM dA m S h) sz (gP (some (vI (pickV S q w))) (ovM dA m S h) sz) := by
  refine gM.of hY (by decide +kernel) (Nat.le_of_ble_eq_true rfl) ?_
  intro X hX C hQ
  subst hX
  have C : gC X cX5_pick RX5 "pick" 3 (some .int) D dA N0 Y ({ frames := 3, cells := 0, slots := 0, locals := 66 }) := C
  show G X 0 0 _ _ 0 [some (.ref m), some (vI q), some (vI w)] []
  have hn := hO.1
  refine g_aload_n C dX5_pick_0 (gr _) rfl ?_
  refine g_iload_n C dX5_pick_1 (gi _) rfl ?_
  refine g_callV1z C (mX5_isPick hY (by omega)) (lw_V q1339 q1341 qs40 q72 q1342) ⟨rfl, nd_X5_isPick⟩ (ovM_0 _ _ _ _) rfl ⟨by decide, by decide⟩ ⟨Nat.le_of_ble_eq_true rfl, Nat.le_of_ble_eq_true rfl⟩ rfl (Nat.le_of_ble_eq_true rfl) dX5_pick_2 ?_
  refine g_ifne_b C (tgt := 11) dX5_pick_5 (by decide) (fun c1 => ?_) (fun c1 => ?_)
  · have hie := inB_t.mp c1
    have hu := upPick_rg (S := S) q hO
    have hst := st_rg (S := S) q hO
    refine g_iload_n C dX5_pick_11 (gi _) rfl ?_
    rcases (show w = 0 ∨ w = 1 ∨ w = 2 ∨ w = 3 ∨ w = 4 ∨ w = 5 ∨ w = 6 ∨ (w < 0 ∨ 6 < w) by omega) with rfl | rfl | rfl | rfl | rfl | rfl | rfl | w2
    · refine g_tabIn C (off := 44) (tgt := 56) dX5_pick_12 (by omega) (by omega) rfl (by decide) ?_
      refine g_aload_n C dX5_pick_56 (gr _) rfl ?_
      refine M_g_row C q1191 dX5_pick_57 ?_
      refine g_bipush C dX5_pick_60 (by decide +kernel) ?_
      refine g_iload_n C dX5_pick_62 (gi _) rfl ?_
      refine g_iadd C dX5_pick_63 ?_
      refine M_ld_row C (by omega) dX5_pick_64 ?_
      exact g_iret C hQ rfl dX5_pick_65 ⟨gv (by simp [pickV, c1]; try (first | omega | ((repeat' split) <;> omega))), rfl, rfl⟩
    · refine g_tabIn C (off := 54) (tgt := 66) dX5_pick_12 (by omega) (by omega) rfl (by decide) ?_
      refine g_aload_n C dX5_pick_66 (gr _) rfl ?_
      refine M_g_row C q1191 dX5_pick_67 ?_
      refine g_bipush C dX5_pick_70 (by decide +kernel) ?_
      refine g_iload_n C dX5_pick_72 (gi _) rfl ?_
      refine g_iadd C dX5_pick_73 ?_
      refine M_ld_row C (by omega) dX5_pick_74 ?_
      exact g_iret C hQ rfl dX5_pick_75 ⟨gv (by simp [pickV, c1]; try (first | omega | ((repeat' split) <;> omega))), rfl, rfl⟩
    · refine g_tabIn C (off := 64) (tgt := 76) dX5_pick_12 (by omega) (by omega) rfl (by decide) ?_
      refine g_aload_n C dX5_pick_76 (gr _) rfl ?_
      refine g_iload_n C dX5_pick_77 (gi _) rfl ?_
      refine g_callV1z C (mX5_upPick hY (hO) (by omega)) (lw_V q1343 q1345 qs41 q72 q1346) ⟨rfl, nd_X5_upPick⟩ (ovM_0 _ _ _ _) rfl ⟨by decide, by decide⟩ ⟨Nat.le_of_ble_eq_true rfl, Nat.le_of_ble_eq_true rfl⟩ rfl (Nat.le_of_ble_eq_true rfl) dX5_pick_78 ?_
      refine g_aload_n C dX5_pick_81 (gr _) rfl ?_
      refine M_g_row C q1191 dX5_pick_82 ?_
      refine g_iconst C dX5_pick_85 ?_
      refine M_ld_row C (by omega) dX5_pick_86 ?_
      refine g_iconst C dX5_pick_87 ?_
      refine g_callS1z C (mX5_run hY (by omega) (by omega) (b := false)) (lw_S q1332 q1333 q72 q1334) nd_X5_run ⟨by decide, by decide⟩ ⟨Nat.le_of_ble_eq_true rfl, Nat.le_of_ble_eq_true rfl⟩ rfl (Nat.le_of_ble_eq_true rfl) dX5_pick_88 ?_
      exact g_iret C hQ rfl dX5_pick_91 ⟨gv (by simp [pickV, c1]; try (first | omega | ((repeat' split) <;> omega))), rfl, rfl⟩
    · refine g_tabIn C (off := 80) (tgt := 92) dX5_pick_12 (by omega) (by omega) rfl (by decide) ?_
      refine g_aload_n C dX5_pick_92 (gr _) rfl ?_
      refine g_iload_n C dX5_pick_93 (gi _) rfl ?_
      refine g_callV1z C (mX5_upPick hY (hO) (by omega)) (lw_V q1343 q1345 qs41 q72 q1346) ⟨rfl, nd_X5_upPick⟩ (ovM_0 _ _ _ _) rfl ⟨by decide, by decide⟩ ⟨Nat.le_of_ble_eq_true rfl, Nat.le_of_ble_eq_true rfl⟩ rfl (Nat.le_of_ble_eq_true rfl) dX5_pick_94 ?_
      refine g_aload_n C dX5_pick_97 (gr _) rfl ?_
      refine M_g_row C q1191 dX5_pick_98 ?_
      refine g_iconst C dX5_pick_101 ?_
      refine M_ld_row C (by omega) dX5_pick_102 ?_
      refine g_iconst C dX5_pick_103 ?_
      refine g_callS1z C (mX5_run hY (by omega) (by omega) (b := true)) (lw_S q1332 q1333 q72 q1334) nd_X5_run ⟨by decide, by decide⟩ ⟨Nat.le_of_ble_eq_true rfl, Nat.le_of_ble_eq_true rfl⟩ rfl (Nat.le_of_ble_eq_true rfl) dX5_pick_104 ?_
      exact g_iret C hQ rfl dX5_pick_107 ⟨gv (by simp [pickV, c1]; try (first | omega | ((repeat' split) <;> omega))), rfl, rfl⟩
    · refine g_tabIn C (off := 96) (tgt := 108) dX5_pick_12 (by omega) (by omega) rfl (by decide) ?_
      refine g_aload_n C dX5_pick_108 (gr _) rfl ?_
      refine g_iload_n C dX5_pick_109 (gi _) rfl ?_
      refine g_callV1z C (mX5_upPick hY (hO) (by omega)) (lw_V q1343 q1345 qs41 q72 q1346) ⟨rfl, nd_X5_upPick⟩ (ovM_0 _ _ _ _) rfl ⟨by decide, by decide⟩ ⟨Nat.le_of_ble_eq_true rfl, Nat.le_of_ble_eq_true rfl⟩ rfl (Nat.le_of_ble_eq_true rfl) dX5_pick_110 ?_
      exact g_iret C hQ rfl dX5_pick_113 ⟨gv (by simp [pickV, c1]; try (first | omega | ((repeat' split) <;> omega))), rfl, rfl⟩
    · refine g_tabIn C (off := 102) (tgt := 114) dX5_pick_12 (by omega) (by omega) rfl (by decide) ?_
      refine g_aload_n C dX5_pick_114 (gr _) rfl ?_
      refine g_iload_n C dX5_pick_115 (gi _) rfl ?_
      refine g_callV1z C (mX5_stitches hY (hO) (by omega)) (lw_V q1347 q1349 qs42 q72 q1350) ⟨rfl, nd_X5_stitches⟩ (ovM_0 _ _ _ _) rfl ⟨by decide, by decide⟩ ⟨Nat.le_of_ble_eq_true rfl, Nat.le_of_ble_eq_true rfl⟩ rfl (Nat.le_of_ble_eq_true rfl) dX5_pick_116 ?_
      refine g_if_le C (tgt := 126) dX5_pick_119 (by decide) (by omega) (fun c3 => ?_) (fun c3 => ?_)
      · refine g_iconst C dX5_pick_126 ?_
        exact g_iret C hQ rfl dX5_pick_127 ⟨gv (by simp [pickV, c1]; try (first | omega | ((repeat' split) <;> omega))), rfl, rfl⟩
      · refine g_iconst C dX5_pick_122 ?_
        refine g_goto C (tgt := 127) dX5_pick_123 (by decide) ?_
        exact g_iret C hQ rfl dX5_pick_127 ⟨gv (by simp [pickV, c1]; try (first | omega | ((repeat' split) <;> omega))), rfl, rfl⟩
    · refine g_tabIn C (off := 116) (tgt := 128) dX5_pick_12 (by omega) (by omega) rfl (by decide) ?_
      refine g_aload_n C dX5_pick_128 (gr _) rfl ?_
      refine g_iload_n C dX5_pick_129 (gi _) rfl ?_
      refine g_callV1z C (mX5_stitches hY (hO) (by omega)) (lw_V q1347 q1349 qs42 q72 q1350) ⟨rfl, nd_X5_stitches⟩ (ovM_0 _ _ _ _) rfl ⟨by decide, by decide⟩ ⟨Nat.le_of_ble_eq_true rfl, Nat.le_of_ble_eq_true rfl⟩ rfl (Nat.le_of_ble_eq_true rfl) dX5_pick_130 ?_
      exact g_iret C hQ rfl dX5_pick_133 ⟨gv (by simp [pickV, c1]; try (first | omega | ((repeat' split) <;> omega))), rfl, rfl⟩
    · refine g_tabOut C (tgt := 134) dX5_pick_12 (by omega) (by omega) (by decide) ?_
      refine g_bipush C dX5_pick_134 (by decide +kernel) ?_
      exact g_iret C hQ rfl dX5_pick_136 ⟨gv (by simp [pickV, c1]; try (first | omega | ((repeat' split) <;> omega))), rfl, rfl⟩
  · refine g_bipush C dX5_pick_8 (by decide +kernel) ?_
    exact g_iret C hQ rfl dX5_pick_10 ⟨gv (by simp [pickV, c1]; try (first | omega | ((repeat' split) <;> omega))), rfl, rfl⟩
