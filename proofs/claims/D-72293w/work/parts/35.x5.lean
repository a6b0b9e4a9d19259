/-! THE COMPONENT: shaftsOf, treadlesOf, least -/
set_option maxRecDepth 100000
/-- an answer that leaves WeaveDraft as it is, with rubbish behind sz -/
def gPX (v : Int) (dA : Nat → ClassId) (x : Nat) (S : MS) (P : PS) (h : gH) (sz : Nat) : Option Value → gH → Nat → Prop := fun v1 h1 z1 => v1 = some (vI v) ∧ ∃ h2, h1 = ovX dA x S P h2 ∧ (∀ q : Nat, q < sz → h2 q = h q) ∧ sz ≤ z1

theorem nd_X0_columnsOf : yX0_columnsOf.cls ≠ "java/lang/invoke/MethodHandle" ∧ yX0_columnsOf.cls ≠ "java/lang/invoke/VarHandle" ∧ (parseMethodDescriptor yX0_columnsOf.desc).map (fun d => d.parameters.length) = some 0 := by decide +kernel
theorem mX0_columnsOf {l : Launch} {D : va_G} {dA : Nat → ClassId} {N0 : Nat} {Y : State → Prop} (hY : gYc N0 Y) {h : gH} {sz x : Nat} : gM l D dA N0 Y yX0_columnsOf cX0_columnsOf 1 (some ((.object "WeaveDraft$Line"))) 2 41 1 1 [.ref x] (h) sz (gP (some (.ref sz)) (gup h sz (gO 7 [.ref x])) (sz + 1)) := by
  refine gM.of hY.ok (by decide +kernel) (Nat.le_of_ble_eq_true rfl) ?_
  intro X hX C hQ
  subst hX
  have C : gC X cX0_columnsOf RX0 "columnsOf" 1 (some ((.object "WeaveDraft$Line"))) D dA N0 Y ({ frames := 2, cells := 1, slots := 1, locals := 41 }) := C
  show G X 0 0 _ _ 0 [some (.ref x)] []
  refine g_new C (ci := 7) (fs := [.null]) rfl in_X8 tyX8 tyX8_ok q867 q868 q91 (by decide +kernel) ⟨Nat.le_of_ble_eq_true rfl, Nat.le_of_ble_eq_true rfl⟩ dX0_columnsOf_0 (fun _ => ?_)
  refine g_dup C dX0_columnsOf_3 rfl ?_
  refine g_aload_n C dX0_columnsOf_4 (gr _) rfl ?_
  refine g_callI0z C (mX8_init hY) (lw_meth q871) q91 q869 q870 rfl nd_X8_init ⟨by decide, by decide⟩ ⟨Nat.le_of_ble_eq_true rfl, Nat.le_of_ble_eq_true rfl⟩ rfl (Nat.le_of_ble_eq_true rfl) dX0_columnsOf_5 ?_
  refine g_widen (k' := 1) (n' := 1) (Nat.le_of_ble_eq_true rfl) (Nat.le_of_ble_eq_true rfl) ?_
  exact g_aret C hQ rfl (Or.inl ⟨_, rfl⟩) (gr _) dX0_columnsOf_8 ⟨rfl, rfl, rfl⟩

theorem nd_X0_rowsOf : yX0_rowsOf.cls ≠ "java/lang/invoke/MethodHandle" ∧ yX0_rowsOf.cls ≠ "java/lang/invoke/VarHandle" ∧ (parseMethodDescriptor yX0_rowsOf.desc).map (fun d => d.parameters.length) = some 0 := by decide +kernel
theorem mX0_rowsOf {l : Launch} {D : va_G} {dA : Nat → ClassId} {N0 : Nat} {Y : State → Prop} (hY : gYc N0 Y) {h : gH} {sz x : Nat} : gM l D dA N0 Y yX0_rowsOf cX0_rowsOf 1 (some ((.object "WeaveDraft$Line"))) 2 41 1 1 [.ref x] (h) sz (gP (some (.ref sz)) (gup h sz (gO 8 [.ref x])) (sz + 1)) := by
  refine gM.of hY.ok (by decide +kernel) (Nat.le_of_ble_eq_true rfl) ?_
  intro X hX C hQ
  subst hX
  have C : gC X cX0_rowsOf RX0 "rowsOf" 1 (some ((.object "WeaveDraft$Line"))) D dA N0 Y ({ frames := 2, cells := 1, slots := 1, locals := 41 }) := C
  show G X 0 0 _ _ 0 [some (.ref x)] []
  refine g_new C (ci := 8) (fs := [.null]) rfl in_X9 tyX9 tyX9_ok q905 q906 q92 (by decide +kernel) ⟨Nat.le_of_ble_eq_true rfl, Nat.le_of_ble_eq_true rfl⟩ dX0_rowsOf_0 (fun _ => ?_)
  refine g_dup C dX0_rowsOf_3 rfl ?_
  refine g_aload_n C dX0_rowsOf_4 (gr _) rfl ?_
  refine g_callI0z C (mX9_init hY) (lw_meth q909) q92 q907 q908 rfl nd_X9_init ⟨by decide, by decide⟩ ⟨Nat.le_of_ble_eq_true rfl, Nat.le_of_ble_eq_true rfl⟩ rfl (Nat.le_of_ble_eq_true rfl) dX0_rowsOf_5 ?_
  refine g_widen (k' := 1) (n' := 1) (Nat.le_of_ble_eq_true rfl) (Nat.le_of_ble_eq_true rfl) ?_
  exact g_aret C hQ rfl (Or.inl ⟨_, rfl⟩) (gr _) dX0_rowsOf_8 ⟨rfl, rfl, rfl⟩

theorem nd_X0_shaftsOf : yX0_shaftsOf.cls ≠ "java/lang/invoke/MethodHandle" ∧ yX0_shaftsOf.cls ≠ "java/lang/invoke/VarHandle" ∧ (parseMethodDescriptor yX0_shaftsOf.desc).map (fun d => d.parameters.length) = some 1 := by decide +kernel
theorem mX0_shaftsOf {l : Launch} {D : va_G} {dA : Nat → ClassId} {N0 : Nat} {Y : State → Prop} (hY : gYc N0 Y) {h : gH} {sz x t : Nat} {S : MS} {G1 : Int → Int} (hX : isXr dA x S h) (hxt : x ≠ t) (hyt : x + 59 ≠ t) (hR : OkR S) : gM l D dA N0 Y yX0_shaftsOf cX0_shaftsOf 2 (some .int) 3 69 1 1 [.ref x, .ref t] (gup h t (gI (dA 0) 12 G1)) sz (gP (some (vI (cntN (colV S) (S 10 1)))) (gup (gup h sz (gO 7 [.ref x])) t (gI (dA 0) 12 (nT (colV S) (S 10 1) G1 (S 10 1)))) (sz + 1)) := by
  refine gM.of hY.ok (by decide +kernel) (Nat.le_of_ble_eq_true rfl) ?_
  intro X hX C hQ
  subst hX
  have C : gC X cX0_shaftsOf RX0 "shaftsOf" 2 (some .int) D dA N0 Y ({ frames := 3, cells := 1, slots := 1, locals := 69 }) := C
  show G X 0 0 _ _ 0 [some (.ref x), some (.ref t)] []
  have hR0 := hR
  obtain ⟨hR1, hR2, hR3⟩ := hR0
  refine g_ex (P := x + 59 < sz ∧ x < sz ∧ t < sz) (fun hb _ => ⟨(hb _ _ (isXr_gup hX hxt hyt).2).2, (hb _ _ (isXr_gup hX hxt hyt).1).2, (hb _ _ (gup_s _ _ _)).2⟩) C (fun hsz => ?_)
  refine g_aload_n C dX0_shaftsOf_0 (gr _) rfl ?_
  refine g_callV1 C (mX0_columnsOf hY) (lw_V q863 q865 qs17 q67 q866) ⟨rfl, nd_X0_columnsOf⟩ (isXr_gup hX hxt hyt).1 rfl ⟨by decide, by decide⟩ ⟨Nat.le_of_ble_eq_true rfl, Nat.le_of_ble_eq_true rfl⟩ rfl (Nat.le_of_ble_eq_true rfl) dX0_shaftsOf_1 ?_
  refine g_hE (gup_sw _ _ _ (by omega)) ?_
  refine g_aload_n C dX0_shaftsOf_4 (gr _) rfl ?_
  refine g_get C (isXr_gup (isXr_gup hX (by omega) (by omega)) hxt hyt).1 rfl in_X0 7 (by decide) q230 (Or.inl rfl) rfl dX0_shaftsOf_5 ?_
  refine g_aload_n C dX0_shaftsOf_8 (gr _) rfl ?_
  refine g_callS1z C (mX0_numbered_L2 hY (isXr_gup hX (by omega) (by omega)) (gup_s _ _ _) (by omega) (hxt) (hyt) (hR) (by omega) (fun i hi => by have := colV_rg (S := S) i hR; omega)) (lw_S q877 q878 q67 q879) nd_X0_numbered ⟨by decide, by decide⟩ ⟨Nat.le_of_ble_eq_true rfl, Nat.le_of_ble_eq_true rfl⟩ rfl (Nat.le_of_ble_eq_true rfl) dX0_shaftsOf_9 ?_
  refine g_widen (k' := 1) (n' := 1) (Nat.le_of_ble_eq_true rfl) (Nat.le_of_ble_eq_true rfl) ?_
  exact g_iret C hQ rfl dX0_shaftsOf_12 ⟨rfl, rfl, rfl⟩

theorem nd_X0_treadlesOf : yX0_treadlesOf.cls ≠ "java/lang/invoke/MethodHandle" ∧ yX0_treadlesOf.cls ≠ "java/lang/invoke/VarHandle" ∧ (parseMethodDescriptor yX0_treadlesOf.desc).map (fun d => d.parameters.length) = some 1 := by decide +kernel
theorem mX0_treadlesOf {l : Launch} {D : va_G} {dA : Nat → ClassId} {N0 : Nat} {Y : State → Prop} (hY : gYc N0 Y) {h : gH} {sz x t : Nat} {S : MS} {G1 : Int → Int} (hX : isXr dA x S h) (hxt : x ≠ t) (hyt : x + 59 ≠ t) (hR : OkR S) : gM l D dA N0 Y yX0_treadlesOf cX0_treadlesOf 2 (some .int) 3 61 1 1 [.ref x, .ref t] (gup h t (gI (dA 0) 12 G1)) sz (gP (some (vI (cntN (S 1) (S 10 0)))) (gup (gup h sz (gO 8 [.ref x])) t (gI (dA 0) 12 (nT (S 1) (S 10 0) G1 (S 10 0)))) (sz + 1)) := by
  refine gM.of hY.ok (by decide +kernel) (Nat.le_of_ble_eq_true rfl) ?_
  intro X hX C hQ
  subst hX
  have C : gC X cX0_treadlesOf RX0 "treadlesOf" 2 (some .int) D dA N0 Y ({ frames := 3, cells := 1, slots := 1, locals := 61 }) := C
  show G X 0 0 _ _ 0 [some (.ref x), some (.ref t)] []
  have hR0 := hR
  obtain ⟨hR1, hR2, hR3⟩ := hR0
  refine g_ex (P := x + 59 < sz ∧ x < sz ∧ t < sz) (fun hb _ => ⟨(hb _ _ (isXr_gup hX hxt hyt).2).2, (hb _ _ (isXr_gup hX hxt hyt).1).2, (hb _ _ (gup_s _ _ _)).2⟩) C (fun hsz => ?_)
  refine g_aload_n C dX0_treadlesOf_0 (gr _) rfl ?_
  refine g_callV1 C (mX0_rowsOf hY) (lw_V q901 q903 qs19 q67 q904) ⟨rfl, nd_X0_rowsOf⟩ (isXr_gup hX hxt hyt).1 rfl ⟨by decide, by decide⟩ ⟨Nat.le_of_ble_eq_true rfl, Nat.le_of_ble_eq_true rfl⟩ rfl (Nat.le_of_ble_eq_true rfl) dX0_treadlesOf_1 ?_
  refine g_hE (gup_sw _ _ _ (by omega)) ?_
  refine g_aload_n C dX0_treadlesOf_4 (gr _) rfl ?_
  refine g_get C (isXr_gup (isXr_gup hX (by omega) (by omega)) hxt hyt).1 rfl in_X0 6 (by decide) q228 (Or.inl rfl) rfl dX0_treadlesOf_5 ?_
  refine g_aload_n C dX0_treadlesOf_8 (gr _) rfl ?_
  refine g_callS1z C (mX0_numbered_L1 hY (isXr_gup hX (by omega) (by omega)) (gup_s _ _ _) (by omega) (hxt) (hyt) (hR) (by omega) (fun i hi => by have := hR3 i hi.1 hi.2; omega)) (lw_S q877 q878 q67 q879) nd_X0_numbered ⟨by decide, by decide⟩ ⟨Nat.le_of_ble_eq_true rfl, Nat.le_of_ble_eq_true rfl⟩ rfl (Nat.le_of_ble_eq_true rfl) dX0_treadlesOf_9 ?_
  refine g_widen (k' := 1) (n' := 1) (Nat.le_of_ble_eq_true rfl) (Nat.le_of_ble_eq_true rfl) ?_
  exact g_iret C hQ rfl dX0_treadlesOf_12 ⟨rfl, rfl, rfl⟩

theorem nd_X0_least : yX0_least.cls ≠ "java/lang/invoke/MethodHandle" ∧ yX0_least.cls ≠ "java/lang/invoke/VarHandle" ∧ (parseMethodDescriptor yX0_least.desc).map (fun d => d.parameters.length) = some 1 := by decide +kernel
theorem mX0_least {l : Launch} {D : va_G} {dA : Nat → ClassId} {N0 : Nat} {Y : State → Prop} (hY : gYc N0 Y) {h : gH} {sz x : Nat} {S : MS} {P : PS} {w : Int} (hO : OkD (S 0)) (hR : OkR S) (hrw : -2147483648 ≤ w ∧ w ≤ 2147483647)  : gM l D dA N0 Y yX0_least cX0_least 2 (some .int) 5 108 2 13 [.ref x, vI w] (ovX dA x S P h) sz (gPX (leastV S w) dA x S P h sz) := by
  refine gM.of hY.ok (by decide +kernel) (Nat.le_of_ble_eq_true rfl) ?_
  intro X hX C hQ
  subst hX
  have C : gC X cX0_least RX0 "least" 2 (some .int) D dA N0 Y ({ frames := 5, cells := 2, slots := 13, locals := 108 }) := C
  show G X 0 0 _ _ 0 [some (.ref x), some (vI w)] []
  have hR0 := hR
  obtain ⟨hR1, hR2, hR3⟩ := hR0
  refine g_ex (P := x + 62 ≤ sz) (fun hb _ => by have := (hb _ _ (ovX_61 dA x S P h)).2; omega) C (fun hsz => ?_)
  refine g_iload_n C dX0_least_0 (gi _) rfl ?_
  rcases (show w = 0 ∨ w = 1 ∨ w = 2 ∨ w = 3 ∨ w = 4 ∨ (w < 0 ∨ 4 < w) by omega) with w1 | w1 | w1 | w1 | w1 | w1
  · refine g_tabIn C (off := 35) (tgt := 36) dX0_least_1 (by omega) (by omega) (by rw [w1]; rfl) (by decide) ?_
    refine g_aload_n C dX0_least_36 (gr _) rfl ?_
    refine X_g_rowMany C q228 dX0_least_37 ?_
    refine g_widen (k' := 2) (n' := 13) (Nat.le_of_ble_eq_true rfl) (Nat.le_of_ble_eq_true rfl) ?_
    exact g_iret C hQ rfl dX0_least_40 ⟨gv (by rw [leastV, if_pos (by omega)]), h, rfl, fun q hq => rfl, Nat.le_refl _⟩
  · refine g_tabIn C (off := 40) (tgt := 41) dX0_least_1 (by omega) (by omega) (by rw [w1]; rfl) (by decide) ?_
    refine g_aload_n C dX0_least_41 (gr _) rfl ?_
    refine X_g_wide C q230 dX0_least_42 ?_
    refine g_widen (k' := 2) (n' := 13) (Nat.le_of_ble_eq_true rfl) (Nat.le_of_ble_eq_true rfl) ?_
    exact g_iret C hQ rfl dX0_least_45 ⟨gv (by rw [leastV, if_neg (by omega), if_pos (by omega)]), h, rfl, fun q hq => rfl, Nat.le_refl _⟩
  · refine g_tabIn C (off := 45) (tgt := 46) dX0_least_1 (by omega) (by omega) (by rw [w1]; rfl) (by decide) ?_
    refine g_aload_n C dX0_least_46 (gr _) rfl ?_
    refine g_bipush C dX0_least_47 (by decide +kernel) ?_
    refine g_newa (N := 12) (atype := .int) (ty := .int) C 0 rfl rfl (fun _ _ => rfl) rfl q153 (Nat.le_of_ble_eq_true rfl) (by decide) ⟨Nat.le_of_ble_eq_true rfl, Nat.le_of_ble_eq_true rfl⟩ dX0_least_49 (fun _ => ?_)
    refine g_callV1 C (mX0_shaftsOf hY (isXr_X dA x S P h) (by omega) (by omega) (hR)) (lw_V q859 q861 qs16 q67 q862) ⟨rfl, nd_X0_shaftsOf⟩ ((gup_n _ _ (by omega)).trans (ovX_0 _ _ _ _ _)) rfl ⟨by decide, by decide⟩ ⟨Nat.le_of_ble_eq_true rfl, Nat.le_of_ble_eq_true rfl⟩ rfl (Nat.le_of_ble_eq_true rfl) dX0_least_51 ?_
    refine g_widen (k' := 2) (n' := 13) (Nat.le_of_ble_eq_true rfl) (Nat.le_of_ble_eq_true rfl) ?_
    exact g_iret C hQ rfl dX0_least_54 ⟨gv (by rw [leastV, if_neg (by omega), if_neg (by omega), if_pos (by omega), ls_eq (by omega)]), _, (by rw [ovX_gup _ _ _ _ _ _ (by omega), ovX_gup _ _ _ _ _ _ (by omega)]), fun q hq => by rw [gup_n _ _ (by omega), gup_n _ _ (by omega)], by omega⟩
  · refine g_tabIn C (off := 54) (tgt := 55) dX0_least_1 (by omega) (by omega) (by rw [w1]; rfl) (by decide) ?_
    refine g_aload_n C dX0_least_55 (gr _) rfl ?_
    refine g_bipush C dX0_least_56 (by decide +kernel) ?_
    refine g_newa (N := 12) (atype := .int) (ty := .int) C 0 rfl rfl (fun _ _ => rfl) rfl q153 (Nat.le_of_ble_eq_true rfl) (by decide) ⟨Nat.le_of_ble_eq_true rfl, Nat.le_of_ble_eq_true rfl⟩ dX0_least_58 (fun _ => ?_)
    refine g_callV1 C (mX0_treadlesOf hY (isXr_X dA x S P h) (by omega) (by omega) (hR)) (lw_V q897 q899 qs18 q67 q900) ⟨rfl, nd_X0_treadlesOf⟩ ((gup_n _ _ (by omega)).trans (ovX_0 _ _ _ _ _)) rfl ⟨by decide, by decide⟩ ⟨Nat.le_of_ble_eq_true rfl, Nat.le_of_ble_eq_true rfl⟩ rfl (Nat.le_of_ble_eq_true rfl) dX0_least_60 ?_
    refine g_widen (k' := 2) (n' := 13) (Nat.le_of_ble_eq_true rfl) (Nat.le_of_ble_eq_true rfl) ?_
    exact g_iret C hQ rfl dX0_least_63 ⟨gv (by rw [leastV, if_neg (by omega), if_neg (by omega), if_neg (by omega), if_pos (by omega), ls_eq (by omega)]), _, (by rw [ovX_gup _ _ _ _ _ _ (by omega), ovX_gup _ _ _ _ _ _ (by omega)]), fun q hq => by rw [gup_n _ _ (by omega), gup_n _ _ (by omega)], by omega⟩
  · refine g_tabIn C (off := 63) (tgt := 64) dX0_least_1 (by omega) (by omega) (by rw [w1]; rfl) (by decide) ?_
    refine g_aload_n C dX0_least_64 (gr _) rfl ?_
    refine g_callV1z C (mX0_isSample hY (hO) (hR)) (lw_V q948 q950 qs20 q67 q951) ⟨rfl, nd_X0_isSample⟩ (ovX_0 _ _ _ _ _) rfl ⟨by decide, by decide⟩ ⟨Nat.le_of_ble_eq_true rfl, Nat.le_of_ble_eq_true rfl⟩ rfl (Nat.le_of_ble_eq_true rfl) dX0_least_65 ?_
    refine g_ifeq_b C (tgt := 75) dX0_least_68 (by decide) (fun c2 => ?_) (fun c2 => ?_)
    · have hs := c2
      refine g_iconst C dX0_least_75 ?_
      refine g_widen (k' := 2) (n' := 13) (Nat.le_of_ble_eq_true rfl) (Nat.le_of_ble_eq_true rfl) ?_
      exact g_iret C hQ rfl dX0_least_76 ⟨gv (by rw [leastV, if_neg (by omega), if_neg (by omega), if_neg (by omega), if_neg (by omega), if_pos (by omega), hs]; rfl), h, rfl, fun q hq => rfl, Nat.le_refl _⟩
    · have hs := c2
      refine g_iconst C dX0_least_71 ?_
      refine g_goto C (tgt := 76) dX0_least_72 (by decide) ?_
      refine g_widen (k' := 2) (n' := 13) (Nat.le_of_ble_eq_true rfl) (Nat.le_of_ble_eq_true rfl) ?_
      exact g_iret C hQ rfl dX0_least_76 ⟨gv (by rw [leastV, if_neg (by omega), if_neg (by omega), if_neg (by omega), if_neg (by omega), if_pos (by omega), hs]; rfl), h, rfl, fun q hq => rfl, Nat.le_refl _⟩
  · refine g_tabOut C (tgt := 77) dX0_least_1 (by omega) (by omega) (by decide) ?_
    refine g_bipush C dX0_least_77 (by decide +kernel) ?_
    refine g_widen (k' := 2) (n' := 13) (Nat.le_of_ble_eq_true rfl) (Nat.le_of_ble_eq_true rfl) ?_
    exact g_iret C hQ rfl dX0_least_79 ⟨gv (by rw [leastV, if_neg (by omega), if_neg (by omega), if_neg (by omega), if_neg (by omega), if_neg (by omega)]), h, rfl, fun q hq => rfl, Nat.le_refl _⟩
