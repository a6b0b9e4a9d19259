/-! THE REFERENCE: pull, rewind, turn, sample -/
set_option maxRecDepth 100000
theorem rg64 {f : Int → Int → Int} (n : Nat) (h : ∀ k x, 0 ≤ k → k < n → (0 ≤ x ∧ x < 4096) → 0 ≤ f k x ∧ f k x < 4096) : 0 ≤ fo f 0 n ∧ fo f 0 n < 4096 := rg_fo n (fun _ x => 0 ≤ x ∧ x < 4096) (by omega) h
theorem puS_e {t : Int} {F : Nat} {T : MS} (h : 0 < F) : puS t F T 0 = T := by
  cases F with
  | zero => omega
  | succ F => simp [puS]
theorem puS_a {t : Int} {F : Nat} {T : MS} {left : Int} (hF : 0 < F) (hl : 0 < left) (h : T 5 (8 * t + T 4 t - 1) ≤ left) : puS t F T left = puS t (F - 1) (us T 4 t (T 4 t - 1)) (left - T 5 (8 * t + T 4 t - 1)) := by
  cases F with
  | zero => omega
  | succ F =>
    show (if left ≤ 0 then T else _) = _
    rw [if_neg (by omega), if_pos h]
    rfl
theorem puS_b {t : Int} {F : Nat} {T : MS} {left : Int} (hF : 0 < F) (hl : 0 < left) (h : left < T 5 (8 * t + T 4 t - 1)) : puS t F T left = us T 5 (8 * t + T 4 t - 1) (T 5 (8 * t + T 4 t - 1) - left) := by
  cases F with
  | zero => omega
  | succ F =>
    show (if left ≤ 0 then T else _) = _
    rw [if_neg (by omega), if_neg (by omega)]

theorem nd_X5_pull : yX5_pull.cls ≠ "java/lang/invoke/MethodHandle" ∧ yX5_pull.cls ≠ "java/lang/invoke/VarHandle" ∧ (parseMethodDescriptor yX5_pull.desc).map (fun d => d.parameters.length) = some 2 := by decide +kernel
theorem mX5_pull {l : Launch} {D : va_G} {dA : Nat → ClassId} {N0 : Nat} {Y : State → Prop} (hY : gYok N0 Y) {h : gH} {sz m : Nat} {S : MS} {t v : Int} (hT : OkT S) (hrt : -2147483648 ≤ t ∧ t ≤ 2147483647) (hrv : -2147483648 ≤ v ∧ v ≤ 2147483647) : gM l D dA N0 Y yX5_pull cX5_pull 5 (some .int) 2 45 0 0 [.ref m, vI t, vI v] (ovM dA m S h) sz (gP (some (vI (pullV S t v))) (ovM dA m (pullS S t v) h) sz) := by
  refine gM.of hY (by decide +kernel) (Nat.le_of_ble_eq_true rfl) ?_
  intro X hX C hQ
  subst hX
  have C : gC X cX5_pull RX5 "pull" 5 (some .int) D dA N0 Y ({ frames := 2, cells := 0, slots := 0, locals := 45 }) := C
  show G X 0 0 _ _ 0 [some (.ref m), some (vI t), some (vI v), none, none] []
  refine g_iload_n C dX5_pull_0 (gi _) rfl ?_
  refine g_callS1z C (mX5_isSpool hY (by omega)) (lw_S q1476 q1477 q72 q1478) nd_X5_isSpool ⟨by decide, by decide⟩ ⟨Nat.le_of_ble_eq_true rfl, Nat.le_of_ble_eq_true rfl⟩ rfl (Nat.le_of_ble_eq_true rfl) dX5_pull_1 ?_
  refine g_ifne_b C (tgt := 10) dX5_pull_4 (by decide) (fun c1 => ?_) (fun c1 => ?_)
  · have hti := c1
    have hte := inB_t.mp c1
    have hT1 := hT t (by omega) (by omega)
    refine g_iload_n C dX5_pull_10 (gi _) rfl ?_
    refine g_i2lz C dX5_pull_11 (by omega) ?_
    refine g_lconstz C 1 rfl dX5_pull_12 ?_
    refine g_ldc2z C 999 (by decide +kernel) q1489 dX5_pull_13 ?_
    refine g_callS1z C (mX5_in hY (by omega)) (lw_S q1252 q1253 q72 q1254) nd_X5_in ⟨by decide, by decide⟩ ⟨Nat.le_of_ble_eq_true rfl, Nat.le_of_ble_eq_true rfl⟩ rfl (Nat.le_of_ble_eq_true rfl) dX5_pull_16 ?_
    refine g_ifne_b C (tgt := 25) dX5_pull_19 (by decide) (fun c2 => ?_) (fun c2 => ?_)
    · have hvi := c2
      have hve := inB_t.mp c2
      refine g_aload_n C dX5_pull_25 (gr _) rfl ?_
      refine M_g_sizes C q1199 dX5_pull_26 ?_
      refine g_iload_n C dX5_pull_29 (gi _) rfl ?_
      refine M_ld_sizes C (by omega) dX5_pull_30 ?_
      refine g_if_ge C (tgt := 37) dX5_pull_31 (by decide) (by omega) (fun c3 => ?_) (fun c3 => ?_)
      · have hal := allV_rg t hT (by omega) (S 4 t).toNat (Nat.le_refl _)
        have hal : 0 ≤ allV S t ∧ allV S t ≤ 99 * (S 4 t).toNat := hal
        refine g_aload_n C dX5_pull_37 (gr _) rfl ?_
        refine g_iload_n C dX5_pull_38 (gi _) rfl ?_
        refine g_callV1z C (mX5_all hY (hT) (by omega)) (lw_V q1490 q1492 qs56 q72 q1493) ⟨rfl, nd_X5_all⟩ (ovM_0 _ _ _ _) rfl ⟨by decide, by decide⟩ ⟨Nat.le_of_ble_eq_true rfl, Nat.le_of_ble_eq_true rfl⟩ rfl (Nat.le_of_ble_eq_true rfl) dX5_pull_39 ?_
        refine g_iload_n C dX5_pull_42 (gi _) rfl ?_
        refine g_icmp_ge C (tgt := 49) dX5_pull_43 (by decide) (by omega) (fun c4 => ?_) (fun c4 => ?_)
        · refine g_iload_n C dX5_pull_49 (gi _) rfl ?_
          refine g_istore_n1003 C dX5_pull_50 (gi _) rfl ?_
          have lp51_1 : ∀ (fuel : Nat) (T : MS) (left : Int) (F : Nat), (OkT T ∧ 0 ≤ T 4 t ∧ (left ≤ allV T t ∧ 0 ≤ left ∧ left ≤ 999) ∧ left < F ∧ puS t F T left = puS t 1000 S v) → (left).toNat < fuel → G X 0 0 (ovM dA m T h) sz 51 [some (.ref m), some (vI t), some (vI v), some (vI left), none] [] := by
            intro fuel
            induction fuel with
            | zero => intro T left F hI hfu; exact absurd hfu (Nat.not_lt_zero _)
            | succ fuel ih =>
              intro T left F hI hfu
              have ih1 := ih
              obtain ⟨hI1, hI2, hI3, hI4, hI5⟩ := hI
              refine g_iload_n C dX5_pull_51 (gi _) rfl ?_
              refine g_if_le C (tgt := 120) dX5_pull_52 (by decide) (by omega) (fun c5 => ?_) (fun c5 => ?_)
              · have h00 : left = 0 := by omega
                subst h00
                rw [puS_e (by omega)] at hI5
                refine g_aload_n C dX5_pull_120 (gr _) rfl ?_
                refine M_g_sizes C q1199 dX5_pull_121 ?_
                refine g_iload_n C dX5_pull_124 (gi _) rfl ?_
                refine M_ld_sizes C (by omega) dX5_pull_125 ?_
                exact g_iret C hQ rfl dX5_pull_126 ⟨gv (by simp only [pullV, hti, hvi]; rw [if_neg (by decide), if_neg (by decide), if_neg (by omega), if_neg (by omega), ← hI5]), gh (by simp only [pullS]; rw [if_pos ⟨hti, hvi, by omega, by omega⟩, ← hI5]), rfl⟩
              · have hp1 := allV_pos hI1 (by omega) hI2 (by omega)
                have hT2 := hI1 t (by omega) (by omega)
                have hv1 := hT2.2 (T 4 t - 1) (by omega) (by omega)
                rw [show 8 * t + (T 4 t - 1) = 8 * t + T 4 t - 1 by omega] at hv1
                refine g_bipush C dX5_pull_55 (by decide +kernel) ?_
                refine g_iload_n C dX5_pull_57 (gi _) rfl ?_
                refine g_imul C dX5_pull_58 ?_
                refine g_aload_n C dX5_pull_59 (gr _) rfl ?_
                refine M_g_sizes C q1199 dX5_pull_60 ?_
                refine g_iload_n C dX5_pull_63 (gi _) rfl ?_
                refine M_ld_sizes C (by omega) dX5_pull_64 ?_
                refine g_iadd C dX5_pull_65 ?_
                refine g_iconst C dX5_pull_66 ?_
                refine g_isub C dX5_pull_67 ?_
                refine g_istore1004 C dX5_pull_68 (gi _) rfl ?_
                refine g_aload_n C dX5_pull_70 (gr _) rfl ?_
                refine M_g_threads C q1200 dX5_pull_71 ?_
                refine g_iload C dX5_pull_74 (gi _) rfl ?_
                refine M_ld_threads C (by omega) dX5_pull_76 ?_
                refine g_iload_n C dX5_pull_77 (gi _) rfl ?_
                refine g_icmp_gt C (tgt := 104) dX5_pull_78 (by decide) (by omega) (fun c6 => ?_) (fun c6 => ?_)
                · have hset : OkT (us T 5 (8 * t + T 4 t - 1) (T 5 (8 * t + T 4 t - 1) - left)) := by
                    have h0 := OkT_set (t := t) (k := T 4 t - 1) (v := T 5 (8 * t + T 4 t - 1) - left) hI1 (by omega)
                    rw [show 8 * t + (T 4 t - 1) = 8 * t + T 4 t - 1 by omega] at h0
                    exact h0
                  refine g_aload_n C dX5_pull_104 (gr _) rfl ?_
                  refine M_g_threads C q1200 dX5_pull_105 ?_
                  refine g_iload C dX5_pull_108 (gi _) rfl ?_
                  refine g_dup2 C dX5_pull_110 rfl rfl ?_
                  refine M_ld_threads C (by omega) dX5_pull_111 ?_
                  refine g_iload_n C dX5_pull_112 (gi _) rfl ?_
                  refine g_isub C dX5_pull_113 ?_
                  refine M_st_threads C (by omega) dX5_pull_114 ?_
                  refine g_iconst C dX5_pull_115 ?_
                  refine g_istore_n1003 C dX5_pull_116 (gi _) rfl ?_
                  refine g_goto C (tgt := 51) dX5_pull_117 (by decide) ?_
                  refine g_sub (L' := [some _, some _, some _, some _, none]) ⟨rfl, ⟨rfl, ⟨rfl, ⟨rfl, trivial⟩⟩⟩⟩ ?_
                  exact ih1 _ 0 1 (⟨hset, by rw [us_eq, if_neg (by omega)]; exact hI2, ⟨(allV_rg t hset (by omega) _ (Nat.le_refl _)).1, by omega, by omega⟩, by omega, by rw [puS_e (by omega), ← hI5]; exact (puS_b (by omega) (by omega) (by omega)).symm⟩) (by omega)
                · refine g_iload_n C dX5_pull_81 (gi _) rfl ?_
                  refine g_aload_n C dX5_pull_82 (gr _) rfl ?_
                  refine M_g_threads C q1200 dX5_pull_83 ?_
                  refine g_iload C dX5_pull_86 (gi _) rfl ?_
                  refine M_ld_threads C (by omega) dX5_pull_88 ?_
                  refine g_isub C dX5_pull_89 ?_
                  refine g_istore_n1003 C dX5_pull_90 (gi _) rfl ?_
                  refine g_aload_n C dX5_pull_91 (gr _) rfl ?_
                  refine M_g_sizes C q1199 dX5_pull_92 ?_
                  refine g_iload_n C dX5_pull_95 (gi _) rfl ?_
                  refine g_dup2 C dX5_pull_96 rfl rfl ?_
                  refine M_ld_sizes C (by omega) dX5_pull_97 ?_
                  refine g_iconst C dX5_pull_98 ?_
                  refine g_isub C dX5_pull_99 ?_
                  refine M_st_sizes C (by omega) dX5_pull_100 ?_
                  refine g_goto C (tgt := 117) dX5_pull_101 (by decide) ?_
                  refine g_goto C (tgt := 51) dX5_pull_117 (by decide) ?_
                  refine g_sub (L' := [some _, some _, some _, some _, none]) ⟨rfl, ⟨rfl, ⟨rfl, ⟨rfl, trivial⟩⟩⟩⟩ ?_
                  exact ih1 _ _ (F - 1) (⟨OkT_dn hI1 hp1, by rw [us_eq, if_pos ⟨rfl, rfl⟩]; omega, ⟨by rw [allV_dn hp1]; omega, by omega, by omega⟩, by omega, by rw [← hI5]; exact (puS_a (by omega) (by omega) (by omega)).symm⟩) (by omega)
          refine g_sub (L' := [some _, some _, some _, some _, none]) ⟨rfl, ⟨rfl, ⟨rfl, ⟨rfl, trivial⟩⟩⟩⟩ ?_
          exact lp51_1 _ S v 1000 (⟨hT, by omega, by omega, by omega, rfl⟩) (Nat.lt_succ_self _)
        · refine g_bipush C dX5_pull_46 (by decide +kernel) ?_
          exact g_iret C hQ rfl dX5_pull_48 ⟨gv (by first | (simp_all [pullV]; done) | (simp_all [pullV]; omega)), gh (by first | (simp_all [pullS]; done) | (simp_all [pullS]; omega)), rfl⟩
      · refine g_bipush C dX5_pull_34 (by decide +kernel) ?_
        exact g_iret C hQ rfl dX5_pull_36 ⟨gv (by first | (simp_all [pullV]; done) | (simp_all [pullV]; omega)), gh (by first | (simp_all [pullS]; done) | (simp_all [pullS]; omega)), rfl⟩
    · have hvi := c2
      refine g_bipush C dX5_pull_22 (by decide +kernel) ?_
      exact g_iret C hQ rfl dX5_pull_24 ⟨gv (by first | (simp_all [pullV]; done) | (simp_all [pullV]; omega)), gh (by first | (simp_all [pullS]; done) | (simp_all [pullS]; omega)), rfl⟩
  · have hti := c1
    refine g_bipush C dX5_pull_7 (by decide +kernel) ?_
    exact g_iret C hQ rfl dX5_pull_9 ⟨gv (by first | (simp_all [pullV]; done) | (simp_all [pullV]; omega)), gh (by first | (simp_all [pullS]; done) | (simp_all [pullS]; omega)), rfl⟩

theorem nd_X5_rewind : yX5_rewind.cls ≠ "java/lang/invoke/MethodHandle" ∧ yX5_rewind.cls ≠ "java/lang/invoke/VarHandle" ∧ (parseMethodDescriptor yX5_rewind.desc).map (fun d => d.parameters.length) = some 2 := by decide +kernel
theorem mX5_rewind {l : Launch} {D : va_G} {dA : Nat → ClassId} {N0 : Nat} {Y : State → Prop} (hY : gYok N0 Y) {h : gH} {sz m : Nat} {S : MS} {t o : Int} (hT : OkT S) (hrt : -2147483648 ≤ t ∧ t ≤ 2147483647) (hro : -2147483648 ≤ o ∧ o ≤ 2147483647) : gM l D dA N0 Y yX5_rewind cX5_rewind 3 (some .int) 2 45 0 0 [.ref m, vI t, vI o] (ovM dA m S h) sz (gP (some (vI (rewindV S t o))) (ovM dA m (rewindS S t o) h) sz) := by
  refine gM.of hY (by decide +kernel) (Nat.le_of_ble_eq_true rfl) ?_
  intro X hX C hQ
  subst hX
  have C : gC X cX5_rewind RX5 "rewind" 3 (some .int) D dA N0 Y ({ frames := 2, cells := 0, slots := 0, locals := 45 }) := C
  show G X 0 0 _ _ 0 [some (.ref m), some (vI t), some (vI o)] []
  refine g_iload_n C dX5_rewind_0 (gi _) rfl ?_
  refine g_callS1z C (mX5_isSpool hY (by omega)) (lw_S q1476 q1477 q72 q1478) nd_X5_isSpool ⟨by decide, by decide⟩ ⟨Nat.le_of_ble_eq_true rfl, Nat.le_of_ble_eq_true rfl⟩ rfl (Nat.le_of_ble_eq_true rfl) dX5_rewind_1 ?_
  refine g_ifeq_b C (tgt := 19) dX5_rewind_4 (by decide) (fun c1 => ?_) (fun c1 => ?_)
  · refine g_bipush C dX5_rewind_19 (by decide +kernel) ?_
    exact g_iret C hQ rfl dX5_rewind_21 ⟨gv (by first | (simp_all [rewindV]; done) | (simp_all [rewindV]; omega)), gh (by first | (simp_all [rewindS]; done) | (simp_all [rewindS]; omega)), rfl⟩
  · refine g_iload_n C dX5_rewind_7 (gi _) rfl ?_
    refine g_callS1z C (mX5_isSpool hY (by omega)) (lw_S q1476 q1477 q72 q1478) nd_X5_isSpool ⟨by decide, by decide⟩ ⟨Nat.le_of_ble_eq_true rfl, Nat.le_of_ble_eq_true rfl⟩ rfl (Nat.le_of_ble_eq_true rfl) dX5_rewind_8 ?_
    refine g_ifeq_b C (tgt := 19) dX5_rewind_11 (by decide) (fun c2 => ?_) (fun c2 => ?_)
    · refine g_bipush C dX5_rewind_19 (by decide +kernel) ?_
      exact g_iret C hQ rfl dX5_rewind_21 ⟨gv (by first | (simp_all [rewindV]; done) | (simp_all [rewindV]; omega)), gh (by first | (simp_all [rewindS]; done) | (simp_all [rewindS]; omega)), rfl⟩
    · refine g_iload_n C dX5_rewind_14 (gi _) rfl ?_
      refine g_iload_n C dX5_rewind_15 (gi _) rfl ?_
      refine g_icmp_ne C (tgt := 22) dX5_rewind_16 (by decide) (by omega) (fun c3 => ?_) (fun c3 => ?_)
      · have hne : t ≠ o := c3
        have hne2 : o ≠ t := fun z => hne z.symm
        have hti := c1
        have hoi := c2
        have hte := inB_t.mp c1
        have hoe := inB_t.mp c2
        have hT1 := (hT t (by omega) (by omega)).1
        have hT2 := (hT o (by omega) (by omega)).1
        refine g_aload_n C dX5_rewind_22 (gr _) rfl ?_
        refine M_g_sizes C q1199 dX5_rewind_23 ?_
        refine g_iload_n C dX5_rewind_26 (gi _) rfl ?_
        refine M_ld_sizes C (by omega) dX5_rewind_27 ?_
        refine g_if_lt C (tgt := 40) dX5_rewind_28 (by decide) (by omega) (fun c4 => ?_) (fun c4 => ?_)
        · refine g_bipush C dX5_rewind_40 (by decide +kernel) ?_
          exact g_iret C hQ rfl dX5_rewind_42 ⟨gv (by first | (simp_all [rewindV]; done) | (simp_all [rewindV]; omega)), gh (by first | (simp_all [rewindS]; done) | (simp_all [rewindS]; omega)), rfl⟩
        · refine g_aload_n C dX5_rewind_31 (gr _) rfl ?_
          refine M_g_sizes C q1199 dX5_rewind_32 ?_
          refine g_iload_n C dX5_rewind_35 (gi _) rfl ?_
          refine M_ld_sizes C (by omega) dX5_rewind_36 ?_
          refine g_if_ge C (tgt := 43) dX5_rewind_37 (by decide) (by omega) (fun c5 => ?_) (fun c5 => ?_)
          · refine g_aload_n C dX5_rewind_43 (gr _) rfl ?_
            refine M_g_sizes C q1199 dX5_rewind_44 ?_
            refine g_iload_n C dX5_rewind_47 (gi _) rfl ?_
            refine M_ld_sizes C (by omega) dX5_rewind_48 ?_
            refine g_aload_n C dX5_rewind_49 (gr _) rfl ?_
            refine M_g_sizes C q1199 dX5_rewind_50 ?_
            refine g_iload_n C dX5_rewind_53 (gi _) rfl ?_
            refine M_ld_sizes C (by omega) dX5_rewind_54 ?_
            refine g_iadd C dX5_rewind_55 ?_
            refine g_bipush C dX5_rewind_56 (by decide +kernel) ?_
            refine g_icmp_le C (tgt := 64) dX5_rewind_58 (by decide) (by omega) (fun c6 => ?_) (fun c6 => ?_)
            · have lp64_1 : ∀ (fuel : Nat) (T : MS), ((0 ≤ T 4 t ∧ 0 ≤ T 4 o ∧ T 4 t + T 4 o ≤ 8) ∧ T 4 o + T 4 t = S 4 o + S 4 t ∧ rwS t o (T 4 t).toNat T = rwS t o (S 4 t).toNat S) → (T 4 t).toNat < fuel → G X 0 0 (ovM dA m T h) sz 64 [some (.ref m), some (vI t), some (vI o)] [] := by
                intro fuel
                induction fuel with
                | zero => intro T hI hfu; exact absurd hfu (Nat.not_lt_zero _)
                | succ fuel ih =>
                  intro T hI hfu
                  have ih1 := ih
                  obtain ⟨hI1, hI2, hI3⟩ := hI
                  refine g_aload_n C dX5_rewind_64 (gr _) rfl ?_
                  refine M_g_sizes C q1199 dX5_rewind_65 ?_
                  refine g_iload_n C dX5_rewind_68 (gi _) rfl ?_
                  refine M_ld_sizes C (by omega) dX5_rewind_69 ?_
                  refine g_if_le C (tgt := 128) dX5_rewind_70 (by decide) (by omega) (fun c7 => ?_) (fun c7 => ?_)
                  · refine g_aload_n C dX5_rewind_128 (gr _) rfl ?_
                    refine M_g_sizes C q1199 dX5_rewind_129 ?_
                    refine g_iload_n C dX5_rewind_132 (gi _) rfl ?_
                    refine M_ld_sizes C (by omega) dX5_rewind_133 ?_
                    exact g_iret C hQ rfl dX5_rewind_134 ⟨gv (by unfold rewindV; rw [if_neg (by simp [hti, hoi, hne]), if_neg (by omega), if_neg (by omega)]; omega), gh (by unfold rewindS; rw [if_pos ⟨hti, hoi, hne, by omega, by omega, by omega⟩, ← hI3, show (T 4 t).toNat = 0 by omega]; rfl), rfl⟩
                  · refine g_aload_n C dX5_rewind_73 (gr _) rfl ?_
                    refine M_g_sizes C q1199 dX5_rewind_74 ?_
                    refine g_iload_n C dX5_rewind_77 (gi _) rfl ?_
                    refine g_dup2 C dX5_rewind_78 rfl rfl ?_
                    refine M_ld_sizes C (by omega) dX5_rewind_79 ?_
                    refine g_iconst C dX5_rewind_80 ?_
                    refine g_isub C dX5_rewind_81 ?_
                    refine M_st_sizes C (by omega) dX5_rewind_82 ?_
                    refine g_aload_n C dX5_rewind_83 (gr _) rfl ?_
                    refine M_g_threads C q1200 dX5_rewind_84 ?_
                    refine g_bipush C dX5_rewind_87 (by decide +kernel) ?_
                    refine g_iload_n C dX5_rewind_89 (gi _) rfl ?_
                    refine g_imul C dX5_rewind_90 ?_
                    refine g_aload_n C dX5_rewind_91 (gr _) rfl ?_
                    refine M_g_sizes C q1199 dX5_rewind_92 ?_
                    refine g_iload_n C dX5_rewind_95 (gi _) rfl ?_
                    refine M_ld_sizes C (by omega) dX5_rewind_96 ?_
                    refine g_top (b := T 4 o) (by rw [us_eq, if_neg (by omega)]) ?_
                    refine g_iadd C dX5_rewind_97 ?_
                    refine g_aload_n C dX5_rewind_98 (gr _) rfl ?_
                    refine M_g_threads C q1200 dX5_rewind_99 ?_
                    refine g_bipush C dX5_rewind_102 (by decide +kernel) ?_
                    refine g_iload_n C dX5_rewind_104 (gi _) rfl ?_
                    refine g_imul C dX5_rewind_105 ?_
                    refine g_aload_n C dX5_rewind_106 (gr _) rfl ?_
                    refine M_g_sizes C q1199 dX5_rewind_107 ?_
                    refine g_iload_n C dX5_rewind_110 (gi _) rfl ?_
                    refine M_ld_sizes C (by omega) dX5_rewind_111 ?_
                    refine g_top (b := T 4 t - 1) (by simp [us_eq]) ?_
                    refine g_iadd C dX5_rewind_112 ?_
                    refine M_ld_threads C (by omega) dX5_rewind_113 ?_
                    refine g_top (b := T 5 (8 * t + (T 4 t - 1))) (by simp [us_eq]) ?_
                    refine M_st_threads C (by omega) dX5_rewind_114 ?_
                    refine g_aload_n C dX5_rewind_115 (gr _) rfl ?_
                    refine M_g_sizes C q1199 dX5_rewind_116 ?_
                    refine g_iload_n C dX5_rewind_119 (gi _) rfl ?_
                    refine g_dup2 C dX5_rewind_120 rfl rfl ?_
                    refine M_ld_sizes C (by omega) dX5_rewind_121 ?_
                    refine g_top (b := T 4 o) (by rw [us_eq, if_neg (by omega), us_eq, if_neg (by omega)]) ?_
                    refine g_iconst C dX5_rewind_122 ?_
                    refine g_iadd C dX5_rewind_123 ?_
                    refine M_st_sizes C (by omega) dX5_rewind_124 ?_
                    refine g_goto C (tgt := 64) dX5_rewind_125 (by decide) ?_
                    have e1 : (us (us (us T 4 t (T 4 t - 1)) 5 (8 * o + T 4 o) (T 5 (8 * t + (T 4 t - 1)))) 4 o (T 4 o + 1)) 4 t = T 4 t - 1 := by simp [us_eq, hne]
                    have e2 : (us (us (us T 4 t (T 4 t - 1)) 5 (8 * o + T 4 o) (T 5 (8 * t + (T 4 t - 1)))) 4 o (T 4 o + 1)) 4 o = T 4 o + 1 := by simp [us_eq]
                    exact ih1 (us (us (us T 4 t (T 4 t - 1)) 5 (8 * o + T 4 o) (T 5 (8 * t + (T 4 t - 1)))) 4 o (T 4 o + 1)) (⟨by rw [e1, e2]; omega, by rw [e1, e2]; omega, by rw [e1, ← hI3]; obtain ⟨q, hq⟩ : ∃ q : Nat, T 4 t = q + 1 := ⟨(T 4 t - 1).toNat, by omega⟩; rw [show (T 4 t).toNat = q + 1 by omega, show (T 4 t - 1).toNat = q by omega]; rfl⟩) (by rw [e1]; omega)
              exact lp64_1 _ S (⟨by omega, by omega, rfl⟩) (Nat.lt_succ_self _)
            · refine g_bipush C dX5_rewind_61 (by decide +kernel) ?_
              exact g_iret C hQ rfl dX5_rewind_63 ⟨gv (by first | (simp_all [rewindV]; done) | (simp_all [rewindV]; omega)), gh (by first | (simp_all [rewindS]; done) | (simp_all [rewindS]; omega)), rfl⟩
          · refine g_bipush C dX5_rewind_40 (by decide +kernel) ?_
            exact g_iret C hQ rfl dX5_rewind_42 ⟨gv (by first | (simp_all [rewindV]; done) | (simp_all [rewindV]; omega)), gh (by first | (simp_all [rewindS]; done) | (simp_all [rewindS]; omega)), rfl⟩
      · refine g_bipush C dX5_rewind_19 (by decide +kernel) ?_
        exact g_iret C hQ rfl dX5_rewind_21 ⟨gv (by first | (simp_all [rewindV]; done) | (simp_all [rewindV]; omega)), gh (by first | (simp_all [rewindS]; done) | (simp_all [rewindS]; omega)), rfl⟩

theorem nd_X5_turn : yX5_turn.cls ≠ "java/lang/invoke/MethodHandle" ∧ yX5_turn.cls ≠ "java/lang/invoke/VarHandle" ∧ (parseMethodDescriptor yX5_turn.desc).map (fun d => d.parameters.length) = some 0 := by decide +kernel
theorem mX5_turn {l : Launch} {D : va_G} {dA : Nat → ClassId} {N0 : Nat} {Y : State → Prop} (hY : gYok N0 Y) {h : gH} {sz m : Nat} {S : MS} (hO : OkD (S 0)) (hU : 0 ≤ S 10 2 ∧ S 10 2 ≤ 8) : gM l D dA N0 Y yX5_turn cX5_turn 3 (some .int) 2 44 0 0 [.ref m] (ovM dA m S h) sz (gP (some (vI (turnV S))) (ovM dA m (turnS S) h) sz) := by
  refine gM.of hY (by decide +kernel) (Nat.le_of_ble_eq_true rfl) ?_
  intro X hX C hQ
  subst hX
  have C : gC X cX5_turn RX5 "turn" 3 (some .int) D dA N0 Y ({ frames := 2, cells := 0, slots := 0, locals := 44 }) := C
  show G X 0 0 _ _ 0 [some (.ref m), none, none] []
  have hn := hO.1
  have hnow : ∀ j : Int, j < 58 → kpS S 0 j = S 0 j := fun j hj => kpS_now hU.1 hj
  refine g_aload_n C dX5_turn_0 (gr _) rfl ?_
  refine g_callV0z C (mX5_keepPast hY (by omega)) (lw_V q1375 q1377 qs46 q72 q1378) ⟨rfl, nd_X5_keepPast⟩ (ovM_0 _ _ _ _) rfl ⟨by decide, by decide⟩ ⟨Nat.le_of_ble_eq_true rfl, Nat.le_of_ble_eq_true rfl⟩ rfl (Nat.le_of_ble_eq_true rfl) dX5_turn_1 ?_
  refine g_iconst C dX5_turn_4 ?_
  refine g_istore_n1001 C dX5_turn_5 (gi _) rfl ?_
  have lp6_1 : ∀ (fuel : Nat) (k : Int), (0 ≤ k ∧ k ≤ 6) → (6 - k).toNat < fuel → G X 0 0 (ovM dA m (t9K (kpS S) k) h) sz 6 [some (.ref m), some (vI k), none] [] := by
    intro fuel
    induction fuel with
    | zero => intro k hI hfu; exact absurd hfu (Nat.not_lt_zero _)
    | succ fuel ih =>
      intro k hI hfu
      have ih1 := ih
      refine g_iload_n C dX5_turn_6 (gi _) rfl ?_
      refine g_bipush C dX5_turn_7 (by decide +kernel) ?_
      refine g_icmp_ge C (tgt := 75) dX5_turn_9 (by decide) (by omega) (fun c1 => ?_) (fun c1 => ?_)
      · refine g_iconst C dX5_turn_75 ?_
        refine g_istore_n1001 C dX5_turn_76 (gi _) rfl ?_
        have lp77_2 : ∀ (fuel : Nat) (k2 : Int), (0 ≤ k2 ∧ k2 ≤ 6) → (6 - k2).toNat < fuel → G X 0 0 (ovM dA m (t16K (t9K (kpS S) 6) k2) h) sz 77 [some (.ref m), some (vI k2), none] [] := by
          intro fuel
          induction fuel with
          | zero => intro k2 hI hfu; exact absurd hfu (Nat.not_lt_zero _)
          | succ fuel ih =>
            intro k2 hI hfu
            have ih2 := ih
            refine g_iload_n C dX5_turn_77 (gi _) rfl ?_
            refine g_bipush C dX5_turn_78 (by decide +kernel) ?_
            refine g_icmp_ge C (tgt := 104) dX5_turn_80 (by decide) (by omega) (fun c2 => ?_) (fun c2 => ?_)
            · refine g_aload_n C dX5_turn_104 (gr _) rfl ?_
              refine g_iconst C dX5_turn_105 ?_
              refine g_iconst C dX5_turn_106 ?_
              refine g_callV0z C (mX5_swap hY (by omega)) (lw_V q1428 q1430 qs53 q72 q1431) ⟨rfl, nd_X5_swap⟩ (ovM_0 _ _ _ _) rfl ⟨by decide, by decide⟩ ⟨Nat.le_of_ble_eq_true rfl, Nat.le_of_ble_eq_true rfl⟩ rfl (Nat.le_of_ble_eq_true rfl) dX5_turn_107 ?_
              refine g_aload_n C dX5_turn_110 (gr _) rfl ?_
              refine g_iconst C dX5_turn_111 ?_
              refine g_iconst C dX5_turn_112 ?_
              refine g_callV0z C (mX5_swap hY (by omega)) (lw_V q1428 q1430 qs53 q72 q1431) ⟨rfl, nd_X5_swap⟩ (ovM_0 _ _ _ _) rfl ⟨by decide, by decide⟩ ⟨Nat.le_of_ble_eq_true rfl, Nat.le_of_ble_eq_true rfl⟩ rfl (Nat.le_of_ble_eq_true rfl) dX5_turn_113 ?_
              refine g_iconst C dX5_turn_116 ?_
              refine g_istore_n1001 C dX5_turn_117 (gi _) rfl ?_
              have lp118_3 : ∀ (fuel : Nat) (k3 : Int), (0 ≤ k3 ∧ k3 ≤ 12) → (12 - k3).toNat < fuel → G X 0 0 (ovM dA m (swK (swapS (swapS (t16K (t9K (kpS S) 6) 6) 0 1) 2 3) k3) h) sz 118 [some (.ref m), some (vI k3), none] [] := by
                intro fuel
                induction fuel with
                | zero => intro k3 hI hfu; exact absurd hfu (Nat.not_lt_zero _)
                | succ fuel ih =>
                  intro k3 hI hfu
                  have ih3 := ih
                  refine g_iload_n C dX5_turn_118 (gi _) rfl ?_
                  refine g_bipush C dX5_turn_119 (by decide +kernel) ?_
                  refine g_icmp_ge C (tgt := 153) dX5_turn_121 (by decide) (by omega) (fun c3 => ?_) (fun c3 => ?_)
                  · refine g_aload_n C dX5_turn_153 (gr _) rfl ?_
                    refine M_g_row C q1191 dX5_turn_154 ?_
                    refine g_iconst C dX5_turn_157 ?_
                    refine M_ld_row C (by omega) dX5_turn_158 ?_
                    refine g_top (b := turnV S) (by rw [show k3 = 12 by omega]; simp [turnV, swK, swapS, us_eq, t16K, t9K, hnow]) ?_
                    exact g_iret C hQ rfl dX5_turn_159 ⟨rfl, gh (by rw [show k3 = 12 by omega]; rfl), rfl⟩
                  · refine g_aload_n C dX5_turn_124 (gr _) rfl ?_
                    refine g_iconst C dX5_turn_125 ?_
                    refine g_iload_n C dX5_turn_126 (gi _) rfl ?_
                    refine g_iadd C dX5_turn_127 ?_
                    refine g_bipush C dX5_turn_128 (by decide +kernel) ?_
                    refine g_iload_n C dX5_turn_130 (gi _) rfl ?_
                    refine g_iadd C dX5_turn_131 ?_
                    refine g_callV0z C (mX5_swap hY (by omega)) (lw_V q1428 q1430 qs53 q72 q1431) ⟨rfl, nd_X5_swap⟩ (ovM_0 _ _ _ _) rfl ⟨by decide, by decide⟩ ⟨Nat.le_of_ble_eq_true rfl, Nat.le_of_ble_eq_true rfl⟩ rfl (Nat.le_of_ble_eq_true rfl) dX5_turn_132 ?_
                    refine g_aload_n C dX5_turn_135 (gr _) rfl ?_
                    refine g_bipush C dX5_turn_136 (by decide +kernel) ?_
                    refine g_iload_n C dX5_turn_138 (gi _) rfl ?_
                    refine g_iadd C dX5_turn_139 ?_
                    refine g_bipush C dX5_turn_140 (by decide +kernel) ?_
                    refine g_iload_n C dX5_turn_142 (gi _) rfl ?_
                    refine g_iadd C dX5_turn_143 ?_
                    refine g_callV0z C (mX5_swap hY (by omega)) (lw_V q1428 q1430 qs53 q72 q1431) ⟨rfl, nd_X5_swap⟩ (ovM_0 _ _ _ _) rfl ⟨by decide, by decide⟩ ⟨Nat.le_of_ble_eq_true rfl, Nat.le_of_ble_eq_true rfl⟩ rfl (Nat.le_of_ble_eq_true rfl) dX5_turn_144 ?_
                    refine g_iinc1001 C dX5_turn_147 rfl ?_
                    refine g_goto C (tgt := 118) dX5_turn_150 (by decide) ?_
                    refine g_hE (gh (swK_s _ k3 (by omega))) ?_
                    refine g_sub (L' := [some _, some _, none]) ⟨rfl, ⟨rfl, trivial⟩⟩ ?_
                    exact ih3 _ (by omega) (by omega)
              refine g_hE (gh (T := swK (swapS (swapS (t16K (t9K (kpS S) 6) 6) 0 1) 2 3) 0) (by rw [show k2 = 6 by omega]; exact (swK_0 _).symm)) ?_
              refine g_sub (L' := [some _, some _, none]) ⟨rfl, ⟨rfl, trivial⟩⟩ ?_
              exact lp118_3 _ 0 (by omega) (Nat.lt_succ_self _)
            · refine g_aload_n C dX5_turn_83 (gr _) rfl ?_
              refine M_g_row C q1191 dX5_turn_84 ?_
              refine g_bipush C dX5_turn_87 (by decide +kernel) ?_
              refine g_iload_n C dX5_turn_89 (gi _) rfl ?_
              refine g_iadd C dX5_turn_90 ?_
              refine g_aload_n C dX5_turn_91 (gr _) rfl ?_
              refine M_g_ties C q1208 dX5_turn_92 ?_
              refine g_iload_n C dX5_turn_95 (gi _) rfl ?_
              refine M_ld_ties C (by omega) dX5_turn_96 ?_
              refine g_top (b := (t9K (kpS S) 6) 9 k2) (by rw [t16K_n _ _ (by omega)]) ?_
              refine M_st_row C (by omega) dX5_turn_97 ?_
              refine g_iinc1001 C dX5_turn_98 rfl ?_
              refine g_goto C (tgt := 77) dX5_turn_101 (by decide) ?_
              refine g_hE (gh (t16K_s (t9K (kpS S) 6) k2 (by omega))) ?_
              refine g_sub (L' := [some _, some _, none]) ⟨rfl, ⟨rfl, trivial⟩⟩ ?_
              exact ih2 _ (by omega) (by omega)
        refine g_hE (gh (T := t16K (t9K (kpS S) 6) 0) (by rw [show k = 6 by omega]; exact (t16K_0 _).symm)) ?_
        refine g_sub (L' := [some _, some _, none]) ⟨rfl, ⟨rfl, trivial⟩⟩ ?_
        exact lp77_2 _ 0 (by omega) (Nat.lt_succ_self _)
      · refine g_aload_n C dX5_turn_12 (gr _) rfl ?_
        refine M_g_ties C q1208 dX5_turn_13 ?_
        refine g_iload_n C dX5_turn_16 (gi _) rfl ?_
        refine g_iconst C dX5_turn_17 ?_
        refine M_st_ties C (by omega) dX5_turn_18 ?_
        refine g_iconst C dX5_turn_19 ?_
        refine g_istore_n1002 C dX5_turn_20 (gi _) rfl ?_
        have lp21_4 : ∀ (fuel : Nat) (j : Int), ((0 ≤ j ∧ j ≤ S 0 3) ∧ 0 ≤ fo (t9F (kpS S) k) 0 j.toNat ∧ fo (t9F (kpS S) k) 0 j.toNat < 4096) → (S 0 3 - j).toNat < fuel → G X 0 0 (ovM dA m (us (t9K (kpS S) k) 9 k (fo (t9F (kpS S) k) 0 j.toNat)) h) sz 21 [some (.ref m), some (vI k), some (vI j)] [] := by
          intro fuel
          induction fuel with
          | zero => intro j hI hfu; exact absurd hfu (Nat.not_lt_zero _)
          | succ fuel ih =>
            intro j hI hfu
            have ih4 := ih
            obtain ⟨hJ1, hJ2⟩ := hI
            refine g_iload_n C dX5_turn_21 (gi _) rfl ?_
            refine g_aload_n C dX5_turn_22 (gr _) rfl ?_
            refine M_g_row C q1191 dX5_turn_23 ?_
            refine g_iconst C dX5_turn_26 ?_
            refine M_ld_row C (by omega) dX5_turn_27 ?_
            refine g_top (b := S 0 3) (by rw [us_n _ _ _ (by omega), t9K_n _ _ (by omega), hnow 3 (by omega)]) ?_
            refine g_icmp_ge C (tgt := 69) dX5_turn_28 (by decide) (by omega) (fun c4 => ?_) (fun c4 => ?_)
            · refine g_iinc1001 C dX5_turn_69 rfl ?_
              refine g_goto C (tgt := 6) dX5_turn_72 (by decide) ?_
              refine g_hE (gh (T := t9K (kpS S) (k + 1)) (by rw [show j = kpS S 0 3 by rw [hnow 3 (by omega)]; omega]; exact t9K_s (kpS S) k (by omega))) ?_
              refine g_sub (L' := [some _, some _, none]) ⟨rfl, ⟨rfl, trivial⟩⟩ ?_
              exact ih1 _ (by omega) (by omega)
            · have htj := hO.tied j (by omega)
              have hsj := sh12 (i := j) (by omega)
              rw [← hnow (16 + j) (by omega)] at htj
              refine g_aload_n C dX5_turn_31 (gr _) rfl ?_
              refine M_g_ties C q1208 dX5_turn_32 ?_
              refine g_iload_n C dX5_turn_35 (gi _) rfl ?_
              refine g_dup2 C dX5_turn_36 rfl rfl ?_
              refine M_ld_ties C (by omega) dX5_turn_37 ?_
              refine g_top (b := fo (t9F (kpS S) k) 0 j.toNat) (by simp [us_eq]) ?_
              refine g_aload_n C dX5_turn_38 (gr _) rfl ?_
              refine M_g_row C q1191 dX5_turn_39 ?_
              refine g_bipush C dX5_turn_42 (by decide +kernel) ?_
              refine g_iload_n C dX5_turn_44 (gi _) rfl ?_
              refine g_iadd C dX5_turn_45 ?_
              refine M_ld_row C (by omega) dX5_turn_46 ?_
              refine g_top (b := kpS S 0 (16 + j)) (by rw [us_n _ _ _ (by omega), t9K_n _ _ (by omega)]) ?_
              refine g_iload_n C dX5_turn_47 (gi _) rfl ?_
              refine g_callS1z C (mX5_has hY (by omega)) (lw_S q1329 q1330 q72 q1331) nd_X5_has ⟨by decide, by decide⟩ ⟨Nat.le_of_ble_eq_true rfl, Nat.le_of_ble_eq_true rfl⟩ rfl (Nat.le_of_ble_eq_true rfl) dX5_turn_48 ?_
              refine g_ifeq_b C (tgt := 60) dX5_turn_51 (by decide) (fun c5 => ?_) (fun c5 => ?_)
              · have hb5 := c5
                refine g_iconst C dX5_turn_60 ?_
                refine g_ior C dX5_turn_61 (zI_or (by omega)) ?_
                refine M_st_ties C (by omega) dX5_turn_62 ?_
                refine g_iinc1002 C dX5_turn_63 rfl ?_
                refine g_goto C (tgt := 21) dX5_turn_66 (by decide) ?_
                refine g_hE (gh (T := us (t9K (kpS S) k) 9 k (fo (t9F (kpS S) k) 0 (j + 1).toNat)) (by rw [us_us, fo_s hJ1.1, t9F, hb5]; rfl)) ?_
                exact ih4 (j + 1) (⟨by omega, by rw [fo_s hJ1.1, t9F]; rw [if_neg (by rw [hb5]; decide)]; exact or12 (by omega)⟩) (by omega)
              · have hb5 := c5
                refine g_iconst C dX5_turn_54 ?_
                refine g_iload_n C dX5_turn_55 (gi _) rfl ?_
                refine g_ishl C dX5_turn_56 (zI_shl (by omega)) ?_
                refine g_goto C (tgt := 61) dX5_turn_57 (by decide) ?_
                refine g_ior C dX5_turn_61 (zI_or (by omega)) ?_
                refine M_st_ties C (by omega) dX5_turn_62 ?_
                refine g_iinc1002 C dX5_turn_63 rfl ?_
                refine g_goto C (tgt := 21) dX5_turn_66 (by decide) ?_
                refine g_hE (gh (T := us (t9K (kpS S) k) 9 k (fo (t9F (kpS S) k) 0 (j + 1).toNat)) (by rw [us_us, fo_s hJ1.1, t9F, hb5]; rfl)) ?_
                exact ih4 (j + 1) (⟨by omega, by rw [fo_s hJ1.1, t9F]; rw [if_pos hb5]; exact or12 (by omega)⟩) (by omega)
        exact lp21_4 _ 0 (⟨by omega, by show (0 : Int) ≤ 0 ∧ (0 : Int) < 4096; omega⟩) (Nat.lt_succ_self _)
  refine g_hE (gh ((t9K_0 (kpS S)).symm)) ?_
  refine g_sub (L' := [some _, some _, none]) ⟨rfl, ⟨rfl, trivial⟩⟩ ?_
  exact lp6_1 _ _ (by omega) (Nat.lt_succ_self _)

theorem nd_X5_sample : yX5_sample.cls ≠ "java/lang/invoke/MethodHandle" ∧ yX5_sample.cls ≠ "java/lang/invoke/VarHandle" ∧ (parseMethodDescriptor yX5_sample.desc).map (fun d => d.parameters.length) = some 0 := by decide +kernel
theorem mX5_sample {l : Launch} {D : va_G} {dA : Nat → ClassId} {N0 : Nat} {Y : State → Prop} (hY : gYok N0 Y) {h : gH} {sz m : Nat} {S : MS} (hR : OkR S) (hc : 0 < S 10 0 → 0 < S 10 1) (hU : 0 ≤ S 10 2 ∧ S 10 2 ≤ 8) : gM l D dA N0 Y yX5_sample cX5_sample 5 (some .int) 4 91 0 0 [.ref m] (ovM dA m S h) sz (gP (some (vI (sampleV S))) (ovM dA m (sampleS S) h) sz) := by
  refine gM.of hY (by decide +kernel) (Nat.le_of_ble_eq_true rfl) ?_
  intro X hX C hQ
  subst hX
  have C : gC X cX5_sample RX5 "sample" 5 (some .int) D dA N0 Y ({ frames := 4, cells := 0, slots := 0, locals := 91 }) := C
  show G X 0 0 _ _ 0 [some (.ref m), none, none, none, none] []
  have hR0 := hR
  obtain ⟨hR1, hR2, hR3⟩ := hR0
  have hl1 := lsV_rg (colV S) (S 10 1) (by omega) (S 10 1).toNat
  have hl2 := lsV_rg (S 1) (S 10 0) (by omega) (S 10 0).toNat
  have hl1 : 0 ≤ lsV (colV S) (S 10 1) ∧ lsV (colV S) (S 10 1) ≤ S 10 1 + 1 := hl1
  have hl2 : 0 ≤ lsV (S 1) (S 10 0) ∧ lsV (S 1) (S 10 0) ≤ S 10 0 + 1 := hl2
  refine g_aload_n C dX5_sample_0 (gr _) rfl ?_
  refine g_callV1z C (mX5_leastShafts hY (hR)) (lw_V q1404 q1406 qs48 q72 q1407) ⟨rfl, nd_X5_leastShafts⟩ (ovM_0 _ _ _ _) rfl ⟨by decide, by decide⟩ ⟨Nat.le_of_ble_eq_true rfl, Nat.le_of_ble_eq_true rfl⟩ rfl (Nat.le_of_ble_eq_true rfl) dX5_sample_1 ?_
  refine g_istore_n1001 C dX5_sample_4 (gi _) rfl ?_
  refine g_aload_n C dX5_sample_5 (gr _) rfl ?_
  refine g_callV1z C (mX5_leastTreadles hY (hR)) (lw_V q1416 q1418 qs51 q72 q1419) ⟨rfl, nd_X5_leastTreadles⟩ (ovM_0 _ _ _ _) rfl ⟨by decide, by decide⟩ ⟨Nat.le_of_ble_eq_true rfl, Nat.le_of_ble_eq_true rfl⟩ rfl (Nat.le_of_ble_eq_true rfl) dX5_sample_6 ?_
  refine g_istore_n1002 C dX5_sample_9 (gi _) rfl ?_
  refine g_aload_n C dX5_sample_10 (gr _) rfl ?_
  refine M_g_rows C q1193 dX5_sample_11 ?_
  refine g_if_eq C (tgt := 29) dX5_sample_14 (by decide) (by omega) (fun c1 => ?_) (fun c1 => ?_)
  · refine g_bipush C dX5_sample_29 (by decide +kernel) ?_
    exact g_iret C hQ rfl dX5_sample_31 ⟨gv (by have hno : sampleOk S = false := (by simp [sampleOk]; omega); simp [sampleV, hno]), gh (by have hno : sampleOk S = false := (by simp [sampleOk]; omega); simp [sampleS, hno]), rfl⟩
  · refine g_iload_n C dX5_sample_17 (gi _) rfl ?_
    refine g_bipush C dX5_sample_18 (by decide +kernel) ?_
    refine g_icmp_gt C (tgt := 29) dX5_sample_20 (by decide) (by omega) (fun c2 => ?_) (fun c2 => ?_)
    · refine g_bipush C dX5_sample_29 (by decide +kernel) ?_
      exact g_iret C hQ rfl dX5_sample_31 ⟨gv (by have hno : sampleOk S = false := (by simp [sampleOk]; omega); simp [sampleV, hno]), gh (by have hno : sampleOk S = false := (by simp [sampleOk]; omega); simp [sampleS, hno]), rfl⟩
    · refine g_iload_n C dX5_sample_23 (gi _) rfl ?_
      refine g_bipush C dX5_sample_24 (by decide +kernel) ?_
      refine g_icmp_le C (tgt := 32) dX5_sample_26 (by decide) (by omega) (fun c3 => ?_) (fun c3 => ?_)
      · have hok : sampleOk S = true := by simp [sampleOk]; omega
        have hp1 := lsV_pos (u := colV S) (many := S 10 1) (by omega)
        have hp2 := lsV_pos (u := S 1) (many := S 10 0) (by omega)
        have k1 : kpS S 1 = S 1 := kpS_n (by omega) (by omega)
        have k2 : kpS S 10 0 = S 10 0 := by rw [kpS_10, if_neg (by omega)]
        have k3 : kpS S 10 1 = S 10 1 := by rw [kpS_10, if_neg (by omega)]
        have hA : smOk S (anewS (kpS S) (S 10 1) (S 10 0) (lsV (colV S) (S 10 1)) (lsV (S 1) (S 10 0))) := by
          refine ⟨⟨by rw [anewS_n (by omega)]; exact k1, by rw [anewS_n (by omega)]; exact k2, by rw [anewS_n (by omega)]; exact k3⟩, fun j j0 j1 => ?_⟩
          rw [anewS_0]
          repeat rw [if_neg (by omega)]
          rw [if_pos (by omega)]
          split
          · rw [show 16 + j - 16 = j by omega]
            have q1 := Int.emod_nonneg j (show lsV (colV S) (S 10 1) ≠ 0 by omega)
            have q2 := Int.emod_lt_of_pos j (show 0 < lsV (colV S) (S 10 1) by omega)
            have := sh12 (i := j % lsV (colV S) (S 10 1)) (by omega)
            omega
          · omega
        refine g_aload_n C dX5_sample_32 (gr _) rfl ?_
        refine g_callV0z C (mX5_keepPast hY (by omega)) (lw_V q1375 q1377 qs46 q72 q1378) ⟨rfl, nd_X5_keepPast⟩ (ovM_0 _ _ _ _) rfl ⟨by decide, by decide⟩ ⟨Nat.le_of_ble_eq_true rfl, Nat.le_of_ble_eq_true rfl⟩ rfl (Nat.le_of_ble_eq_true rfl) dX5_sample_33 ?_
        refine g_aload_n C dX5_sample_36 (gr _) rfl ?_
        refine g_aload_n C dX5_sample_37 (gr _) rfl ?_
        refine M_g_columns C q1194 dX5_sample_38 ?_
        refine g_top (b := S 10 1) (by rw [k3]) ?_
        refine g_aload_n C dX5_sample_41 (gr _) rfl ?_
        refine M_g_rows C q1193 dX5_sample_42 ?_
        refine g_top (b := S 10 0) (by rw [k2]) ?_
        refine g_iload_n C dX5_sample_45 (gi _) rfl ?_
        refine g_iload_n C dX5_sample_46 (gi _) rfl ?_
        refine g_callV0z C (mX5_anew hY (by omega)) (lw_V q1187 q1189 qs27 q72 q1190) ⟨rfl, nd_X5_anew⟩ (ovM_0 _ _ _ _) rfl ⟨by decide, by decide⟩ ⟨Nat.le_of_ble_eq_true rfl, Nat.le_of_ble_eq_true rfl⟩ rfl (Nat.le_of_ble_eq_true rfl) dX5_sample_47 ?_
        refine g_iconst C dX5_sample_50 ?_
        refine g_istore_n1003 C dX5_sample_51 (gi _) rfl ?_
        have lp52_1 : ∀ (fuel : Nat) (T : MS) (k : Int), ((0 ≤ k ∧ k ≤ 6) ∧ T = zK (anewS (kpS S) (S 10 1) (S 10 0) (lsV (colV S) (S 10 1)) (lsV (S 1) (S 10 0))) k ∧ smOk S T) → (6 - k).toNat < fuel → G X 0 0 (ovM dA m T h) sz 52 [some (.ref m), some (vI (lsV (colV S) (S 10 1))), some (vI (lsV (S 1) (S 10 0))), some (vI k), none] [] := by
          intro fuel
          induction fuel with
          | zero => intro T k hI hfu; exact absurd hfu (Nat.not_lt_zero _)
          | succ fuel ih =>
            intro T k hI hfu
            have ih1 := ih
            obtain ⟨hI1, hI2, hm⟩ := hI
            refine g_iload_n C dX5_sample_52 (gi _) rfl ?_
            refine g_bipush C dX5_sample_53 (by decide +kernel) ?_
            refine g_icmp_ge C (tgt := 74) dX5_sample_55 (by decide) (by omega) (fun c4 => ?_) (fun c4 => ?_)
            · refine g_iconst C dX5_sample_74 ?_
              refine g_istore_n1003 C dX5_sample_75 (gi _) rfl ?_
              have lp76_2 : ∀ (fuel : Nat) (T : MS) (i : Int), ((0 ≤ i ∧ i ≤ S 10 1) ∧ T = onK (shN S) (zK (anewS (kpS S) (S 10 1) (S 10 0) (lsV (colV S) (S 10 1)) (lsV (S 1) (S 10 0))) 6) i ∧ smOk S T) → (S 10 1 - i).toNat < fuel → G X 0 0 (ovM dA m T h) sz 76 [some (.ref m), some (vI (lsV (colV S) (S 10 1))), some (vI (lsV (S 1) (S 10 0))), some (vI i), none] [] := by
                intro fuel
                induction fuel with
                | zero => intro T i hI hfu; exact absurd hfu (Nat.not_lt_zero _)
                | succ fuel ih =>
                  intro T i hI hfu
                  have ih2 := ih
                  obtain ⟨hI1, hI2, hm⟩ := hI
                  refine g_iload_n C dX5_sample_76 (gi _) rfl ?_
                  refine g_aload_n C dX5_sample_77 (gr _) rfl ?_
                  refine M_g_columns C q1194 dX5_sample_78 ?_
                  refine g_top (b := S 10 1) (by exact hm.1.2.2) ?_
                  refine g_icmp_ge C (tgt := 103) dX5_sample_81 (by decide) (by omega) (fun c5 => ?_) (fun c5 => ?_)
                  · refine g_iconst C dX5_sample_103 ?_
                    refine g_istore_n1003 C dX5_sample_104 (gi _) rfl ?_
                    have lp105_3 : ∀ (fuel : Nat) (T : MS) (r : Int), ((0 ≤ r ∧ r ≤ S 10 0) ∧ T = fo (smR S) (smB S) r.toNat ∧ smOk S T) → (S 10 0 - r).toNat < fuel → G X 0 0 (ovM dA m T h) sz 105 [some (.ref m), some (vI (lsV (colV S) (S 10 1))), some (vI (lsV (S 1) (S 10 0))), some (vI r), none] [] := by
                      intro fuel
                      induction fuel with
                      | zero => intro T r hI hfu; exact absurd hfu (Nat.not_lt_zero _)
                      | succ fuel ih =>
                        intro T r hI hfu
                        have ih3 := ih
                        obtain ⟨hI1, hI2, hm⟩ := hI
                        have hm0 := hm
                        refine g_iload_n C dX5_sample_105 (gi _) rfl ?_
                        refine g_aload_n C dX5_sample_106 (gr _) rfl ?_
                        refine M_g_rows C q1193 dX5_sample_107 ?_
                        refine g_top (b := S 10 0) (by exact hm.1.2.1) ?_
                        refine g_icmp_ge C (tgt := 193) dX5_sample_110 (by decide) (by omega) (fun c6 => ?_) (fun c6 => ?_)
                        · refine g_iload_n C dX5_sample_193 (gi _) rfl ?_
                          exact g_iret C hQ rfl dX5_sample_194 ⟨gv (by simp [sampleV, hok]), gh (by unfold sampleS; rw [if_pos hok, hI2, show r = S 10 0 by omega]), rfl⟩
                        · have htr := numV_rg (S 1) (S 10 0) r (by omega)
                          have htr2 := numV_lt (u := S 1) (many := S 10 0) (i := r) (by omega)
                          have htr3 : 0 ≤ trN S r ∧ trN S r < 6 := by unfold trN; omega
                          refine g_aload_n C dX5_sample_113 (gr _) rfl ?_
                          refine M_g_row C q1191 dX5_sample_114 ?_
                          refine g_bipush C dX5_sample_117 (by decide +kernel) ?_
                          refine g_iload_n C dX5_sample_119 (gi _) rfl ?_
                          refine g_iadd C dX5_sample_120 ?_
                          refine g_aload_n C dX5_sample_121 (gr _) rfl ?_
                          refine g_iload_n C dX5_sample_122 (gi _) rfl ?_
                          refine g_callV1z C (mX5_treadleOf hY (hR.c hm.1.1 hm.1.2.1 hm.1.2.2) (by rw [hm.1.2.1]; omega)) (lw_V q1420 q1422 qs52 q72 q1423) ⟨rfl, nd_X5_treadleOf⟩ (ovM_0 _ _ _ _) rfl ⟨by decide, by decide⟩ ⟨Nat.le_of_ble_eq_true rfl, Nat.le_of_ble_eq_true rfl⟩ rfl (Nat.le_of_ble_eq_true rfl) dX5_sample_123 ?_
                          refine g_top (b := trN S r) (by rw [hm.1.1, hm.1.2.1]; rfl) ?_
                          refine M_st_row C (by omega) dX5_sample_126 ?_
                          refine g_iconst C dX5_sample_127 ?_
                          refine g_istore1004 C dX5_sample_128 (gi _) rfl ?_
                          have lp130_4 : ∀ (fuel : Nat) (U : MS) (i2 : Int), ((0 ≤ i2 ∧ i2 ≤ S 10 1) ∧ U = fo (smI S r) (us T 0 (22 + r) (trN S r)) i2.toNat ∧ smOk S U) → (S 10 1 - i2).toNat < fuel → G X 0 0 (ovM dA m U h) sz 130 [some (.ref m), some (vI (lsV (colV S) (S 10 1))), some (vI (lsV (S 1) (S 10 0))), some (vI r), some (vI i2)] [] := by
                            intro fuel
                            induction fuel with
                            | zero => intro U i2 hI hfu; exact absurd hfu (Nat.not_lt_zero _)
                            | succ fuel ih =>
                              intro U i2 hI hfu
                              have ih4 := ih
                              obtain ⟨hJ1, hJ2, hm⟩ := hI
                              have hcr := hR3 r (by omega) (by omega)
                              refine g_iload C dX5_sample_130 (gi _) rfl ?_
                              refine g_aload_n C dX5_sample_132 (gr _) rfl ?_
                              refine M_g_columns C q1194 dX5_sample_133 ?_
                              refine g_top (b := S 10 1) (by exact hm.1.2.2) ?_
                              refine g_icmp_ge C (tgt := 187) dX5_sample_136 (by decide) (by omega) (fun c7 => ?_) (fun c7 => ?_)
                              · refine g_iinc1003 C dX5_sample_187 rfl ?_
                                refine g_goto C (tgt := 105) dX5_sample_190 (by decide) ?_
                                refine g_sub (L' := [some _, some _, some _, some _, none]) ⟨rfl, ⟨rfl, ⟨rfl, ⟨rfl, trivial⟩⟩⟩⟩ ?_
                                exact ih3 _ _ (⟨by omega, by rw [fo_s hI1.1, ← hI2, hJ2, show i2 = S 10 1 by omega]; rfl, hm⟩) (by omega)
                              · have htb := hm.2 (trN S r) (by omega) (by omega)
                                have hsh := numV_rg (colV S) (S 10 1) i2 (by omega)
                                have hsh2 := numV_lt (u := colV S) (many := S 10 1) (i := i2) (by omega)
                                have hsh3 : 0 ≤ shN S i2 ∧ shN S i2 < 6 := by unfold shN; omega
                                have hs12 := sh12 (i := shN S i2) (by omega)
                                refine g_aload_n C dX5_sample_139 (gr _) rfl ?_
                                refine M_g_row C q1191 dX5_sample_140 ?_
                                refine g_bipush C dX5_sample_143 (by decide +kernel) ?_
                                refine g_aload_n C dX5_sample_145 (gr _) rfl ?_
                                refine g_iload_n C dX5_sample_146 (gi _) rfl ?_
                                refine g_callV1z C (mX5_treadleOf hY (hR.c hm.1.1 hm.1.2.1 hm.1.2.2) (by rw [hm.1.2.1]; omega)) (lw_V q1420 q1422 qs52 q72 q1423) ⟨rfl, nd_X5_treadleOf⟩ (ovM_0 _ _ _ _) rfl ⟨by decide, by decide⟩ ⟨Nat.le_of_ble_eq_true rfl, Nat.le_of_ble_eq_true rfl⟩ rfl (Nat.le_of_ble_eq_true rfl) dX5_sample_147 ?_
                                refine g_top (b := trN S r) (by rw [hm.1.1, hm.1.2.1]; rfl) ?_
                                refine g_iadd C dX5_sample_150 ?_
                                refine g_dup2 C dX5_sample_151 rfl rfl ?_
                                refine M_ld_row C (by omega) dX5_sample_152 ?_
                                refine g_aload_n C dX5_sample_153 (gr _) rfl ?_
                                refine M_g_crosses C q1192 dX5_sample_154 ?_
                                refine g_iload_n C dX5_sample_157 (gi _) rfl ?_
                                refine M_ld_crosses C (by omega) dX5_sample_158 ?_
                                refine g_top (b := S 1 r) (by rw [hm.1.1]) ?_
                                refine g_iload C dX5_sample_159 (gi _) rfl ?_
                                refine g_callS1z C (mX5_has hY (by omega)) (lw_S q1329 q1330 q72 q1331) nd_X5_has ⟨by decide, by decide⟩ ⟨Nat.le_of_ble_eq_true rfl, Nat.le_of_ble_eq_true rfl⟩ rfl (Nat.le_of_ble_eq_true rfl) dX5_sample_161 ?_
                                refine g_ifeq_b C (tgt := 178) dX5_sample_164 (by decide) (fun c8 => ?_) (fun c8 => ?_)
                                · have hb5 := c8
                                  refine g_iconst C dX5_sample_178 ?_
                                  refine g_ior C dX5_sample_179 (zI_or (by omega)) ?_
                                  refine M_st_row C (by omega) dX5_sample_180 ?_
                                  refine g_iinc1004 C dX5_sample_181 rfl ?_
                                  refine g_goto C (tgt := 130) dX5_sample_184 (by decide) ?_
                                  exact ih4 _ _ (⟨by omega, by rw [fo_s hJ1.1, ← hJ2, smI, if_neg (by rw [hb5]; decide)], hm.u (Or.inr (Or.inr (or12 ⟨htb, by omega⟩)))⟩) (by omega)
                                · have hb5 := c8
                                  refine g_iconst C dX5_sample_167 ?_
                                  refine g_aload_n C dX5_sample_168 (gr _) rfl ?_
                                  refine g_iload C dX5_sample_169 (gi _) rfl ?_
                                  refine g_callV1z C (mX5_shaftOf hY (hR.c hm.1.1 hm.1.2.1 hm.1.2.2) (by omega)) (lw_V q1408 q1410 qs49 q72 q1411) ⟨rfl, nd_X5_shaftOf⟩ (ovM_0 _ _ _ _) rfl ⟨by decide, by decide⟩ ⟨Nat.le_of_ble_eq_true rfl, Nat.le_of_ble_eq_true rfl⟩ rfl (Nat.le_of_ble_eq_true rfl) dX5_sample_171 ?_
                                  refine g_top (b := shN S i2) (by rw [colV_c hm.1.1 hm.1.2.1, hm.1.2.2]; rfl) ?_
                                  refine g_ishl C dX5_sample_174 (zI_shl (by omega)) ?_
                                  refine g_goto C (tgt := 179) dX5_sample_175 (by decide) ?_
                                  refine g_ior C dX5_sample_179 (zI_or (by omega)) ?_
                                  refine M_st_row C (by omega) dX5_sample_180 ?_
                                  refine g_iinc1004 C dX5_sample_181 rfl ?_
                                  refine g_goto C (tgt := 130) dX5_sample_184 (by decide) ?_
                                  exact ih4 _ _ (⟨by omega, by rw [fo_s hJ1.1, ← hJ2, smI, if_pos hb5], hm.u (Or.inr (Or.inr (or12 ⟨htb, by omega⟩)))⟩) (by omega)
                          exact lp130_4 _ (us T 0 (22 + r) (trN S r)) 0 (⟨by omega, rfl, hm.u (by omega)⟩) (Nat.lt_succ_self _)
                    refine g_sub (L' := [some _, some _, some _, some _, none]) ⟨rfl, ⟨rfl, ⟨rfl, ⟨rfl, trivial⟩⟩⟩⟩ ?_
                    exact lp105_3 _ T 0 (⟨by omega, by rw [hI2, show i = S 10 1 by omega]; rfl, hm⟩) (Nat.lt_succ_self _)
                  · refine g_aload_n C dX5_sample_84 (gr _) rfl ?_
                    refine M_g_row C q1191 dX5_sample_85 ?_
                    refine g_iconst C dX5_sample_88 ?_
                    refine g_iload_n C dX5_sample_89 (gi _) rfl ?_
                    refine g_iadd C dX5_sample_90 ?_
                    refine g_aload_n C dX5_sample_91 (gr _) rfl ?_
                    refine g_iload_n C dX5_sample_92 (gi _) rfl ?_
                    refine g_callV1z C (mX5_shaftOf hY (hR.c hm.1.1 hm.1.2.1 hm.1.2.2) (by omega)) (lw_V q1408 q1410 qs49 q72 q1411) ⟨rfl, nd_X5_shaftOf⟩ (ovM_0 _ _ _ _) rfl ⟨by decide, by decide⟩ ⟨Nat.le_of_ble_eq_true rfl, Nat.le_of_ble_eq_true rfl⟩ rfl (Nat.le_of_ble_eq_true rfl) dX5_sample_93 ?_
                    refine g_top (b := shN S i) (by rw [colV_c hm.1.1 hm.1.2.1, hm.1.2.2]; rfl) ?_
                    refine M_st_row C (by omega) dX5_sample_96 ?_
                    refine g_iinc1003 C dX5_sample_97 rfl ?_
                    refine g_goto C (tgt := 76) dX5_sample_100 (by decide) ?_
                    refine g_sub (L' := [some _, some _, some _, some _, none]) ⟨rfl, ⟨rfl, ⟨rfl, ⟨rfl, trivial⟩⟩⟩⟩ ?_
                    exact ih2 _ _ (⟨by omega, by rw [hI2]; exact onK_s _ _ i (by omega), hm.u (by omega)⟩) (by omega)
              refine g_sub (L' := [some _, some _, some _, some _, none]) ⟨rfl, ⟨rfl, ⟨rfl, ⟨rfl, trivial⟩⟩⟩⟩ ?_
              exact lp76_2 _ T 0 (⟨by omega, by rw [hI2, show k = 6 by omega]; exact (onK_0 _ _).symm, hm⟩) (Nat.lt_succ_self _)
            · refine g_aload_n C dX5_sample_58 (gr _) rfl ?_
              refine M_g_row C q1191 dX5_sample_59 ?_
              refine g_bipush C dX5_sample_62 (by decide +kernel) ?_
              refine g_iload_n C dX5_sample_64 (gi _) rfl ?_
              refine g_iadd C dX5_sample_65 ?_
              refine g_iconst C dX5_sample_66 ?_
              refine M_st_row C (by omega) dX5_sample_67 ?_
              refine g_iinc1003 C dX5_sample_68 rfl ?_
              refine g_goto C (tgt := 52) dX5_sample_71 (by decide) ?_
              refine g_sub (L' := [some _, some _, some _, some _, none]) ⟨rfl, ⟨rfl, ⟨rfl, ⟨rfl, trivial⟩⟩⟩⟩ ?_
              exact ih1 _ _ (⟨by omega, by rw [hI2]; exact zK_s _ k (by omega), hm.u (by omega)⟩) (by omega)
        refine g_sub (L' := [some _, some _, some _, some _, none]) ⟨rfl, ⟨rfl, ⟨rfl, ⟨rfl, trivial⟩⟩⟩⟩ ?_
        exact lp52_1 _ (anewS (kpS S) (S 10 1) (S 10 0) (lsV (colV S) (S 10 1)) (lsV (S 1) (S 10 0))) 0 (⟨by omega, (zK_0 _).symm, hA⟩) (Nat.lt_succ_self _)
      · refine g_bipush C dX5_sample_29 (by decide +kernel) ?_
        exact g_iret C hQ rfl dX5_sample_31 ⟨gv (by have hno : sampleOk S = false := (by simp [sampleOk]; omega); simp [sampleV, hno]), gh (by have hno : sampleOk S = false := (by simp [sampleOk]; omega); simp [sampleS, hno]), rfl⟩
