/-! THE COMPONENT: what notes and changes -/
set_option maxRecDepth 100000
theorem rep_ud {dA : Nat → ClassId} {x sz sz' : Nat} {S : MS} {P : PS} {h h' : gH} {F : Int → Int} (hr : rep dA x S P h sz) (hF : ∀ j : Int, 58 ≤ j → F j = S 0 j) (hz : sz ≤ sz') (he : ∀ q : Nat, q < sz → h' q = h q) : rep dA x (ud S 0 F) P h' sz' := by
  obtain ⟨⟨r1, r1x⟩, r2, r3⟩ := hr
  have en : ∀ a : Nat, a ≠ 0 → ud S 0 F a = S a := fun a ha => ud_n S F ha
  have hl : ∀ i : Int, live (ud S 0 F) i ↔ live S i := fun i => by unfold live; rw [en 10 (by omega), en 2 (by omega), en 4 (by omega)]
  refine ⟨⟨by rw [en 10 (by omega)]; exact r1, by omega⟩, fun i a b => ⟨fun z w => (r2 i a b).1 z ((hl i).mp w), fun p hp => ?_⟩, r3⟩
  obtain ⟨t1, t2, t3, t4⟩ := (r2 i a b).2 p hp
  refine ⟨fun z => (hl i).mpr (t1 z), t2, by omega, slotOk_fr t4 (fun q q1 q2 => he q (by omega)) (fun z w => ⟨(hl i).mp w, fun j j0 j1 => ?_⟩) (fun z => ⟨by rw [en 4 (by omega)], fun j j0 j1 => by rw [en 5 (by omega)]⟩)⟩
  unfold bkF
  rw [ud_s]
  exact hF _ (by omega)
theorem rep_us {dA : Nat → ClassId} {x sz : Nat} {S : MS} {P : PS} {h : gH} {p v : Int} (hr : rep dA x S P h sz) (hp : p < 58) : rep dA x (us S 0 p v) P h sz :=
  rep_ud (F := uI (S 0) p v) hr (fun j hj => uI_n _ _ (by omega)) (Nat.le_refl _) (fun q _ => rfl)
theorem OkD_kp {S : MS} (hO : OkD (S 0)) (hu : 0 ≤ S 10 2) : OkD (kpS S 0) := OkD_ext hO (fun j _ j1 => kpS_now hu j1)

theorem nd_X0_draw : yX0_draw.cls ≠ "java/lang/invoke/MethodHandle" ∧ yX0_draw.cls ≠ "java/lang/invoke/VarHandle" ∧ (parseMethodDescriptor yX0_draw.desc).map (fun d => d.parameters.length) = some 2 := by decide +kernel
theorem mX0_draw {l : Launch} {D : va_G} {dA : Nat → ClassId} {N0 : Nat} {Y : State → Prop} (hY : gYc N0 Y) {h : gH} {sz x : Nat} {S : MS} {P : PS} {i s : Int} (hO : OkD (S 0)) (hr0 : rep dA x S P h sz) (hri : -2147483648 ≤ i ∧ i ≤ 2147483647) (hrs : -2147483648 ≤ s ∧ s ≤ 2147483647)  : gM l D dA N0 Y yX0_draw cX0_draw 4 (some .int) 5 107 28 134 [.ref x, vI i, vI s] (ovX dA x S P h) sz (gPR (some (vI (drawV S i s))) dA x (drawS S i s) h sz) := by
  refine gM.of hY.ok (by decide +kernel) (Nat.le_of_ble_eq_true rfl) ?_
  intro X hX C hQ
  subst hX
  have C : gC X cX0_draw RX0 "draw" 4 (some .int) D dA N0 Y ({ frames := 5, cells := 28, slots := 134, locals := 107 }) := C
  show G X 0 0 _ _ 0 [some (.ref x), some (vI i), some (vI s), none] []
  have hn := hO.1
  have hbm := hr0.1.1
  have hkn := fun j (hj : j < 58) => kpS_now (S := S) (j := j) hbm.1 hj
  have hOk := OkD_kp hO hbm.1
  refine g_aload_n C dX0_draw_0 (gr _) rfl ?_
  refine g_iload_n C dX0_draw_1 (gi _) rfl ?_
  refine g_callV1z C (mX0_isEnd hY (by omega)) (lw_V q727 q729 qs10 q67 q730) ⟨rfl, nd_X0_isEnd⟩ (ovX_0 _ _ _ _ _) rfl ⟨by decide, by decide⟩ ⟨Nat.le_of_ble_eq_true rfl, Nat.le_of_ble_eq_true rfl⟩ rfl (Nat.le_of_ble_eq_true rfl) dX0_draw_2 ?_
  refine g_ifeq_b C (tgt := 16) dX0_draw_5 (by decide) (fun c1 => ?_) (fun c1 => ?_)
  · have h1 := c1
    refine g_bipush C dX0_draw_16 (by decide +kernel) ?_
    refine g_widen (k' := 28) (n' := 134) (Nat.le_of_ble_eq_true rfl) (Nat.le_of_ble_eq_true rfl) ?_
    exact g_iret C hQ rfl dX0_draw_18 ⟨gv (by rw [drawV, if_neg (by intro z; first | (rw [h1] at z; exact absurd z.1 (by decide)) | (rw [h2] at z; exact absurd z.2 (by decide)))]), P, h, by rw [drawS, if_neg (by intro z; first | (rw [h1] at z; exact absurd z.1 (by decide)) | (rw [h2] at z; exact absurd z.2 (by decide)))], by rw [drawS, if_neg (by intro z; first | (rw [h1] at z; exact absurd z.1 (by decide)) | (rw [h2] at z; exact absurd z.2 (by decide)))]; exact hr0, Nat.le_refl _, fun q _ => rfl⟩
  · have h1 := c1
    have h1e := inB_t.mp h1
    refine g_aload_n C dX0_draw_8 (gr _) rfl ?_
    refine g_iload_n C dX0_draw_9 (gi _) rfl ?_
    refine g_callV1z C (mX0_isShaft hY (by omega)) (lw_V q820 q822 qs13 q67 q823) ⟨rfl, nd_X0_isShaft⟩ (ovX_0 _ _ _ _ _) rfl ⟨by decide, by decide⟩ ⟨Nat.le_of_ble_eq_true rfl, Nat.le_of_ble_eq_true rfl⟩ rfl (Nat.le_of_ble_eq_true rfl) dX0_draw_10 ?_
    refine g_ifne_b C (tgt := 19) dX0_draw_13 (by decide) (fun c2 => ?_) (fun c2 => ?_)
    · have h2 := c2
      have h2e := inB_t.mp h2
      refine g_aload_n C dX0_draw_19 (gr _) rfl ?_
      refine g_callV C (mX0_note hY (hr0)) (lw_V q824 q826 qs14 q67 q827) ⟨rfl, nd_X0_note⟩ (ovX_0 _ _ _ _ _) rfl ⟨by decide, by decide⟩ ⟨Nat.le_of_ble_eq_true rfl, Nat.le_of_ble_eq_true rfl⟩ rfl (Nat.le_of_ble_eq_true rfl) dX0_draw_20 (fun v1 h1 z1 hp1 => ?_)
      obtain ⟨hv1, P1, g1, hh1, hrep1, hzz1, hfr1⟩ := hp1
      obtain ⟨hfr1, hfr2⟩ := hfr1
      subst hv1; subst hh1
      simp only [Option.toList, List.nil_append, List.cons_append]
      refine g_aload_n C dX0_draw_23 (gr _) rfl ?_
      refine X_g_now C q218 dX0_draw_24 ?_
      refine D_g_warp C (isX_now _ _ _ _ _) q189 dX0_draw_27 ?_
      refine g_iload_n C dX0_draw_30 (gi _) rfl ?_
      refine D_ld_warp C (isX_now _ _ _ _ _) (by omega) dX0_draw_31 ?_
      refine D_gE_tied C (isX_now _ _ _ _ _) (by omega) (Or.inr q130) q133 dX0_draw_32 ?_
      refine g_top (b := S 0 (4 + i)) (by exact hkn _ (by omega)) ?_
      refine g_istore_n1003 C dX0_draw_35 (gi _) rfl ?_
      refine g_aload_n C dX0_draw_36 (gr _) rfl ?_
      refine X_g_now C q218 dX0_draw_37 ?_
      refine D_g_warp C (isX_now _ _ _ _ _) q189 dX0_draw_40 ?_
      refine g_iload_n C dX0_draw_43 (gi _) rfl ?_
      refine D_ld_warp C (isX_now _ _ _ _ _) (by omega) dX0_draw_44 ?_
      refine g_iload_n C dX0_draw_45 (gi _) rfl ?_
      refine XN_pE_tied C (by omega) (Or.inr q130) q133 dX0_draw_46 ?_
      refine g_iload_n C dX0_draw_49 (gi _) rfl ?_
      refine g_widen (k' := 28) (n' := 134) (Nat.le_of_ble_eq_true rfl) (Nat.le_of_ble_eq_true rfl) ?_
      exact g_iret C hQ rfl dX0_draw_50 ⟨gv (by rw [drawV, if_pos ⟨h1, h2⟩]), P1, g1, by rw [drawS, if_pos ⟨h1, h2⟩]; rfl, by rw [drawS, if_pos ⟨h1, h2⟩]; exact rep_us hrep1 (by omega), hzz1, hfr1⟩
    · have h2 := c2
      refine g_bipush C dX0_draw_16 (by decide +kernel) ?_
      refine g_widen (k' := 28) (n' := 134) (Nat.le_of_ble_eq_true rfl) (Nat.le_of_ble_eq_true rfl) ?_
      exact g_iret C hQ rfl dX0_draw_18 ⟨gv (by rw [drawV, if_neg (by intro z; first | (rw [h1] at z; exact absurd z.1 (by decide)) | (rw [h2] at z; exact absurd z.2 (by decide)))]), P, h, by rw [drawS, if_neg (by intro z; first | (rw [h1] at z; exact absurd z.1 (by decide)) | (rw [h2] at z; exact absurd z.2 (by decide)))], by rw [drawS, if_neg (by intro z; first | (rw [h1] at z; exact absurd z.1 (by decide)) | (rw [h2] at z; exact absurd z.2 (by decide)))]; exact hr0, Nat.le_refl _, fun q _ => rfl⟩

theorem nd_X0_tread : yX0_tread.cls ≠ "java/lang/invoke/MethodHandle" ∧ yX0_tread.cls ≠ "java/lang/invoke/VarHandle" ∧ (parseMethodDescriptor yX0_tread.desc).map (fun d => d.parameters.length) = some 2 := by decide +kernel
theorem mX0_tread {l : Launch} {D : va_G} {dA : Nat → ClassId} {N0 : Nat} {Y : State → Prop} (hY : gYc N0 Y) {h : gH} {sz x : Nat} {S : MS} {P : PS} {q t : Int} (hO : OkD (S 0)) (hr0 : rep dA x S P h sz) (hrq : -2147483648 ≤ q ∧ q ≤ 2147483647) (hrt : -2147483648 ≤ t ∧ t ≤ 2147483647)  : gM l D dA N0 Y yX0_tread cX0_tread 4 (some .int) 5 107 28 134 [.ref x, vI q, vI t] (ovX dA x S P h) sz (gPR (some (vI (treadV S q t))) dA x (treadS S q t) h sz) := by
  refine gM.of hY.ok (by decide +kernel) (Nat.le_of_ble_eq_true rfl) ?_
  intro X hX C hQ
  subst hX
  have C : gC X cX0_tread RX0 "tread" 4 (some .int) D dA N0 Y ({ frames := 5, cells := 28, slots := 134, locals := 107 }) := C
  show G X 0 0 _ _ 0 [some (.ref x), some (vI q), some (vI t), none] []
  have hn := hO.1
  have hbm := hr0.1.1
  have hkn := fun j (hj : j < 58) => kpS_now (S := S) (j := j) hbm.1 hj
  have hOk := OkD_kp hO hbm.1
  refine g_aload_n C dX0_tread_0 (gr _) rfl ?_
  refine g_iload_n C dX0_tread_1 (gi _) rfl ?_
  refine g_callV1z C (mX0_isPick hY (by omega)) (lw_V q793 q795 qs11 q67 q796) ⟨rfl, nd_X0_isPick⟩ (ovX_0 _ _ _ _ _) rfl ⟨by decide, by decide⟩ ⟨Nat.le_of_ble_eq_true rfl, Nat.le_of_ble_eq_true rfl⟩ rfl (Nat.le_of_ble_eq_true rfl) dX0_tread_2 ?_
  refine g_ifeq_b C (tgt := 16) dX0_tread_5 (by decide) (fun c1 => ?_) (fun c1 => ?_)
  · have h1 := c1
    refine g_bipush C dX0_tread_16 (by decide +kernel) ?_
    refine g_widen (k' := 28) (n' := 134) (Nat.le_of_ble_eq_true rfl) (Nat.le_of_ble_eq_true rfl) ?_
    exact g_iret C hQ rfl dX0_tread_18 ⟨gv (by rw [treadV, if_neg (by intro z; first | (rw [h1] at z; exact absurd z.1 (by decide)) | (rw [h2] at z; exact absurd z.2 (by decide)))]), P, h, by rw [treadS, if_neg (by intro z; first | (rw [h1] at z; exact absurd z.1 (by decide)) | (rw [h2] at z; exact absurd z.2 (by decide)))], by rw [treadS, if_neg (by intro z; first | (rw [h1] at z; exact absurd z.1 (by decide)) | (rw [h2] at z; exact absurd z.2 (by decide)))]; exact hr0, Nat.le_refl _, fun q _ => rfl⟩
  · have h1 := c1
    have h1e := inB_t.mp h1
    refine g_aload_n C dX0_tread_8 (gr _) rfl ?_
    refine g_iload_n C dX0_tread_9 (gi _) rfl ?_
    refine g_callV1z C (mX0_isTreadle hY (by omega)) (lw_V q807 q809 qs12 q67 q810) ⟨rfl, nd_X0_isTreadle⟩ (ovX_0 _ _ _ _ _) rfl ⟨by decide, by decide⟩ ⟨Nat.le_of_ble_eq_true rfl, Nat.le_of_ble_eq_true rfl⟩ rfl (Nat.le_of_ble_eq_true rfl) dX0_tread_10 ?_
    refine g_ifne_b C (tgt := 19) dX0_tread_13 (by decide) (fun c2 => ?_) (fun c2 => ?_)
    · have h2 := c2
      have h2e := inB_t.mp h2
      refine g_aload_n C dX0_tread_19 (gr _) rfl ?_
      refine g_callV C (mX0_note hY (hr0)) (lw_V q824 q826 qs14 q67 q827) ⟨rfl, nd_X0_note⟩ (ovX_0 _ _ _ _ _) rfl ⟨by decide, by decide⟩ ⟨Nat.le_of_ble_eq_true rfl, Nat.le_of_ble_eq_true rfl⟩ rfl (Nat.le_of_ble_eq_true rfl) dX0_tread_20 (fun v1 h1 z1 hp1 => ?_)
      obtain ⟨hv1, P1, g1, hh1, hrep1, hzz1, hfr1⟩ := hp1
      obtain ⟨hfr1, hfr2⟩ := hfr1
      subst hv1; subst hh1
      simp only [Option.toList, List.nil_append, List.cons_append]
      refine g_aload_n C dX0_tread_23 (gr _) rfl ?_
      refine X_g_now C q218 dX0_tread_24 ?_
      refine D_g_weft C (isX_now _ _ _ _ _) q191 dX0_tread_27 ?_
      refine g_iload_n C dX0_tread_30 (gi _) rfl ?_
      refine D_ld_weft C (isX_now _ _ _ _ _) (by omega) dX0_tread_31 ?_
      refine D_gP_tied C (isX_now _ _ _ _ _) (by omega) (Or.inr q132) q134 dX0_tread_32 ?_
      refine g_top (b := S 0 (22 + q)) (by exact hkn _ (by omega)) ?_
      refine g_istore_n1003 C dX0_tread_35 (gi _) rfl ?_
      refine g_aload_n C dX0_tread_36 (gr _) rfl ?_
      refine X_g_now C q218 dX0_tread_37 ?_
      refine D_g_weft C (isX_now _ _ _ _ _) q191 dX0_tread_40 ?_
      refine g_iload_n C dX0_tread_43 (gi _) rfl ?_
      refine D_ld_weft C (isX_now _ _ _ _ _) (by omega) dX0_tread_44 ?_
      refine g_iload_n C dX0_tread_45 (gi _) rfl ?_
      refine XN_pP_tied C (by omega) (Or.inr q132) q134 dX0_tread_46 ?_
      refine g_iload_n C dX0_tread_49 (gi _) rfl ?_
      refine g_widen (k' := 28) (n' := 134) (Nat.le_of_ble_eq_true rfl) (Nat.le_of_ble_eq_true rfl) ?_
      exact g_iret C hQ rfl dX0_tread_50 ⟨gv (by rw [treadV, if_pos ⟨h1, h2⟩]), P1, g1, by rw [treadS, if_pos ⟨h1, h2⟩]; rfl, by rw [treadS, if_pos ⟨h1, h2⟩]; exact rep_us hrep1 (by omega), hzz1, hfr1⟩
    · have h2 := c2
      refine g_bipush C dX0_tread_16 (by decide +kernel) ?_
      refine g_widen (k' := 28) (n' := 134) (Nat.le_of_ble_eq_true rfl) (Nat.le_of_ble_eq_true rfl) ?_
      exact g_iret C hQ rfl dX0_tread_18 ⟨gv (by rw [treadV, if_neg (by intro z; first | (rw [h1] at z; exact absurd z.1 (by decide)) | (rw [h2] at z; exact absurd z.2 (by decide)))]), P, h, by rw [treadS, if_neg (by intro z; first | (rw [h1] at z; exact absurd z.1 (by decide)) | (rw [h2] at z; exact absurd z.2 (by decide)))], by rw [treadS, if_neg (by intro z; first | (rw [h1] at z; exact absurd z.1 (by decide)) | (rw [h2] at z; exact absurd z.2 (by decide)))]; exact hr0, Nat.le_refl _, fun q _ => rfl⟩

theorem nd_X0_tie : yX0_tie.cls ≠ "java/lang/invoke/MethodHandle" ∧ yX0_tie.cls ≠ "java/lang/invoke/VarHandle" ∧ (parseMethodDescriptor yX0_tie.desc).map (fun d => d.parameters.length) = some 2 := by decide +kernel
theorem mX0_tie {l : Launch} {D : va_G} {dA : Nat → ClassId} {N0 : Nat} {Y : State → Prop} (hY : gYc N0 Y) {h : gH} {sz x : Nat} {S : MS} {P : PS} {j s : Int} (hO : OkD (S 0)) (hr0 : rep dA x S P h sz) (hrj : -2147483648 ≤ j ∧ j ≤ 2147483647) (hrs : -2147483648 ≤ s ∧ s ≤ 2147483647)  : gM l D dA N0 Y yX0_tie cX0_tie 3 (some .int) 5 107 28 134 [.ref x, vI j, vI s] (ovX dA x S P h) sz (gPR (some (vI (tieV S j s))) dA x (tieS S j s) h sz) := by
  refine gM.of hY.ok (by decide +kernel) (Nat.le_of_ble_eq_true rfl) ?_
  intro X hX C hQ
  subst hX
  have C : gC X cX0_tie RX0 "tie" 3 (some .int) D dA N0 Y ({ frames := 5, cells := 28, slots := 134, locals := 107 }) := C
  show G X 0 0 _ _ 0 [some (.ref x), some (vI j), some (vI s)] []
  have hn := hO.1
  have hbm := hr0.1.1
  have hkn := fun j (hj : j < 58) => kpS_now (S := S) (j := j) hbm.1 hj
  have hOk := OkD_kp hO hbm.1
  refine g_aload_n C dX0_tie_0 (gr _) rfl ?_
  refine g_iload_n C dX0_tie_1 (gi _) rfl ?_
  refine g_callV1z C (mX0_isTreadle hY (by omega)) (lw_V q807 q809 qs12 q67 q810) ⟨rfl, nd_X0_isTreadle⟩ (ovX_0 _ _ _ _ _) rfl ⟨by decide, by decide⟩ ⟨Nat.le_of_ble_eq_true rfl, Nat.le_of_ble_eq_true rfl⟩ rfl (Nat.le_of_ble_eq_true rfl) dX0_tie_2 ?_
  refine g_ifeq_b C (tgt := 16) dX0_tie_5 (by decide) (fun c1 => ?_) (fun c1 => ?_)
  · have h1 := c1
    refine g_bipush C dX0_tie_16 (by decide +kernel) ?_
    refine g_widen (k' := 28) (n' := 134) (Nat.le_of_ble_eq_true rfl) (Nat.le_of_ble_eq_true rfl) ?_
    exact g_iret C hQ rfl dX0_tie_18 ⟨gv (by rw [tieV, if_neg (by intro z; first | (rw [h1] at z; exact absurd z.1 (by decide)) | (rw [h2] at z; exact absurd z.2 (by decide)))]), P, h, by rw [tieS, if_neg (by intro z; first | (rw [h1] at z; exact absurd z.1 (by decide)) | (rw [h2] at z; exact absurd z.2 (by decide)))], by rw [tieS, if_neg (by intro z; first | (rw [h1] at z; exact absurd z.1 (by decide)) | (rw [h2] at z; exact absurd z.2 (by decide)))]; exact hr0, Nat.le_refl _, fun q _ => rfl⟩
  · have h1 := c1
    have h1e := inB_t.mp h1
    refine g_aload_n C dX0_tie_8 (gr _) rfl ?_
    refine g_iload_n C dX0_tie_9 (gi _) rfl ?_
    refine g_callV1z C (mX0_isShaft hY (by omega)) (lw_V q820 q822 qs13 q67 q823) ⟨rfl, nd_X0_isShaft⟩ (ovX_0 _ _ _ _ _) rfl ⟨by decide, by decide⟩ ⟨Nat.le_of_ble_eq_true rfl, Nat.le_of_ble_eq_true rfl⟩ rfl (Nat.le_of_ble_eq_true rfl) dX0_tie_10 ?_
    refine g_ifne_b C (tgt := 19) dX0_tie_13 (by decide) (fun c2 => ?_) (fun c2 => ?_)
    · have h2 := c2
      have h2e := inB_t.mp h2
      have htj := hO.tied j (by omega)
      have hsh := sh6 (i := s) (by omega)
      have hx12 := xor12 (a := S 0 (16 + j)) (b := shI s) (by omega)
      refine g_aload_n C dX0_tie_19 (gr _) rfl ?_
      refine g_callV C (mX0_note hY (hr0)) (lw_V q824 q826 qs14 q67 q827) ⟨rfl, nd_X0_note⟩ (ovX_0 _ _ _ _ _) rfl ⟨by decide, by decide⟩ ⟨Nat.le_of_ble_eq_true rfl, Nat.le_of_ble_eq_true rfl⟩ rfl (Nat.le_of_ble_eq_true rfl) dX0_tie_20 (fun v1 h1 z1 hp1 => ?_)
      obtain ⟨hv1, P1, g1, hh1, hrep1, hzz1, hfr1⟩ := hp1
      obtain ⟨hfr1, hfr2⟩ := hfr1
      subst hv1; subst hh1
      simp only [Option.toList, List.nil_append, List.cons_append]
      refine g_aload_n C dX0_tie_23 (gr _) rfl ?_
      refine X_g_now C q218 dX0_tie_24 ?_
      refine D_g_ties C (isX_now _ _ _ _ _) q187 dX0_tie_27 ?_
      refine g_iload_n C dX0_tie_30 (gi _) rfl ?_
      refine g_dup2 C dX0_tie_31 rfl rfl ?_
      refine D_ld_ties C (isX_now _ _ _ _ _) (by omega) dX0_tie_32 ?_
      refine g_top (b := S 0 (16 + j)) (by exact hkn _ (by omega)) ?_
      refine g_iconst C dX0_tie_33 ?_
      refine g_iload_n C dX0_tie_34 (gi _) rfl ?_
      refine g_ishl C dX0_tie_35 (zI_shl (by omega)) ?_
      refine g_ixor C dX0_tie_36 (zI_xor (by omega)) ?_
      refine XN_st_ties C (by omega) dX0_tie_37 ?_
      refine g_aload_n C dX0_tie_38 (gr _) rfl ?_
      refine X_g_now C q218 dX0_tie_39 ?_
      refine D_g_ties C (isX_now _ _ _ _ _) q187 dX0_tie_42 ?_
      refine g_iload_n C dX0_tie_45 (gi _) rfl ?_
      refine D_ld_ties C (isX_now _ _ _ _ _) (by omega) dX0_tie_46 ?_
      refine g_top (b := xorI (S 0 (16 + j)) (shI s)) (by rw [us_s, uI_s]) ?_
      refine g_widen (k' := 28) (n' := 134) (Nat.le_of_ble_eq_true rfl) (Nat.le_of_ble_eq_true rfl) ?_
      exact g_iret C hQ rfl dX0_tie_47 ⟨gv (by rw [tieV, if_pos ⟨h1, h2⟩]), P1, g1, by rw [tieS, if_pos ⟨h1, h2⟩]; rfl, by rw [tieS, if_pos ⟨h1, h2⟩]; exact rep_us hrep1 (by omega), hzz1, hfr1⟩
    · have h2 := c2
      refine g_bipush C dX0_tie_16 (by decide +kernel) ?_
      refine g_widen (k' := 28) (n' := 134) (Nat.le_of_ble_eq_true rfl) (Nat.le_of_ble_eq_true rfl) ?_
      exact g_iret C hQ rfl dX0_tie_18 ⟨gv (by rw [tieV, if_neg (by intro z; first | (rw [h1] at z; exact absurd z.1 (by decide)) | (rw [h2] at z; exact absurd z.2 (by decide)))]), P, h, by rw [tieS, if_neg (by intro z; first | (rw [h1] at z; exact absurd z.1 (by decide)) | (rw [h2] at z; exact absurd z.2 (by decide)))], by rw [tieS, if_neg (by intro z; first | (rw [h1] at z; exact absurd z.1 (by decide)) | (rw [h2] at z; exact absurd z.2 (by decide)))]; exact hr0, Nat.le_refl _, fun q _ => rfl⟩

theorem nd_X0_coloured : yX0_coloured.cls ≠ "java/lang/invoke/MethodHandle" ∧ yX0_coloured.cls ≠ "java/lang/invoke/VarHandle" ∧ (parseMethodDescriptor yX0_coloured.desc).map (fun d => d.parameters.length) = some 2 := by decide +kernel
theorem mX0_coloured_E {l : Launch} {D : va_G} {dA : Nat → ClassId} {N0 : Nat} {Y : State → Prop} (hY : gYc N0 Y) {h : gH} {sz x : Nat} {S : MS} {P : PS} {i c : Int} (hO : OkD (S 0)) (hr0 : rep dA x S P h sz) (hi : 0 ≤ i ∧ i < 12) : gM l D dA N0 Y yX0_coloured cX0_coloured 4 (some .int) 5 107 28 134 [.ref x, .ref (x + 1 + 4 + 2 * i.toNat), vI c] (ovX dA x S P h) sz (gPR (some (vI (S 0 (34 + i)))) dA x (layS S (34 + i) c) h sz) := by
  refine gM.of hY.ok (by decide +kernel) (Nat.le_of_ble_eq_true rfl) ?_
  intro X hX C hQ
  subst hX
  have C : gC X cX0_coloured RX0 "coloured" 4 (some .int) D dA N0 Y ({ frames := 5, cells := 28, slots := 134, locals := 107 }) := C
  show G X 0 0 _ _ 0 [some (.ref x), some (.ref (x + 1 + 4 + 2 * i.toNat)), some (vI c), none] []
  have hn := hO.1
  have hbm := hr0.1.1
  have hkn := fun j (hj : j < 58) => kpS_now (S := S) (j := j) hbm.1 hj
  have hOk := OkD_kp hO hbm.1
  refine g_aload_n C dX0_coloured_0 (gr _) rfl ?_
  refine g_callV C (mX0_note hY (hr0)) (lw_V q824 q826 qs14 q67 q827) ⟨rfl, nd_X0_note⟩ (ovX_0 _ _ _ _ _) rfl ⟨by decide, by decide⟩ ⟨Nat.le_of_ble_eq_true rfl, Nat.le_of_ble_eq_true rfl⟩ rfl (Nat.le_of_ble_eq_true rfl) dX0_coloured_1 (fun v1 h1 z1 hp1 => ?_)
  obtain ⟨hv1, P1, g1, hh1, hrep1, hzz1, hfr1⟩ := hp1
  obtain ⟨hfr1, hfr2⟩ := hfr1
  subst hv1; subst hh1
  simp only [Option.toList, List.nil_append, List.cons_append]
  refine g_aload_n C dX0_coloured_4 (gr _) rfl ?_
  refine D_gE_colour C (isX_now _ _ _ _ _) (by omega) (Or.inl rfl) q143 dX0_coloured_5 ?_
  refine g_top (b := S 0 (34 + i)) (by exact hkn _ (by omega)) ?_
  refine g_istore_n1003 C dX0_coloured_8 (gi _) rfl ?_
  refine g_aload_n C dX0_coloured_9 (gr _) rfl ?_
  refine g_iload_n C dX0_coloured_10 (gi _) rfl ?_
  refine XN_pE_colour C (by omega) (Or.inl rfl) q143 dX0_coloured_11 ?_
  refine g_iload_n C dX0_coloured_14 (gi _) rfl ?_
  refine g_widen (k' := 28) (n' := 134) (Nat.le_of_ble_eq_true rfl) (Nat.le_of_ble_eq_true rfl) ?_
  exact g_iret C hQ rfl dX0_coloured_15 ⟨rfl, P1, g1, rfl, rep_us hrep1 (by omega), hzz1, hfr1⟩

theorem nd_X0_warp : yX0_warp.cls ≠ "java/lang/invoke/MethodHandle" ∧ yX0_warp.cls ≠ "java/lang/invoke/VarHandle" ∧ (parseMethodDescriptor yX0_warp.desc).map (fun d => d.parameters.length) = some 2 := by decide +kernel
theorem mX0_warp {l : Launch} {D : va_G} {dA : Nat → ClassId} {N0 : Nat} {Y : State → Prop} (hY : gYc N0 Y) {h : gH} {sz x : Nat} {S : MS} {P : PS} {i c : Int} (hO : OkD (S 0)) (hr0 : rep dA x S P h sz) (hri : -2147483648 ≤ i ∧ i ≤ 2147483647) (hrc : -2147483648 ≤ c ∧ c ≤ 2147483647)  : gM l D dA N0 Y yX0_warp cX0_warp 3 (some .int) 6 130 28 134 [.ref x, vI i, vI c] (ovX dA x S P h) sz (gPR (some (vI (warpV S i c))) dA x (warpS S i c) h sz) := by
  refine gM.of hY.ok (by decide +kernel) (Nat.le_of_ble_eq_true rfl) ?_
  intro X hX C hQ
  subst hX
  have C : gC X cX0_warp RX0 "warp" 3 (some .int) D dA N0 Y ({ frames := 6, cells := 28, slots := 134, locals := 130 }) := C
  show G X 0 0 _ _ 0 [some (.ref x), some (vI i), some (vI c)] []
  have hn := hO.1
  have hbm := hr0.1.1
  have hkn := fun j (hj : j < 58) => kpS_now (S := S) (j := j) hbm.1 hj
  have hOk := OkD_kp hO hbm.1
  refine g_aload_n C dX0_warp_0 (gr _) rfl ?_
  refine g_iload_n C dX0_warp_1 (gi _) rfl ?_
  refine g_callV1z C (mX0_isEnd hY (by omega)) (lw_V q727 q729 qs10 q67 q730) ⟨rfl, nd_X0_isEnd⟩ (ovX_0 _ _ _ _ _) rfl ⟨by decide, by decide⟩ ⟨Nat.le_of_ble_eq_true rfl, Nat.le_of_ble_eq_true rfl⟩ rfl (Nat.le_of_ble_eq_true rfl) dX0_warp_2 ?_
  refine g_ifne_b C (tgt := 11) dX0_warp_5 (by decide) (fun c1 => ?_) (fun c1 => ?_)
  · have h1 := c1
    have h1e := inB_t.mp h1
    refine g_iload_n C dX0_warp_11 (gi _) rfl ?_
    refine g_i2lz C dX0_warp_12 (by omega) ?_
    refine g_lconstz C 0 rfl dX0_warp_13 ?_
    refine g_ldc2z C 9 (by decide +kernel) q846 dX0_warp_14 ?_
    refine g_callS1z C (mX0_in hY (by omega)) (lw_S q265 q266 q67 q267) nd_X0_in ⟨by decide, by decide⟩ ⟨Nat.le_of_ble_eq_true rfl, Nat.le_of_ble_eq_true rfl⟩ rfl (Nat.le_of_ble_eq_true rfl) dX0_warp_17 ?_
    refine g_ifeq_b C (tgt := 40) dX0_warp_20 (by decide) (fun c2 => ?_) (fun c2 => ?_)
    · have h2 := c2
      refine g_bipush C dX0_warp_40 (by decide +kernel) ?_
      refine g_widen (k' := 28) (n' := 134) (Nat.le_of_ble_eq_true rfl) (Nat.le_of_ble_eq_true rfl) ?_
      exact g_iret C hQ rfl dX0_warp_42 ⟨gv (by rw [warpV, if_neg (by rw [h1]; decide), if_neg (by rw [h2]; decide)]), P, h, by rw [warpS, if_neg (by intro z; rw [h2] at z; exact absurd z.2 (by decide))], by rw [warpS, if_neg (by intro z; rw [h2] at z; exact absurd z.2 (by decide))]; exact hr0, Nat.le_refl _, fun q _ => rfl⟩
    · have h2 := c2
      have h2e := inB_t.mp h2
      refine g_aload_n C dX0_warp_23 (gr _) rfl ?_
      refine g_aload_n C dX0_warp_24 (gr _) rfl ?_
      refine X_g_now C q218 dX0_warp_25 ?_
      refine D_g_warp C (isX_now _ _ _ _ _) q189 dX0_warp_28 ?_
      refine g_iload_n C dX0_warp_31 (gi _) rfl ?_
      refine D_ld_warp C (isX_now _ _ _ _ _) (by omega) dX0_warp_32 ?_
      refine g_iload_n C dX0_warp_33 (gi _) rfl ?_
      refine g_callV C (mX0_coloured_E hY (hO) (hr0) (by omega)) (lw_V q847 q849 qs15 q67 q850) ⟨rfl, nd_X0_coloured⟩ (ovX_0 _ _ _ _ _) rfl ⟨by decide, by decide⟩ ⟨Nat.le_of_ble_eq_true rfl, Nat.le_of_ble_eq_true rfl⟩ rfl (Nat.le_of_ble_eq_true rfl) dX0_warp_34 (fun v1 h1 z1 hp1 => ?_)
      obtain ⟨hv1, P1, g1, hh1, hrep1, hzz1, hfr1⟩ := hp1
      subst hv1; subst hh1
      simp only [Option.toList, List.nil_append, List.cons_append]
      refine g_goto C (tgt := 42) dX0_warp_37 (by decide) ?_
      refine g_widen (k' := 28) (n' := 134) (Nat.le_of_ble_eq_true rfl) (Nat.le_of_ble_eq_true rfl) ?_
      exact g_iret C hQ rfl dX0_warp_42 ⟨gv (by rw [warpV, if_neg (by rw [h1]; decide), if_pos h2]), P1, g1, by rw [warpS, if_pos ⟨h1, h2⟩], by rw [warpS, if_pos ⟨h1, h2⟩]; exact hrep1, hzz1, hfr1⟩
  · have h1 := c1
    refine g_bipush C dX0_warp_8 (by decide +kernel) ?_
    refine g_widen (k' := 28) (n' := 134) (Nat.le_of_ble_eq_true rfl) (Nat.le_of_ble_eq_true rfl) ?_
    exact g_iret C hQ rfl dX0_warp_10 ⟨gv (by rw [warpV, if_pos h1]), P, h, by rw [warpS, if_neg (by intro z; rw [h1] at z; exact absurd z.1 (by decide))], by rw [warpS, if_neg (by intro z; rw [h1] at z; exact absurd z.1 (by decide))]; exact hr0, Nat.le_refl _, fun q _ => rfl⟩

theorem mX0_coloured_P {l : Launch} {D : va_G} {dA : Nat → ClassId} {N0 : Nat} {Y : State → Prop} (hY : gYc N0 Y) {h : gH} {sz x : Nat} {S : MS} {P : PS} {i c : Int} (hO : OkD (S 0)) (hr0 : rep dA x S P h sz) (hi : 0 ≤ i ∧ i < 12) : gM l D dA N0 Y yX0_coloured cX0_coloured 4 (some .int) 5 107 28 134 [.ref x, .ref (x + 1 + 5 + 2 * i.toNat), vI c] (ovX dA x S P h) sz (gPR (some (vI (S 0 (46 + i)))) dA x (layS S (46 + i) c) h sz) := by
  refine gM.of hY.ok (by decide +kernel) (Nat.le_of_ble_eq_true rfl) ?_
  intro X hX C hQ
  subst hX
  have C : gC X cX0_coloured RX0 "coloured" 4 (some .int) D dA N0 Y ({ frames := 5, cells := 28, slots := 134, locals := 107 }) := C
  show G X 0 0 _ _ 0 [some (.ref x), some (.ref (x + 1 + 5 + 2 * i.toNat)), some (vI c), none] []
  have hn := hO.1
  have hbm := hr0.1.1
  have hkn := fun j (hj : j < 58) => kpS_now (S := S) (j := j) hbm.1 hj
  have hOk := OkD_kp hO hbm.1
  refine g_aload_n C dX0_coloured_0 (gr _) rfl ?_
  refine g_callV C (mX0_note hY (hr0)) (lw_V q824 q826 qs14 q67 q827) ⟨rfl, nd_X0_note⟩ (ovX_0 _ _ _ _ _) rfl ⟨by decide, by decide⟩ ⟨Nat.le_of_ble_eq_true rfl, Nat.le_of_ble_eq_true rfl⟩ rfl (Nat.le_of_ble_eq_true rfl) dX0_coloured_1 (fun v1 h1 z1 hp1 => ?_)
  obtain ⟨hv1, P1, g1, hh1, hrep1, hzz1, hfr1⟩ := hp1
  obtain ⟨hfr1, hfr2⟩ := hfr1
  subst hv1; subst hh1
  simp only [Option.toList, List.nil_append, List.cons_append]
  refine g_aload_n C dX0_coloured_4 (gr _) rfl ?_
  refine D_gP_colour C (isX_now _ _ _ _ _) (by omega) (Or.inl rfl) q143 dX0_coloured_5 ?_
  refine g_top (b := S 0 (46 + i)) (by exact hkn _ (by omega)) ?_
  refine g_istore_n1003 C dX0_coloured_8 (gi _) rfl ?_
  refine g_aload_n C dX0_coloured_9 (gr _) rfl ?_
  refine g_iload_n C dX0_coloured_10 (gi _) rfl ?_
  refine XN_pP_colour C (by omega) (Or.inl rfl) q143 dX0_coloured_11 ?_
  refine g_iload_n C dX0_coloured_14 (gi _) rfl ?_
  refine g_widen (k' := 28) (n' := 134) (Nat.le_of_ble_eq_true rfl) (Nat.le_of_ble_eq_true rfl) ?_
  exact g_iret C hQ rfl dX0_coloured_15 ⟨rfl, P1, g1, rfl, rep_us hrep1 (by omega), hzz1, hfr1⟩

theorem nd_X0_weft : yX0_weft.cls ≠ "java/lang/invoke/MethodHandle" ∧ yX0_weft.cls ≠ "java/lang/invoke/VarHandle" ∧ (parseMethodDescriptor yX0_weft.desc).map (fun d => d.parameters.length) = some 2 := by decide +kernel
theorem mX0_weft {l : Launch} {D : va_G} {dA : Nat → ClassId} {N0 : Nat} {Y : State → Prop} (hY : gYc N0 Y) {h : gH} {sz x : Nat} {S : MS} {P : PS} {i c : Int} (hO : OkD (S 0)) (hr0 : rep dA x S P h sz) (hri : -2147483648 ≤ i ∧ i ≤ 2147483647) (hrc : -2147483648 ≤ c ∧ c ≤ 2147483647)  : gM l D dA N0 Y yX0_weft cX0_weft 3 (some .int) 6 130 28 134 [.ref x, vI i, vI c] (ovX dA x S P h) sz (gPR (some (vI (weftV S i c))) dA x (weftS S i c) h sz) := by
  refine gM.of hY.ok (by decide +kernel) (Nat.le_of_ble_eq_true rfl) ?_
  intro X hX C hQ
  subst hX
  have C : gC X cX0_weft RX0 "weft" 3 (some .int) D dA N0 Y ({ frames := 6, cells := 28, slots := 134, locals := 130 }) := C
  show G X 0 0 _ _ 0 [some (.ref x), some (vI i), some (vI c)] []
  have hn := hO.1
  have hbm := hr0.1.1
  have hkn := fun j (hj : j < 58) => kpS_now (S := S) (j := j) hbm.1 hj
  have hOk := OkD_kp hO hbm.1
  refine g_aload_n C dX0_weft_0 (gr _) rfl ?_
  refine g_iload_n C dX0_weft_1 (gi _) rfl ?_
  refine g_callV1z C (mX0_isPick hY (by omega)) (lw_V q793 q795 qs11 q67 q796) ⟨rfl, nd_X0_isPick⟩ (ovX_0 _ _ _ _ _) rfl ⟨by decide, by decide⟩ ⟨Nat.le_of_ble_eq_true rfl, Nat.le_of_ble_eq_true rfl⟩ rfl (Nat.le_of_ble_eq_true rfl) dX0_weft_2 ?_
  refine g_ifne_b C (tgt := 11) dX0_weft_5 (by decide) (fun c1 => ?_) (fun c1 => ?_)
  · have h1 := c1
    have h1e := inB_t.mp h1
    refine g_iload_n C dX0_weft_11 (gi _) rfl ?_
    refine g_i2lz C dX0_weft_12 (by omega) ?_
    refine g_lconstz C 0 rfl dX0_weft_13 ?_
    refine g_ldc2z C 9 (by decide +kernel) q846 dX0_weft_14 ?_
    refine g_callS1z C (mX0_in hY (by omega)) (lw_S q265 q266 q67 q267) nd_X0_in ⟨by decide, by decide⟩ ⟨Nat.le_of_ble_eq_true rfl, Nat.le_of_ble_eq_true rfl⟩ rfl (Nat.le_of_ble_eq_true rfl) dX0_weft_17 ?_
    refine g_ifeq_b C (tgt := 40) dX0_weft_20 (by decide) (fun c2 => ?_) (fun c2 => ?_)
    · have h2 := c2
      refine g_bipush C dX0_weft_40 (by decide +kernel) ?_
      refine g_widen (k' := 28) (n' := 134) (Nat.le_of_ble_eq_true rfl) (Nat.le_of_ble_eq_true rfl) ?_
      exact g_iret C hQ rfl dX0_weft_42 ⟨gv (by rw [weftV, if_neg (by rw [h1]; decide), if_neg (by rw [h2]; decide)]), P, h, by rw [weftS, if_neg (by intro z; rw [h2] at z; exact absurd z.2 (by decide))], by rw [weftS, if_neg (by intro z; rw [h2] at z; exact absurd z.2 (by decide))]; exact hr0, Nat.le_refl _, fun q _ => rfl⟩
    · have h2 := c2
      have h2e := inB_t.mp h2
      refine g_aload_n C dX0_weft_23 (gr _) rfl ?_
      refine g_aload_n C dX0_weft_24 (gr _) rfl ?_
      refine X_g_now C q218 dX0_weft_25 ?_
      refine D_g_weft C (isX_now _ _ _ _ _) q191 dX0_weft_28 ?_
      refine g_iload_n C dX0_weft_31 (gi _) rfl ?_
      refine D_ld_weft C (isX_now _ _ _ _ _) (by omega) dX0_weft_32 ?_
      refine g_iload_n C dX0_weft_33 (gi _) rfl ?_
      refine g_callV C (mX0_coloured_P hY (hO) (hr0) (by omega)) (lw_V q847 q849 qs15 q67 q850) ⟨rfl, nd_X0_coloured⟩ (ovX_0 _ _ _ _ _) rfl ⟨by decide, by decide⟩ ⟨Nat.le_of_ble_eq_true rfl, Nat.le_of_ble_eq_true rfl⟩ rfl (Nat.le_of_ble_eq_true rfl) dX0_weft_34 (fun v1 h1 z1 hp1 => ?_)
      obtain ⟨hv1, P1, g1, hh1, hrep1, hzz1, hfr1⟩ := hp1
      subst hv1; subst hh1
      simp only [Option.toList, List.nil_append, List.cons_append]
      refine g_goto C (tgt := 42) dX0_weft_37 (by decide) ?_
      refine g_widen (k' := 28) (n' := 134) (Nat.le_of_ble_eq_true rfl) (Nat.le_of_ble_eq_true rfl) ?_
      exact g_iret C hQ rfl dX0_weft_42 ⟨gv (by rw [weftV, if_neg (by rw [h1]; decide), if_pos h2]), P1, g1, by rw [weftS, if_pos ⟨h1, h2⟩], by rw [weftS, if_pos ⟨h1, h2⟩]; exact hrep1, hzz1, hfr1⟩
  · have h1 := c1
    refine g_bipush C dX0_weft_8 (by decide +kernel) ?_
    refine g_widen (k' := 28) (n' := 134) (Nat.le_of_ble_eq_true rfl) (Nat.le_of_ble_eq_true rfl) ?_
    exact g_iret C hQ rfl dX0_weft_10 ⟨gv (by rw [weftV, if_pos h1]), P, h, by rw [weftS, if_neg (by intro z; rw [h1] at z; exact absurd z.1 (by decide))], by rw [weftS, if_neg (by intro z; rw [h1] at z; exact absurd z.1 (by decide))]; exact hr0, Nat.le_refl _, fun q _ => rfl⟩
