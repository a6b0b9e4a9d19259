/-! THE COMPONENT: knot -/
set_option maxRecDepth 100000
theorem knot_L {S : MS} {t w : Int} {L1 : Int → Int} (h0 : 2 ≤ S 4 t) {j : Int} (j0 : 0 ≤ j) (j1 : j < S 4 t - 1) (q3 : ∀ j : Int, 0 ≤ j → j < S 4 t → L1 j = S 5 (8 * t + j)) : uI L1 (S 4 t - 1 - 1) w j = if 5 = 5 ∧ 8 * t + j = 8 * t + S 4 t - 2 then w else S 5 (8 * t + j) := by
  unfold uI
  by_cases hj : j = S 4 t - 1 - 1
  · rw [if_pos hj, if_pos (by omega)]
  · rw [if_neg hj, if_neg (by omega)]
    exact q3 j j0 (by omega)

theorem nd_X0_knot : yX0_knot.cls ≠ "java/lang/invoke/MethodHandle" ∧ yX0_knot.cls ≠ "java/lang/invoke/VarHandle" ∧ (parseMethodDescriptor yX0_knot.desc).map (fun d => d.parameters.length) = some 1 := by decide +kernel
theorem mX0_knot {l : Launch} {D : va_G} {dA : Nat → ClassId} {N0 : Nat} {Y : State → Prop} (hY : gYc N0 Y) {h : gH} {sz x : Nat} {S : MS} {P : PS} {t : Int} (hr0 : rep dA x S P h sz) (hrt : -2147483648 ≤ t ∧ t ≤ 2147483647) (h4 : ∀ k : Int, 0 ≤ k → k < 3 → -1 ≤ S 4 k ∧ S 4 k ≤ 8) (h5 : ∀ t k : Int, (0 ≤ t ∧ t < 3) ∧ 0 ≤ k ∧ k < S 4 t → 1 ≤ S 5 (8 * t + k) ∧ S 5 (8 * t + k) ≤ 99)  : gM l D dA N0 Y yX0_knot cX0_knot 4 (some .int) 2 45 0 0 [.ref x, vI t] (ovX dA x S P h) sz (gPR (some (vI (knotV S t))) dA x (knotS S t) h sz) := by
  refine gM.of hY.ok (by decide +kernel) (Nat.le_of_ble_eq_true rfl) ?_
  intro X hX C hQ
  subst hX
  have C : gC X cX0_knot RX0 "knot" 4 (some .int) D dA N0 Y ({ frames := 2, cells := 0, slots := 0, locals := 45 }) := C
  show G X 0 0 _ _ 0 [some (.ref x), some (vI t), none, none] []
  have hsz := hr0.1.2
  refine g_iload_n C dX0_knot_0 (gi _) rfl ?_
  refine g_callS1z C (mX0_isSpool hY (by omega)) (lw_S q980 q981 q67 q982) nd_X0_isSpool ⟨by decide, by decide⟩ ⟨Nat.le_of_ble_eq_true rfl, Nat.le_of_ble_eq_true rfl⟩ rfl (Nat.le_of_ble_eq_true rfl) dX0_knot_1 ?_
  refine g_ifne_b C (tgt := 10) dX0_knot_4 (by decide) (fun c1 => ?_) (fun c1 => ?_)
  · have h1 := c1
    have h1e := inB_t.mp h1
    have h1n : ¬ inB t 0 2 = false := by rw [h1]; decide
    refine g_aload_n C dX0_knot_10 (gr _) rfl ?_
    refine X_g_spools C q235 dX0_knot_11 ?_
    refine g_iload_n C dX0_knot_14 (gi _) rfl ?_
    refine X_ld_spools C (by omega) dX0_knot_15 ?_
    refine g_astore_n1002 C dX0_knot_16 (grf _) rfl ?_
    refine g_aload_n C dX0_knot_17 (grf _) rfl ?_
    refine g_ifnonnull C (tgt := 24) dX0_knot_18 (by decide) (fun oc2 c2 => ?_) (fun c2 => ?_)
    · obtain ⟨p, hp⟩ : ∃ p, P 2 t = some p := ⟨_, c2⟩
      obtain ⟨⟨L1, q1, q2, q3⟩, q4, hpx, q6⟩ := rep_sp hr0 (by omega) hp
      have q8 := h4 t (by omega) (by omega)
      rw [show va_rf (P 2 t) = Value.ref p by rw [hp]; rfl]
      refine g_hE (show _ = ovX dA x S P (ovS dA p (S 4 t) L1 h) by rw [ovS_same q1 q2]) ?_
      refine g_aload_n C dX0_knot_24 (gr _) rfl ?_
      refine Sp_g_many C hpx (gtok hY C q993 rfl) dX0_knot_25 ?_
      refine g_iconst C dX0_knot_28 ?_
      refine g_icmp_ge C (tgt := 47) dX0_knot_29 (by decide) (by omega) (fun c3 => ?_) (fun c3 => ?_)
      · have hm2 : 2 ≤ S 4 t := by omega
        have r1 := h5 t (S 4 t - 1) (by omega)
        have r2 := h5 t (S 4 t - 2) (by omega)
        have g1 := q3 (S 4 t - 1) (by omega) (by omega)
        have g2 := q3 (S 4 t - 2) (by omega) (by omega)
        rw [show 8 * t + (S 4 t - 1) = 8 * t + S 4 t - 1 by omega] at g1 r1
        rw [show 8 * t + (S 4 t - 2) = 8 * t + S 4 t - 2 by omega] at g2 r2
        refine g_aload_n C dX0_knot_47 (gr _) rfl ?_
        refine Sp_g_lengths C hpx (gtok hY C q991 rfl) dX0_knot_48 ?_
        refine g_aload_n C dX0_knot_51 (gr _) rfl ?_
        refine g_dup C dX0_knot_52 rfl ?_
        refine Sp_g_many C hpx (gtok hY C q993 rfl) dX0_knot_53 ?_
        refine g_iconst C dX0_knot_56 ?_
        refine g_isub C dX0_knot_57 ?_
        refine g_dup_x1 C dX0_knot_58 rfl rfl ?_
        refine Sp_p_many C hpx (gtok hY C q993 rfl) dX0_knot_59 ?_
        refine Sp_ld C hpx (by omega) dX0_knot_62 ?_
        refine g_top (b := S 5 (8 * t + S 4 t - 1)) (by exact g1) ?_
        refine g_istore_n1003 C dX0_knot_63 (gi _) rfl ?_
        refine g_aload_n C dX0_knot_64 (gr _) rfl ?_
        refine Sp_g_lengths C hpx (gtok hY C q991 rfl) dX0_knot_65 ?_
        refine g_aload_n C dX0_knot_68 (gr _) rfl ?_
        refine Sp_g_many C hpx (gtok hY C q993 rfl) dX0_knot_69 ?_
        refine g_iconst C dX0_knot_72 ?_
        refine g_isub C dX0_knot_73 ?_
        refine g_bipush C dX0_knot_74 (by decide +kernel) ?_
        refine g_aload_n C dX0_knot_76 (gr _) rfl ?_
        refine Sp_g_lengths C hpx (gtok hY C q991 rfl) dX0_knot_77 ?_
        refine g_aload_n C dX0_knot_80 (gr _) rfl ?_
        refine Sp_g_many C hpx (gtok hY C q993 rfl) dX0_knot_81 ?_
        refine g_iconst C dX0_knot_84 ?_
        refine g_isub C dX0_knot_85 ?_
        refine Sp_ld C hpx (by omega) dX0_knot_86 ?_
        refine g_top (b := S 5 (8 * t + S 4 t - 2)) (by rw [show S 4 t - 1 - 1 = S 4 t - 2 by omega]; exact g2) ?_
        refine g_iload_n C dX0_knot_87 (gi _) rfl ?_
        refine g_iadd C dX0_knot_88 ?_
        refine g_mmin C q965 q414 q79 q415 (by omega) (Nat.le_of_ble_eq_true rfl) ⟨by decide, by decide⟩ ⟨Nat.le_of_ble_eq_true rfl, Nat.le_of_ble_eq_true rfl⟩ dX0_knot_89 ?_
        refine g_top (b := minI 99 (S 5 (8 * t + S 4 t - 2) + S 5 (8 * t + S 4 t - 1))) (by rfl) ?_
        refine Sp_st C hpx (by omega) dX0_knot_92 ?_
        refine g_aload_n C dX0_knot_93 (gr _) rfl ?_
        refine Sp_g_lengths C hpx (gtok hY C q991 rfl) dX0_knot_94 ?_
        refine g_aload_n C dX0_knot_97 (gr _) rfl ?_
        refine Sp_g_many C hpx (gtok hY C q993 rfl) dX0_knot_98 ?_
        refine g_iconst C dX0_knot_101 ?_
        refine g_isub C dX0_knot_102 ?_
        refine Sp_ld C hpx (by omega) dX0_knot_103 ?_
        refine g_top (b := minI 99 (S 5 (8 * t + S 4 t - 2) + S 5 (8 * t + S 4 t - 1))) (by exact uI_s _ _ _) ?_
        exact g_iret C hQ rfl dX0_knot_104 ⟨gv (by rw [knotV, if_neg h1n, if_neg (by omega), if_neg (by omega), if_neg (by omega)]), P, _, (by rw [knotS, if_pos ⟨h1, hm2⟩]; exact (ovX_ext (by rw [us_n _ _ _ (by omega), us_n _ _ _ (by omega)]) (fun j _ _ => by rw [us_n _ _ _ (by omega), us_n _ _ _ (by omega)]) (by rw [us_n _ _ _ (by omega), us_n _ _ _ (by omega)]) (by rw [us_n _ _ _ (by omega), us_n _ _ _ (by omega)]) (by rw [us_n _ _ _ (by omega), us_n _ _ _ (by omega)])).symm), (by rw [knotS, if_pos ⟨h1, hm2⟩]; exact rep_wr hr0 (by omega) hp (fun a a4 a5 => by rw [us_n _ _ _ a5, us_n _ _ _ a4]) (by rw [us_n _ _ _ (by omega), us_s]) (by omega) (fun k k0 k1 => (h4 k k0 k1).2) (fun j hj => by rw [us_eq, if_neg (by omega), us_n _ _ _ (by omega)]) (fun j j0 j1 => by rw [us_eq, us_n _ _ _ (by omega)]; exact knot_L hm2 j0 j1 q3)), Nat.le_refl _, fun q hq => by unfold ovS; rw [gup_n _ _ (by omega), gup_n _ _ (by omega)]⟩
      · refine g_aload_n C dX0_knot_32 (gr _) rfl ?_
        refine Sp_g_many C hpx (gtok hY C q993 rfl) dX0_knot_33 ?_
        refine g_if_ne C (tgt := 44) dX0_knot_36 (by decide) (by omega) (fun c4 => ?_) (fun c4 => ?_)
        · refine g_bipush C dX0_knot_44 (by decide +kernel) ?_
          exact g_iret C hQ rfl dX0_knot_46 ⟨gv (by rw [knotV, if_neg h1n, if_neg (by omega), if_neg (by omega), if_pos (by omega)]), P, h, (by rw [knotS, if_neg (by intro z; first | (rw [h1] at z; exact absurd z.1 (by decide)) | omega)]; rw [ovS_same q1 q2]), by rw [knotS, if_neg (by intro z; first | (rw [h1] at z; exact absurd z.1 (by decide)) | omega)]; exact hr0, Nat.le_refl _, fun q _ => rfl⟩
        · refine g_bipush C dX0_knot_39 (by decide +kernel) ?_
          refine g_goto C (tgt := 46) dX0_knot_41 (by decide) ?_
          exact g_iret C hQ rfl dX0_knot_46 ⟨gv (by rw [knotV, if_neg h1n, if_neg (by omega), if_pos (by omega)]), P, h, (by rw [knotS, if_neg (by intro z; first | (rw [h1] at z; exact absurd z.1 (by decide)) | omega)]; rw [ovS_same q1 q2]), by rw [knotS, if_neg (by intro z; first | (rw [h1] at z; exact absurd z.1 (by decide)) | omega)]; exact hr0, Nat.le_refl _, fun q _ => rfl⟩
    · have hp : P 2 t = none := c2
      have q4 := rep_sn hr0 (by omega) hp
      refine g_bipush C dX0_knot_21 (by decide +kernel) ?_
      exact g_iret C hQ rfl dX0_knot_23 ⟨gv (by rw [knotV, if_neg h1n, if_pos q4]), P, h, (by rw [knotS, if_neg (by intro z; first | (rw [h1] at z; exact absurd z.1 (by decide)) | omega)]), by rw [knotS, if_neg (by intro z; first | (rw [h1] at z; exact absurd z.1 (by decide)) | omega)]; exact hr0, Nat.le_refl _, fun q _ => rfl⟩
  · have h1 := c1
    refine g_bipush C dX0_knot_7 (by decide +kernel) ?_
    exact g_iret C hQ rfl dX0_knot_9 ⟨gv (by rw [knotV, if_pos h1]), P, h, (by rw [knotS, if_neg (by intro z; first | (rw [h1] at z; exact absurd z.1 (by decide)) | omega)]), by rw [knotS, if_neg (by intro z; first | (rw [h1] at z; exact absurd z.1 (by decide)) | omega)]; exact hr0, Nat.le_refl _, fun q _ => rfl⟩
