/-! THE COMPONENT: threads -/
set_option maxRecDepth 100000

theorem nd_X0_threads : yX0_threads.cls ≠ "java/lang/invoke/MethodHandle" ∧ yX0_threads.cls ≠ "java/lang/invoke/VarHandle" ∧ (parseMethodDescriptor yX0_threads.desc).map (fun d => d.parameters.length) = some 0 := by decide +kernel
theorem mX0_threads {l : Launch} {D : va_G} {dA : Nat → ClassId} {N0 : Nat} {Y : State → Prop} (hY : gYc N0 Y) {h : gH} {sz x : Nat} {S : MS} {P : PS} (hr0 : rep dA x S P h sz) (h4 : ∀ k : Int, 0 ≤ k → k < 3 → -1 ≤ S 4 k ∧ S 4 k ≤ 8)  : gM l D dA N0 Y yX0_threads cX0_threads 6 (some .int) 0 0 0 0 [.ref x] (ovX dA x S P h) sz (gP (some (vI (atV S))) (ovX dA x S P h) sz) := by
  refine gM.of hY.ok (by decide +kernel) (Nat.le_of_ble_eq_true rfl) ?_
  intro X hX C hQ
  subst hX
  have C : gC X cX0_threads RX0 "threads" 6 (some .int) D dA N0 Y ({ frames := 0, cells := 0, slots := 0, locals := 0 }) := C
  show G X 0 0 _ _ 0 [some (.ref x), none, none, none, none, none] []
  refine g_iconst C dX0_threads_0 ?_
  refine g_istore_n1001 C dX0_threads_1 (gi _) rfl ?_
  refine g_aload_n C dX0_threads_2 (gr _) rfl ?_
  refine X_g_spools C q235 dX0_threads_3 ?_
  refine g_astore_n1002 C dX0_threads_6 (gr _) rfl ?_
  refine g_aload_n C dX0_threads_7 (gr _) rfl ?_
  refine g_alen C 6 rfl (ovX_61 dA x S P h) dX0_threads_8 ?_
  refine g_istore_n1003 C dX0_threads_9 (gi _) rfl ?_
  refine g_iconst C dX0_threads_10 ?_
  refine g_istore1004 C dX0_threads_11 (gi _) rfl ?_
  have lp13_1 : ∀ (fuel : Nat) (n k : Int), ((0 ≤ k ∧ k ≤ 3) ∧ n = fo (atF S) 0 k.toNat ∧ 0 ≤ n ∧ n ≤ 8 * k) → (3 - k).toNat < fuel → G X 0 0 (ovX dA x S P h) sz 13 [some (.ref x), some (vI n), some (.ref (x + 61)), some (vI 3), some (vI k), none] [] := by
    intro fuel
    induction fuel with
    | zero => intro n k hI hfu; exact absurd hfu (Nat.not_lt_zero _)
    | succ fuel ih =>
      intro n k hI hfu
      have ih1 := ih
      obtain ⟨hI1, hI2, hI3⟩ := hI
      refine g_iload C dX0_threads_13 (gi _) rfl ?_
      refine g_iload_n C dX0_threads_15 (gi _) rfl ?_
      refine g_icmp_ge C (tgt := 48) dX0_threads_16 (by decide) (by omega) (fun c1 => ?_) (fun c1 => ?_)
      · refine g_iload_n C dX0_threads_48 (gi _) rfl ?_
        exact g_iret C hQ rfl dX0_threads_49 ⟨gv (by rw [hI2, show k = 3 by omega]; rfl), rfl, rfl⟩
      · refine g_aload_n C dX0_threads_19 (gr _) rfl ?_
        refine g_iload C dX0_threads_20 (gi _) rfl ?_
        refine X_ld_spools C (by omega) dX0_threads_22 ?_
        refine g_astore1005 C dX0_threads_23 (grf _) rfl ?_
        refine g_iload_n C dX0_threads_25 (gi _) rfl ?_
        refine g_aload C dX0_threads_26 (grf _) rfl ?_
        refine g_ifnonnull C (tgt := 35) dX0_threads_28 (by decide) (fun oc2 c2 => ?_) (fun c2 => ?_)
        · obtain ⟨p, hp⟩ : ∃ p, P 2 k = some p := ⟨_, c2⟩
          obtain ⟨⟨L1, q1, q2, q3⟩, q4, hpx, q6⟩ := rep_sp hr0 (by omega) hp
          have q8 := h4 k (by omega) (by omega)
          rw [show va_rf (P 2 k) = Value.ref p by rw [hp]; rfl]
          refine g_hE (show _ = ovX dA x S P (ovS dA p (S 4 k) L1 h) by rw [ovS_same q1 q2]) ?_
          refine g_aload C dX0_threads_35 (gr _) rfl ?_
          refine Sp_g_many C hpx (gtok hY C q993 rfl) dX0_threads_37 ?_
          refine g_iadd C dX0_threads_40 ?_
          refine g_istore_n1001 C dX0_threads_41 (gi _) rfl ?_
          refine g_iinc1004 C dX0_threads_42 rfl ?_
          refine g_goto C (tgt := 13) dX0_threads_45 (by decide) ?_
          refine g_hE (show _ = ovX dA x S P h by rw [ovS_same q1 q2]) ?_
          refine g_sub (L' := [some _, some _, some _, some _, some _, none]) ⟨rfl, ⟨rfl, ⟨rfl, ⟨rfl, ⟨rfl, trivial⟩⟩⟩⟩⟩ ?_
          exact ih1 _ _ (⟨by omega, by rw [fo_s hI1.1, ← hI2, atF, if_neg (by omega)], by omega⟩) (by omega)
        · have q4 := rep_sn hr0 (by omega) c2
          refine g_iconst C dX0_threads_31 ?_
          refine g_goto C (tgt := 40) dX0_threads_32 (by decide) ?_
          refine g_iadd C dX0_threads_40 ?_
          refine g_istore_n1001 C dX0_threads_41 (gi _) rfl ?_
          refine g_iinc1004 C dX0_threads_42 rfl ?_
          refine g_goto C (tgt := 13) dX0_threads_45 (by decide) ?_
          refine g_sub (L' := [some _, some _, some _, some _, some _, none]) ⟨rfl, ⟨rfl, ⟨rfl, ⟨rfl, ⟨rfl, trivial⟩⟩⟩⟩⟩ ?_
          exact ih1 _ _ (⟨by omega, by rw [fo_s hI1.1, ← hI2, atF, if_pos q4], by omega⟩) (by omega)
  refine g_sub (L' := [some _, some _, some _, some _, some _, none]) ⟨rfl, ⟨rfl, ⟨rfl, ⟨rfl, ⟨rfl, trivial⟩⟩⟩⟩⟩ ?_
  exact lp13_1 _ 0 0 (⟨by omega, rfl, by omega⟩) (Nat.lt_succ_self _)

theorem nd_X0_count : yX0_count.cls ≠ "java/lang/invoke/MethodHandle" ∧ yX0_count.cls ≠ "java/lang/invoke/VarHandle" ∧ (parseMethodDescriptor yX0_count.desc).map (fun d => d.parameters.length) = some 1 := by decide +kernel
theorem mX0_count {l : Launch} {D : va_G} {dA : Nat → ClassId} {N0 : Nat} {Y : State → Prop} (hY : gYc N0 Y) {h : gH} {sz x : Nat} {S : MS} {P : PS} {w : Int} (hO : OkD (S 0)) (hr0 : rep dA x S P h sz) (h4 : ∀ k : Int, 0 ≤ k → k < 3 → -1 ≤ S 4 k ∧ S 4 k ≤ 8) (hrw : -2147483648 ≤ w ∧ w ≤ 2147483647)  : gM l D dA N0 Y yX0_count cX0_count 2 (some .int) 6 132 0 0 [.ref x, vI w] (ovX dA x S P h) sz (gP (some (vI (countV S w))) (ovX dA x S P h) sz) := by
  refine gM.of hY.ok (by decide +kernel) (Nat.le_of_ble_eq_true rfl) ?_
  intro X hX C hQ
  subst hX
  have C : gC X cX0_count RX0 "count" 2 (some .int) D dA N0 Y ({ frames := 6, cells := 0, slots := 0, locals := 132 }) := C
  show G X 0 0 _ _ 0 [some (.ref x), some (vI w)] []
  have hn := hO.1
  refine g_iload_n C dX0_count_0 (gi _) rfl ?_
  rcases (show w = 0 ∨ w = 1 ∨ w = 2 ∨ w = 3 ∨ w = 4 ∨ w = 5 ∨ w = 6 ∨ w = 7 ∨ w = 8 ∨ w = 9 ∨ w = 10 ∨ w = 11 ∨ w = 12 ∨ w = 13 ∨ w = 14 ∨ w = 15 ∨ (w < 0 ∨ 15 < w) by omega) with w1 | w1 | w1 | w1 | w1 | w1 | w1 | w1 | w1 | w1 | w1 | w1 | w1 | w1 | w1 | w1 | w1
  · refine g_tabIn C (off := 79) (tgt := 80) dX0_count_1 (by omega) (by omega) (by rw [w1]; rfl) (by decide) ?_
    refine g_aload_n C dX0_count_80 (gr _) rfl ?_
    refine X_g_now C q218 dX0_count_81 ?_
    refine D_g_ends C (isX_now _ _ _ _ _) q175 dX0_count_84 ?_
    exact g_iret C hQ rfl dX0_count_87 ⟨gv (by unfold countV; (repeat (first | rw [if_pos (by omega)] | rw [if_neg (by omega)])); try (first | rfl | (congr 1; omega))), rfl, rfl⟩
  · refine g_tabIn C (off := 87) (tgt := 88) dX0_count_1 (by omega) (by omega) (by rw [w1]; rfl) (by decide) ?_
    refine g_aload_n C dX0_count_88 (gr _) rfl ?_
    refine X_g_now C q218 dX0_count_89 ?_
    refine D_g_picks C (isX_now _ _ _ _ _) q179 dX0_count_92 ?_
    exact g_iret C hQ rfl dX0_count_95 ⟨gv (by unfold countV; (repeat (first | rw [if_pos (by omega)] | rw [if_neg (by omega)])); try (first | rfl | (congr 1; omega))), rfl, rfl⟩
  · refine g_tabIn C (off := 95) (tgt := 96) dX0_count_1 (by omega) (by omega) (by rw [w1]; rfl) (by decide) ?_
    refine g_aload_n C dX0_count_96 (gr _) rfl ?_
    refine X_g_now C q218 dX0_count_97 ?_
    refine D_g_shafts C (isX_now _ _ _ _ _) q182 dX0_count_100 ?_
    exact g_iret C hQ rfl dX0_count_103 ⟨gv (by unfold countV; (repeat (first | rw [if_pos (by omega)] | rw [if_neg (by omega)])); try (first | rfl | (congr 1; omega))), rfl, rfl⟩
  · refine g_tabIn C (off := 103) (tgt := 104) dX0_count_1 (by omega) (by omega) (by rw [w1]; rfl) (by decide) ?_
    refine g_aload_n C dX0_count_104 (gr _) rfl ?_
    refine X_g_now C q218 dX0_count_105 ?_
    refine D_g_treadles C (isX_now _ _ _ _ _) q185 dX0_count_108 ?_
    exact g_iret C hQ rfl dX0_count_111 ⟨gv (by unfold countV; (repeat (first | rw [if_pos (by omega)] | rw [if_neg (by omega)])); try (first | rfl | (congr 1; omega))), rfl, rfl⟩
  · refine g_tabIn C (off := 111) (tgt := 112) dX0_count_1 (by omega) (by omega) (by rw [w1]; rfl) (by decide) ?_
    refine g_aload_n C dX0_count_112 (gr _) rfl ?_
    refine X_g_now C q218 dX0_count_113 ?_
    refine g_callV1z C (mX1_longest hY ((isX_now _ _ _ _ _)) (hO)) (lw_V q1134 q1135 q1136 q68 q1137) ⟨rfl, nd_X1_longest⟩ (isD_0 (isX_now _ _ _ _ _)) rfl ⟨by decide, by decide⟩ ⟨Nat.le_of_ble_eq_true rfl, Nat.le_of_ble_eq_true rfl⟩ rfl (Nat.le_of_ble_eq_true rfl) dX0_count_116 ?_
    exact g_iret C hQ rfl dX0_count_119 ⟨gv (by unfold countV; (repeat (first | rw [if_pos (by omega)] | rw [if_neg (by omega)])); try (first | rfl | (congr 1; omega))), rfl, rfl⟩
  · refine g_tabIn C (off := 119) (tgt := 120) dX0_count_1 (by omega) (by omega) (by rw [w1]; rfl) (by decide) ?_
    refine g_aload_n C dX0_count_120 (gr _) rfl ?_
    refine X_g_now C q218 dX0_count_121 ?_
    refine g_callV1z C (mX1_longestPick hY ((isX_now _ _ _ _ _)) (hO)) (lw_V q970 q971 q972 q68 q973) ⟨rfl, nd_X1_longestPick⟩ (isD_0 (isX_now _ _ _ _ _)) rfl ⟨by decide, by decide⟩ ⟨Nat.le_of_ble_eq_true rfl, Nat.le_of_ble_eq_true rfl⟩ rfl (Nat.le_of_ble_eq_true rfl) dX0_count_124 ?_
    exact g_iret C hQ rfl dX0_count_127 ⟨gv (by unfold countV; (repeat (first | rw [if_pos (by omega)] | rw [if_neg (by omega)])); try (first | rfl | (congr 1; omega))), rfl, rfl⟩
  · refine g_tabIn C (off := 127) (tgt := 128) dX0_count_1 (by omega) (by omega) (by rw [w1]; rfl) (by decide) ?_
    refine g_aload_n C dX0_count_128 (gr _) rfl ?_
    refine X_g_now C q218 dX0_count_129 ?_
    refine D_g_warp C (isX_now _ _ _ _ _) q189 dX0_count_132 ?_
    refine g_aload_n C dX0_count_135 (gr _) rfl ?_
    refine X_g_now C q218 dX0_count_136 ?_
    refine D_g_ends C (isX_now _ _ _ _ _) q175 dX0_count_139 ?_
    refine g_callS1z C (mX0_repeat_E hY ((isX_now _ _ _ _ _)) (hO) (rfl)) (lw_S q1143 q1144 q67 q1145) nd_X0_repeat ⟨by decide, by decide⟩ ⟨Nat.le_of_ble_eq_true rfl, Nat.le_of_ble_eq_true rfl⟩ rfl (Nat.le_of_ble_eq_true rfl) dX0_count_142 ?_
    exact g_iret C hQ rfl dX0_count_145 ⟨gv (by unfold countV; (repeat (first | rw [if_pos (by omega)] | rw [if_neg (by omega)])); try (first | rfl | (congr 1; omega))), rfl, rfl⟩
  · refine g_tabIn C (off := 145) (tgt := 146) dX0_count_1 (by omega) (by omega) (by rw [w1]; rfl) (by decide) ?_
    refine g_aload_n C dX0_count_146 (gr _) rfl ?_
    refine X_g_now C q218 dX0_count_147 ?_
    refine D_g_weft C (isX_now _ _ _ _ _) q191 dX0_count_150 ?_
    refine g_aload_n C dX0_count_153 (gr _) rfl ?_
    refine X_g_now C q218 dX0_count_154 ?_
    refine D_g_picks C (isX_now _ _ _ _ _) q179 dX0_count_157 ?_
    refine g_callS1z C (mX0_repeat_P hY ((isX_now _ _ _ _ _)) (hO) (rfl)) (lw_S q1143 q1144 q67 q1145) nd_X0_repeat ⟨by decide, by decide⟩ ⟨Nat.le_of_ble_eq_true rfl, Nat.le_of_ble_eq_true rfl⟩ rfl (Nat.le_of_ble_eq_true rfl) dX0_count_160 ?_
    exact g_iret C hQ rfl dX0_count_163 ⟨gv (by unfold countV; (repeat (first | rw [if_pos (by omega)] | rw [if_neg (by omega)])); try (first | rfl | (congr 1; omega))), rfl, rfl⟩
  · refine g_tabIn C (off := 163) (tgt := 164) dX0_count_1 (by omega) (by omega) (by rw [w1]; rfl) (by decide) ?_
    refine g_aload_n C dX0_count_164 (gr _) rfl ?_
    refine g_callV1z C (mX0_stitches hY (hO)) (lw_V q1152 q1154 qs22 q67 q1155) ⟨rfl, nd_X0_stitches⟩ (ovX_0 _ _ _ _ _) rfl ⟨by decide, by decide⟩ ⟨Nat.le_of_ble_eq_true rfl, Nat.le_of_ble_eq_true rfl⟩ rfl (Nat.le_of_ble_eq_true rfl) dX0_count_165 ?_
    exact g_iret C hQ rfl dX0_count_168 ⟨gv (by unfold countV; (repeat (first | rw [if_pos (by omega)] | rw [if_neg (by omega)])); try (first | rfl | (congr 1; omega))), rfl, rfl⟩
  · refine g_tabIn C (off := 168) (tgt := 169) dX0_count_1 (by omega) (by omega) (by rw [w1]; rfl) (by decide) ?_
    refine g_aload_n C dX0_count_169 (gr _) rfl ?_
    refine g_callV1z C (mX0_alike hY (hO)) (lw_V q1156 q1158 qs23 q67 q1159) ⟨rfl, nd_X0_alike⟩ (ovX_0 _ _ _ _ _) rfl ⟨by decide, by decide⟩ ⟨Nat.le_of_ble_eq_true rfl, Nat.le_of_ble_eq_true rfl⟩ rfl (Nat.le_of_ble_eq_true rfl) dX0_count_170 ?_
    exact g_iret C hQ rfl dX0_count_173 ⟨gv (by unfold countV; (repeat (first | rw [if_pos (by omega)] | rw [if_neg (by omega)])); try (first | rfl | (congr 1; omega))), rfl, rfl⟩
  · refine g_tabIn C (off := 173) (tgt := 174) dX0_count_1 (by omega) (by omega) (by rw [w1]; rfl) (by decide) ?_
    refine g_aload_n C dX0_count_174 (gr _) rfl ?_
    refine X_g_now C q218 dX0_count_175 ?_
    refine D_g_warp C (isX_now _ _ _ _ _) q189 dX0_count_178 ?_
    refine g_aload_n C dX0_count_181 (gr _) rfl ?_
    refine X_g_now C q218 dX0_count_182 ?_
    refine D_g_ends C (isX_now _ _ _ _ _) q175 dX0_count_185 ?_
    refine g_aload_n C dX0_count_188 (gr _) rfl ?_
    refine X_g_now C q218 dX0_count_189 ?_
    refine D_g_shafts C (isX_now _ _ _ _ _) q182 dX0_count_192 ?_
    refine g_callS1z C (mX0_idle_E hY ((isX_now _ _ _ _ _)) (hO) (by omega)) (lw_S q1164 q1165 q67 q1166) nd_X0_idle ⟨by decide, by decide⟩ ⟨Nat.le_of_ble_eq_true rfl, Nat.le_of_ble_eq_true rfl⟩ rfl (Nat.le_of_ble_eq_true rfl) dX0_count_195 ?_
    exact g_iret C hQ rfl dX0_count_198 ⟨gv (by unfold countV; (repeat (first | rw [if_pos (by omega)] | rw [if_neg (by omega)])); try (first | rfl | (congr 1; omega))), rfl, rfl⟩
  · refine g_tabIn C (off := 198) (tgt := 199) dX0_count_1 (by omega) (by omega) (by rw [w1]; rfl) (by decide) ?_
    refine g_aload_n C dX0_count_199 (gr _) rfl ?_
    refine X_g_now C q218 dX0_count_200 ?_
    refine D_g_weft C (isX_now _ _ _ _ _) q191 dX0_count_203 ?_
    refine g_aload_n C dX0_count_206 (gr _) rfl ?_
    refine X_g_now C q218 dX0_count_207 ?_
    refine D_g_picks C (isX_now _ _ _ _ _) q179 dX0_count_210 ?_
    refine g_aload_n C dX0_count_213 (gr _) rfl ?_
    refine X_g_now C q218 dX0_count_214 ?_
    refine D_g_treadles C (isX_now _ _ _ _ _) q185 dX0_count_217 ?_
    refine g_callS1z C (mX0_idle_P hY ((isX_now _ _ _ _ _)) (hO) (by omega)) (lw_S q1164 q1165 q67 q1166) nd_X0_idle ⟨by decide, by decide⟩ ⟨Nat.le_of_ble_eq_true rfl, Nat.le_of_ble_eq_true rfl⟩ rfl (Nat.le_of_ble_eq_true rfl) dX0_count_220 ?_
    exact g_iret C hQ rfl dX0_count_223 ⟨gv (by unfold countV; (repeat (first | rw [if_pos (by omega)] | rw [if_neg (by omega)])); try (first | rfl | (congr 1; omega))), rfl, rfl⟩
  · refine g_tabIn C (off := 223) (tgt := 224) dX0_count_1 (by omega) (by omega) (by rw [w1]; rfl) (by decide) ?_
    refine g_aload_n C dX0_count_224 (gr _) rfl ?_
    refine g_callV1z C (mX0_ups hY (hO)) (lw_V q1167 q1169 qs25 q67 q1170) ⟨rfl, nd_X0_ups⟩ (ovX_0 _ _ _ _ _) rfl ⟨by decide, by decide⟩ ⟨Nat.le_of_ble_eq_true rfl, Nat.le_of_ble_eq_true rfl⟩ rfl (Nat.le_of_ble_eq_true rfl) dX0_count_225 ?_
    exact g_iret C hQ rfl dX0_count_228 ⟨gv (by unfold countV; (repeat (first | rw [if_pos (by omega)] | rw [if_neg (by omega)])); try (first | rfl | (congr 1; omega))), rfl, rfl⟩
  · refine g_tabIn C (off := 228) (tgt := 229) dX0_count_1 (by omega) (by omega) (by rw [w1]; rfl) (by decide) ?_
    refine g_aload_n C dX0_count_229 (gr _) rfl ?_
    refine g_callV1z C (mX0_threads hY (hr0) (h4)) (lw_V q1177 q1179 qs26 q67 q1180) ⟨rfl, nd_X0_threads⟩ (ovX_0 _ _ _ _ _) rfl ⟨by decide, by decide⟩ ⟨Nat.le_of_ble_eq_true rfl, Nat.le_of_ble_eq_true rfl⟩ rfl (Nat.le_of_ble_eq_true rfl) dX0_count_230 ?_
    exact g_iret C hQ rfl dX0_count_233 ⟨gv (by unfold countV; (repeat (first | rw [if_pos (by omega)] | rw [if_neg (by omega)])); try (first | rfl | (congr 1; omega))), rfl, rfl⟩
  · refine g_tabIn C (off := 233) (tgt := 234) dX0_count_1 (by omega) (by omega) (by rw [w1]; rfl) (by decide) ?_
    refine g_aload_n C dX0_count_234 (gr _) rfl ?_
    refine X_g_backMany C q222 dX0_count_235 ?_
    exact g_iret C hQ rfl dX0_count_238 ⟨gv (by unfold countV; (repeat (first | rw [if_pos (by omega)] | rw [if_neg (by omega)])); try (first | rfl | (congr 1; omega))), rfl, rfl⟩
  · refine g_tabIn C (off := 238) (tgt := 239) dX0_count_1 (by omega) (by omega) (by rw [w1]; rfl) (by decide) ?_
    refine g_aload_n C dX0_count_239 (gr _) rfl ?_
    refine X_g_letters C q234 dX0_count_240 ?_
    exact g_iret C hQ rfl dX0_count_243 ⟨gv (by unfold countV; (repeat (first | rw [if_pos (by omega)] | rw [if_neg (by omega)])); try (first | rfl | (congr 1; omega))), rfl, rfl⟩
  · refine g_tabOut C (tgt := 244) dX0_count_1 (by omega) (by omega) (by decide) ?_
    refine g_bipush C dX0_count_244 (by decide +kernel) ?_
    exact g_iret C hQ rfl dX0_count_246 ⟨gv (by unfold countV; (repeat (first | rw [if_pos (by omega)] | rw [if_neg (by omega)])); try (first | rfl | (congr 1; omega))), rfl, rfl⟩
