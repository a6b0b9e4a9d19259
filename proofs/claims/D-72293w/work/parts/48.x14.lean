/-! THE COMPONENT: tell -/
set_option maxRecDepth 100000
def tlS (S : MS) (A : Int → Int) : MS :=
  if A 0 = 0 then ud S 0 (dStart (S 0) (A 1) (A 2) (A 3) (A 4)) else if A 0 = 1 then us S 0 (4 + A 1) (A 2) else if A 0 = 2 then us S 0 (16 + A 1) (xorI (S 0 (16 + A 1)) (shI (A 2)))
  else if A 0 = 3 then us S 0 (22 + A 1) (A 2) else if A 0 = 4 then us S 0 (34 + A 1) (A 2) else if A 0 = 5 then us S 0 (46 + A 1) (A 2) else if A 0 = 6 then us (us S 10 0 0) 10 1 0
  else us (us (us S 10 0 (S 10 0 + 1)) 1 (S 10 0) (A 1)) 10 1 (A 2)
/-- what a clause may hold -/
def tlOk (S : MS) (n : Nat) (A : Int → Int) : Prop := (0 ≤ A 0 ∧ A 0 ≤ 7 ∧ 1 ≤ (n : Int) ∧ (n : Int) ≤ 5) ∧ (A 0 = 0 → (n : Int) = 5 ∧ (1 ≤ A 3 ∧ A 3 ≤ 6) ∧ 1 ≤ A 4 ∧ A 4 ≤ 6) ∧ (1 ≤ A 0 ∧ A 0 ≤ 5 ∨ A 0 = 7 → (n : Int) = 3) ∧ (A 0 = 1 ∨ A 0 = 3 ∨ A 0 = 4 ∨ A 0 = 5 → 0 ≤ A 1 ∧ A 1 < 12) ∧ (A 0 = 2 → (0 ≤ A 1 ∧ A 1 < 6) ∧ 0 ≤ A 2 ∧ A 2 < 6) ∧ (A 0 = 7 → 0 ≤ S 10 0 ∧ S 10 0 < 12)

theorem nd_X0_tell : yX0_tell.cls ≠ "java/lang/invoke/MethodHandle" ∧ yX0_tell.cls ≠ "java/lang/invoke/VarHandle" ∧ (parseMethodDescriptor yX0_tell.desc).map (fun d => d.parameters.length) = some 1 := by decide +kernel
theorem mX0_tell {l : Launch} {D : va_G} {dA : Nat → ClassId} {N0 : Nat} {Y : State → Prop} (hY : gYc N0 Y) {h : gH} {sz x : Nat} {S : MS} {P : PS} {a n : Nat} {A : Int → Int} (hO : OkD (S 0)) (hA : h a = some (gI (dA 0) n A)) (hax : a < x ∨ x + 62 ≤ a) (ht : tlOk S n A) : gM l D dA N0 Y yX0_tell cX0_tell 2 none 1 25 0 0 [.ref x, .ref a] (ovX dA x S P h) sz (gP none (ovX dA x (tlS S A) P h) sz) := by
  refine gM.of hY.ok (by decide +kernel) (Nat.le_of_ble_eq_true rfl) ?_
  intro X hX C hQ
  subst hX
  have C : gC X cX0_tell RX0 "tell" 2 none D dA N0 Y ({ frames := 1, cells := 0, slots := 0, locals := 25 }) := C
  show G X 0 0 _ _ 0 [some (.ref x), some (.ref a)] []
  obtain ⟨t0, t1, t2, t3, t4, t5⟩ := ht
  refine g_aload_n C dX0_tell_0 (gr _) rfl ?_
  refine g_iconst C dX0_tell_1 ?_
  refine g_iald C ((ovX_off _ _ _ _ _ hax).trans hA) (by omega) dX0_tell_2 ?_
  rcases (show A 0 = 0 ∨ A 0 = 1 ∨ A 0 = 2 ∨ A 0 = 3 ∨ A 0 = 4 ∨ A 0 = 5 ∨ A 0 = 6 ∨ (A 0 < 0 ∨ 6 < A 0) by omega) with w1 | w1 | w1 | w1 | w1 | w1 | w1 | w1
  · refine g_tabIn C (off := 41) (tgt := 44) dX0_tell_3 (by omega) (by omega) (by rw [w1]; rfl) (by decide) ?_
    refine g_aload_n C dX0_tell_44 (gr _) rfl ?_
    refine X_g_now C q218 dX0_tell_45 ?_
    refine g_aload_n C dX0_tell_48 (gr _) rfl ?_
    refine g_iconst C dX0_tell_49 ?_
    refine g_iald C ((ovX_off _ _ _ _ _ hax).trans hA) (by omega) dX0_tell_50 ?_
    refine g_aload_n C dX0_tell_51 (gr _) rfl ?_
    refine g_iconst C dX0_tell_52 ?_
    refine g_iald C ((ovX_off _ _ _ _ _ hax).trans hA) (by omega) dX0_tell_53 ?_
    refine g_aload_n C dX0_tell_54 (gr _) rfl ?_
    refine g_iconst C dX0_tell_55 ?_
    refine g_iald C ((ovX_off _ _ _ _ _ hax).trans hA) (by omega) dX0_tell_56 ?_
    refine g_aload_n C dX0_tell_57 (gr _) rfl ?_
    refine g_iconst C dX0_tell_58 ?_
    refine g_iald C ((ovX_off _ _ _ _ _ hax).trans hA) (by omega) dX0_tell_59 ?_
    refine g_hE (ovX_now dA x S P h) ?_
    refine g_callV0z C (mX1_start hY (by omega) (by omega)) (lw_V q722 q169 q170 q68 q171) ⟨rfl, nd_X1_start⟩ (isD_0 (isD_ov _ _ _ _ _)) rfl ⟨by decide, by decide⟩ ⟨Nat.le_of_ble_eq_true rfl, Nat.le_of_ble_eq_true rfl⟩ rfl (Nat.le_of_ble_eq_true rfl) dX0_tell_60 ?_
    refine g_hE (ovX_dn _ _ _ _ _ _) ?_
    refine g_goto C (tgt := 207) dX0_tell_63 (by decide) ?_
    exact g_vret C hQ rfl dX0_tell_207 ⟨rfl, gx (by rw [tlS, if_pos (by omega)]), rfl⟩
  · refine g_tabIn C (off := 63) (tgt := 66) dX0_tell_3 (by omega) (by omega) (by rw [w1]; rfl) (by decide) ?_
    refine g_aload_n C dX0_tell_66 (gr _) rfl ?_
    refine X_g_now C q218 dX0_tell_67 ?_
    refine D_g_warp C (isX_now _ _ _ _ _) q189 dX0_tell_70 ?_
    refine g_aload_n C dX0_tell_73 (gr _) rfl ?_
    refine g_iconst C dX0_tell_74 ?_
    refine g_iald C ((ovX_off _ _ _ _ _ hax).trans hA) (by omega) dX0_tell_75 ?_
    refine D_ld_warp C (isX_now _ _ _ _ _) (by omega) dX0_tell_76 ?_
    refine g_aload_n C dX0_tell_77 (gr _) rfl ?_
    refine g_iconst C dX0_tell_78 ?_
    refine g_iald C ((ovX_off _ _ _ _ _ hax).trans hA) (by omega) dX0_tell_79 ?_
    refine XN_pE_tied C (by omega) (Or.inr q130) q133 dX0_tell_80 ?_
    refine g_goto C (tgt := 207) dX0_tell_83 (by decide) ?_
    exact g_vret C hQ rfl dX0_tell_207 ⟨rfl, gx (by rw [tlS, if_neg (by omega), if_pos (by omega)]), rfl⟩
  · refine g_tabIn C (off := 83) (tgt := 86) dX0_tell_3 (by omega) (by omega) (by rw [w1]; rfl) (by decide) ?_
    refine g_aload_n C dX0_tell_86 (gr _) rfl ?_
    refine X_g_now C q218 dX0_tell_87 ?_
    refine D_g_ties C (isX_now _ _ _ _ _) q187 dX0_tell_90 ?_
    refine g_aload_n C dX0_tell_93 (gr _) rfl ?_
    refine g_iconst C dX0_tell_94 ?_
    refine g_iald C ((ovX_off _ _ _ _ _ hax).trans hA) (by omega) dX0_tell_95 ?_
    refine g_dup2 C dX0_tell_96 rfl rfl ?_
    refine D_ld_ties C (isX_now _ _ _ _ _) (by omega) dX0_tell_97 ?_
    refine g_iconst C dX0_tell_98 ?_
    refine g_aload_n C dX0_tell_99 (gr _) rfl ?_
    refine g_iconst C dX0_tell_100 ?_
    refine g_iald C ((ovX_off _ _ _ _ _ hax).trans hA) (by omega) dX0_tell_101 ?_
    refine g_ishl C dX0_tell_102 (zI_shl (by omega)) ?_
    have hsh := sh6 (i := A 2) (by omega)
    have htd := hO.tied (A 1) (by omega)
    refine g_ixor C dX0_tell_103 (zI_xor (by omega)) ?_
    refine XN_st_ties C (by omega) dX0_tell_104 ?_
    refine g_goto C (tgt := 207) dX0_tell_105 (by decide) ?_
    exact g_vret C hQ rfl dX0_tell_207 ⟨rfl, gx (by rw [tlS, if_neg (by omega), if_neg (by omega), if_pos (by omega)]), rfl⟩
  · refine g_tabIn C (off := 105) (tgt := 108) dX0_tell_3 (by omega) (by omega) (by rw [w1]; rfl) (by decide) ?_
    refine g_aload_n C dX0_tell_108 (gr _) rfl ?_
    refine X_g_now C q218 dX0_tell_109 ?_
    refine D_g_weft C (isX_now _ _ _ _ _) q191 dX0_tell_112 ?_
    refine g_aload_n C dX0_tell_115 (gr _) rfl ?_
    refine g_iconst C dX0_tell_116 ?_
    refine g_iald C ((ovX_off _ _ _ _ _ hax).trans hA) (by omega) dX0_tell_117 ?_
    refine D_ld_weft C (isX_now _ _ _ _ _) (by omega) dX0_tell_118 ?_
    refine g_aload_n C dX0_tell_119 (gr _) rfl ?_
    refine g_iconst C dX0_tell_120 ?_
    refine g_iald C ((ovX_off _ _ _ _ _ hax).trans hA) (by omega) dX0_tell_121 ?_
    refine XN_pP_tied C (by omega) (Or.inr q132) q134 dX0_tell_122 ?_
    refine g_goto C (tgt := 207) dX0_tell_125 (by decide) ?_
    exact g_vret C hQ rfl dX0_tell_207 ⟨rfl, gx (by rw [tlS, if_neg (by omega), if_neg (by omega), if_neg (by omega), if_pos (by omega)]), rfl⟩
  · refine g_tabIn C (off := 125) (tgt := 128) dX0_tell_3 (by omega) (by omega) (by rw [w1]; rfl) (by decide) ?_
    refine g_aload_n C dX0_tell_128 (gr _) rfl ?_
    refine X_g_now C q218 dX0_tell_129 ?_
    refine D_g_warp C (isX_now _ _ _ _ _) q189 dX0_tell_132 ?_
    refine g_aload_n C dX0_tell_135 (gr _) rfl ?_
    refine g_iconst C dX0_tell_136 ?_
    refine g_iald C ((ovX_off _ _ _ _ _ hax).trans hA) (by omega) dX0_tell_137 ?_
    refine D_ld_warp C (isX_now _ _ _ _ _) (by omega) dX0_tell_138 ?_
    refine g_aload_n C dX0_tell_139 (gr _) rfl ?_
    refine g_iconst C dX0_tell_140 ?_
    refine g_iald C ((ovX_off _ _ _ _ _ hax).trans hA) (by omega) dX0_tell_141 ?_
    refine XN_pE_colour C (by omega) (Or.inr q138) q141 dX0_tell_142 ?_
    refine g_goto C (tgt := 207) dX0_tell_145 (by decide) ?_
    exact g_vret C hQ rfl dX0_tell_207 ⟨rfl, gx (by rw [tlS, if_neg (by omega), if_neg (by omega), if_neg (by omega), if_neg (by omega), if_pos (by omega)]), rfl⟩
  · refine g_tabIn C (off := 145) (tgt := 148) dX0_tell_3 (by omega) (by omega) (by rw [w1]; rfl) (by decide) ?_
    refine g_aload_n C dX0_tell_148 (gr _) rfl ?_
    refine X_g_now C q218 dX0_tell_149 ?_
    refine D_g_weft C (isX_now _ _ _ _ _) q191 dX0_tell_152 ?_
    refine g_aload_n C dX0_tell_155 (gr _) rfl ?_
    refine g_iconst C dX0_tell_156 ?_
    refine g_iald C ((ovX_off _ _ _ _ _ hax).trans hA) (by omega) dX0_tell_157 ?_
    refine D_ld_weft C (isX_now _ _ _ _ _) (by omega) dX0_tell_158 ?_
    refine g_aload_n C dX0_tell_159 (gr _) rfl ?_
    refine g_iconst C dX0_tell_160 ?_
    refine g_iald C ((ovX_off _ _ _ _ _ hax).trans hA) (by omega) dX0_tell_161 ?_
    refine XN_pP_colour C (by omega) (Or.inr q140) q142 dX0_tell_162 ?_
    refine g_goto C (tgt := 207) dX0_tell_165 (by decide) ?_
    exact g_vret C hQ rfl dX0_tell_207 ⟨rfl, gx (by rw [tlS, if_neg (by omega), if_neg (by omega), if_neg (by omega), if_neg (by omega), if_neg (by omega), if_pos (by omega)]), rfl⟩
  · refine g_tabIn C (off := 165) (tgt := 168) dX0_tell_3 (by omega) (by omega) (by rw [w1]; rfl) (by decide) ?_
    refine g_aload_n C dX0_tell_168 (gr _) rfl ?_
    refine g_iconst C dX0_tell_169 ?_
    refine X_p_rowMany C q228 dX0_tell_170 ?_
    refine g_aload_n C dX0_tell_173 (gr _) rfl ?_
    refine g_iconst C dX0_tell_174 ?_
    refine X_p_wide C q230 dX0_tell_175 ?_
    refine g_goto C (tgt := 207) dX0_tell_178 (by decide) ?_
    exact g_vret C hQ rfl dX0_tell_207 ⟨rfl, gx (by rw [tlS, if_neg (by omega), if_neg (by omega), if_neg (by omega), if_neg (by omega), if_neg (by omega), if_neg (by omega), if_pos (by omega)]), rfl⟩
  · refine g_tabOut C (tgt := 181) dX0_tell_3 (by omega) (by omega) (by decide) ?_
    refine g_aload_n C dX0_tell_181 (gr _) rfl ?_
    refine X_g_rows C q225 dX0_tell_182 ?_
    refine g_aload_n C dX0_tell_185 (gr _) rfl ?_
    refine g_dup C dX0_tell_186 rfl ?_
    refine X_g_rowMany C q228 dX0_tell_187 ?_
    refine g_dup_x1 C dX0_tell_190 rfl rfl ?_
    refine g_iconst C dX0_tell_191 ?_
    refine g_iadd C dX0_tell_192 ?_
    refine X_p_rowMany C q228 dX0_tell_193 ?_
    refine g_aload_n C dX0_tell_196 (gr _) rfl ?_
    refine g_iconst C dX0_tell_197 ?_
    refine g_iald C ((ovX_off _ _ _ _ _ hax).trans hA) (by omega) dX0_tell_198 ?_
    refine X_st_rows C (by omega) dX0_tell_199 ?_
    refine g_aload_n C dX0_tell_200 (gr _) rfl ?_
    refine g_aload_n C dX0_tell_201 (gr _) rfl ?_
    refine g_iconst C dX0_tell_202 ?_
    refine g_iald C ((ovX_off _ _ _ _ _ hax).trans hA) (by omega) dX0_tell_203 ?_
    refine X_p_wide C q230 dX0_tell_204 ?_
    exact g_vret C hQ rfl dX0_tell_207 ⟨rfl, gx (by rw [tlS, if_neg (by omega), if_neg (by omega), if_neg (by omega), if_neg (by omega), if_neg (by omega), if_neg (by omega), if_neg (by omega), ]), rfl⟩
