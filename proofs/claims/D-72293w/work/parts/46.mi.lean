/-! THE REFERENCE: its constructor -/
set_option maxRecDepth 100000
theorem gup_gup0 (h : gH) (a : Nat) (e e' : va_E) : gup (gup h a e) a e' = gup h a e' := by
  funext q
  unfold gup
  split <;> rfl
def wdK (k : Int) : Int → Int := fun j => if 0 ≤ j ∧ j < k then wdC j else 0
theorem wdK_0 : (fun _ => 0) = wdK 0 := by
  funext j; unfold wdK; rw [if_neg (by omega)]
theorem wdK_s {k v : Int} (hk : 0 ≤ k) (hv : v = wdC k) : uI (wdK k) k v = wdK (k + 1) := by
  funext j
  unfold uI wdK
  by_cases h : j = k
  · rw [if_pos h, if_pos (by omega), h, hv]
  · rw [if_neg h]
    by_cases h2 : 0 ≤ j ∧ j < k
    · rw [if_pos h2, if_pos (by omega)]
    · rw [if_neg h2, if_neg (by omega)]
def S00 : MS := fun a => if a = 4 then uI (uI (uI (fun _ => 0) 0 (-1)) 1 (-1)) 2 (-1) else if a = 8 then wdK 40 else fun _ => 0
theorem initM (dA : Nat → ClassId) (m : Nat) (h : gH) (e0 e1 e2 e3 e4 e5 e6 e7 e8 e9 : va_E) : gup (gup (gup (gup (gup (gup (gup (gup (gup (gup (gup (gup (gup (gup (gup (gup (gup (gup (gup (gup (gup h m e0) (m + 1) (gI (dA 0) 638 (fun _ => 0))) m e1) (m + 2) (gI (dA 0) 12 (fun _ => 0))) m e2) (m + 3) (gI (dA 2) 2 (fun _ => 0))) m e3) (m + 4) (gI (dA 0) 200 (fun _ => 0))) m e4) (m + 5) (gI (dA 0) 3 (S00 4))) m e5) (m + 6) (gI (dA 0) 24 (fun _ => 0))) m e6) (m + 7) (gI (dA 0) 6 (fun _ => 0))) m e7) (m + 8) (gI (dA 0) 4 (fun _ => 0))) m e8) (m + 9) (gI (dA 0) 40 (S00 8))) m e9) (m + 10) (gI (dA 0) 6 (fun _ => 0))) m (gO 4 (mO m S00)) = ovM dA m S00 h := by
  funext q
  by_cases h0 : q = m
  · rw [h0, gup_s, ovM_0]
  rw [gup_n _ _ h0]
  by_cases g9 : q = m + 10
  · rw [g9, gup_s, ovM_10]; rfl
  rw [gup_n _ _ g9, gup_n _ _ h0]
  by_cases g8 : q = m + 9
  · rw [g8, gup_s, ovM_9]
  rw [gup_n _ _ g8, gup_n _ _ h0]
  by_cases g7 : q = m + 8
  · rw [g7, gup_s, ovM_8]; rfl
  rw [gup_n _ _ g7, gup_n _ _ h0]
  by_cases g6 : q = m + 7
  · rw [g6, gup_s, ovM_7]; rfl
  rw [gup_n _ _ g6, gup_n _ _ h0]
  by_cases g5 : q = m + 6
  · rw [g5, gup_s, ovM_6]; rfl
  rw [gup_n _ _ g5, gup_n _ _ h0]
  by_cases g4 : q = m + 5
  · rw [g4, gup_s, ovM_5]
  rw [gup_n _ _ g4, gup_n _ _ h0]
  by_cases g3 : q = m + 4
  · rw [g3, gup_s, ovM_4]; rfl
  rw [gup_n _ _ g3, gup_n _ _ h0]
  by_cases g2 : q = m + 3
  · rw [g2, gup_s, ovM_3]; rfl
  rw [gup_n _ _ g2, gup_n _ _ h0]
  by_cases g1 : q = m + 2
  · rw [g1, gup_s, ovM_2]; rfl
  rw [gup_n _ _ g1, gup_n _ _ h0]
  by_cases g0 : q = m + 1
  · rw [g0, gup_s, ovM_1]; rfl
  rw [gup_n _ _ g0, gup_n _ _ h0]
  rw [ovM_off _ _ _ _ (by omega)]

theorem nd_X5_init : yX5_init.cls ≠ "java/lang/invoke/MethodHandle" ∧ yX5_init.cls ≠ "java/lang/invoke/VarHandle" ∧ (parseMethodDescriptor yX5_init.desc).map (fun d => d.parameters.length) = some 0 := by decide +kernel
theorem mX5_init {l : Launch} {D : va_G} {dA : Nat → ClassId} {N0 : Nat} {Y : State → Prop} (hY : gYok N0 Y) {h : gH} {m : Nat} : gM l D dA N0 Y yX5_init cX5_init 1 none 1 25 10 935 [.ref m] (gup h m (gO 4 [.null, .null, vI 0, vI 0, vI 0, .null, .null, vI 0, .null, .null, vI 0, vI 0, .null, vI 0, vI 0, .null, .null, .null])) (m + 1) (gP none (ovM dA m (anewS S00 4 4 2 2) h) (m + 11)) := by
  refine gM.of hY (by decide +kernel) (Nat.le_of_ble_eq_true rfl) ?_
  intro X hX C hQ
  subst hX
  have C : gC X cX5_init RX5 "<init>" 1 none D dA N0 Y ({ frames := 1, cells := 10, slots := 935, locals := 25 }) := C
  show G X 0 0 _ _ 0 [some (.ref m)] []
  refine g_aload_n C dX5_init_0 (gr _) rfl ?_
  refine g_objInit C q1186 q106 q107 (Nat.le_of_ble_eq_true rfl) ⟨by decide, by decide⟩ dX5_init_1 ?_
  refine g_aload_n C dX5_init_4 (gr _) rfl ?_
  refine g_sipush C dX5_init_5 (by decide +kernel) ?_
  refine g_newa (N := 638) (atype := .int) (ty := .int) C 0 rfl rfl (fun _ _ => rfl) rfl q153 (Nat.le_of_ble_eq_true rfl) (by decide) ⟨Nat.le_of_ble_eq_true rfl, Nat.le_of_ble_eq_true rfl⟩ dX5_init_8 (fun _ => ?_)
  refine g_putF C ((gup_n _ _ (by omega)).trans (gup_s _ _ _)) (ci := 4) rfl in_X5 0 (by decide) tyX5 tyX5_ok nmX5 q1191 (Or.inl rfl) rfl rfl rfl rfl rfl (Nat.le_of_ble_eq_true rfl) dX5_init_10 ?_
  refine g_aload_n C dX5_init_13 (gr _) rfl ?_
  refine g_bipush C dX5_init_14 (by decide +kernel) ?_
  refine g_newa (N := 12) (atype := .int) (ty := .int) C 0 rfl rfl (fun _ _ => rfl) rfl q153 (Nat.le_of_ble_eq_true rfl) (by decide) ⟨Nat.le_of_ble_eq_true rfl, Nat.le_of_ble_eq_true rfl⟩ dX5_init_16 (fun _ => ?_)
  refine g_putF C ((gup_n _ _ (by omega)).trans (gup_s _ _ _)) (ci := 4) rfl in_X5 1 (by decide) tyX5 tyX5_ok nmX5 q1192 (Or.inl rfl) rfl rfl rfl rfl rfl (Nat.le_of_ble_eq_true rfl) dX5_init_18 ?_
  refine g_aload_n C dX5_init_21 (gr _) rfl ?_
  refine g_iconst C dX5_init_22 ?_
  refine g_newa (N := 2) (atype := .boolean) (ty := .boolean) C 2 rfl rfl (fun _ _ => rfl) rfl q1246 (Nat.le_of_ble_eq_true rfl) (by decide) ⟨Nat.le_of_ble_eq_true rfl, Nat.le_of_ble_eq_true rfl⟩ dX5_init_23 (fun _ => ?_)
  refine g_putF C ((gup_n _ _ (by omega)).trans (gup_s _ _ _)) (ci := 4) rfl in_X5 5 (by decide) tyX5 tyX5_ok nmX5 q1196 (Or.inl rfl) rfl rfl rfl rfl rfl (Nat.le_of_ble_eq_true rfl) dX5_init_25 ?_
  refine g_aload_n C dX5_init_28 (gr _) rfl ?_
  refine g_sipush C dX5_init_29 (by decide +kernel) ?_
  refine g_newa (N := 200) (atype := .int) (ty := .int) C 0 rfl rfl (fun _ _ => rfl) rfl q153 (Nat.le_of_ble_eq_true rfl) (by decide) ⟨Nat.le_of_ble_eq_true rfl, Nat.le_of_ble_eq_true rfl⟩ dX5_init_32 (fun _ => ?_)
  refine g_putF C ((gup_n _ _ (by omega)).trans (gup_s _ _ _)) (ci := 4) rfl in_X5 6 (by decide) tyX5 tyX5_ok nmX5 q1197 (Or.inl rfl) rfl rfl rfl rfl rfl (Nat.le_of_ble_eq_true rfl) dX5_init_34 ?_
  refine g_aload_n C dX5_init_37 (gr _) rfl ?_
  refine g_iconst C dX5_init_38 ?_
  refine g_newa (N := 3) (atype := .int) (ty := .int) C 0 rfl rfl (fun _ _ => rfl) rfl q153 (Nat.le_of_ble_eq_true rfl) (by decide) ⟨Nat.le_of_ble_eq_true rfl, Nat.le_of_ble_eq_true rfl⟩ dX5_init_39 (fun _ => ?_)
  refine g_dup C dX5_init_41 rfl ?_
  refine g_iconst C dX5_init_42 ?_
  refine g_iconst C dX5_init_43 ?_
  refine g_iast C (gup_s _ _ _) (by omega) dX5_init_44 ?_
  refine g_hE (gup_gup0 _ _ _ _) ?_
  refine g_dup C dX5_init_45 rfl ?_
  refine g_iconst C dX5_init_46 ?_
  refine g_iconst C dX5_init_47 ?_
  refine g_iast C (gup_s _ _ _) (by omega) dX5_init_48 ?_
  refine g_hE (gup_gup0 _ _ _ _) ?_
  refine g_dup C dX5_init_49 rfl ?_
  refine g_iconst C dX5_init_50 ?_
  refine g_iconst C dX5_init_51 ?_
  refine g_iast C (gup_s _ _ _) (by omega) dX5_init_52 ?_
  refine g_hE (gup_gup0 _ _ _ _) ?_
  refine g_putF C ((gup_n _ _ (by omega)).trans (gup_s _ _ _)) (ci := 4) rfl in_X5 8 (by decide) tyX5 tyX5_ok nmX5 q1199 (Or.inl rfl) rfl rfl rfl rfl rfl (Nat.le_of_ble_eq_true rfl) dX5_init_53 ?_
  refine g_aload_n C dX5_init_56 (gr _) rfl ?_
  refine g_bipush C dX5_init_57 (by decide +kernel) ?_
  refine g_newa (N := 24) (atype := .int) (ty := .int) C 0 rfl rfl (fun _ _ => rfl) rfl q153 (Nat.le_of_ble_eq_true rfl) (by decide) ⟨Nat.le_of_ble_eq_true rfl, Nat.le_of_ble_eq_true rfl⟩ dX5_init_59 (fun _ => ?_)
  refine g_putF C ((gup_n _ _ (by omega)).trans (gup_s _ _ _)) (ci := 4) rfl in_X5 9 (by decide) tyX5 tyX5_ok nmX5 q1200 (Or.inl rfl) rfl rfl rfl rfl rfl (Nat.le_of_ble_eq_true rfl) dX5_init_61 ?_
  refine g_aload_n C dX5_init_64 (gr _) rfl ?_
  refine g_bipush C dX5_init_65 (by decide +kernel) ?_
  refine g_newa (N := 6) (atype := .int) (ty := .int) C 0 rfl rfl (fun _ _ => rfl) rfl q153 (Nat.le_of_ble_eq_true rfl) (by decide) ⟨Nat.le_of_ble_eq_true rfl, Nat.le_of_ble_eq_true rfl⟩ dX5_init_67 (fun _ => ?_)
  refine g_putF C ((gup_n _ _ (by omega)).trans (gup_s _ _ _)) (ci := 4) rfl in_X5 12 (by decide) tyX5 tyX5_ok nmX5 q1203 (Or.inl rfl) rfl rfl rfl rfl rfl (Nat.le_of_ble_eq_true rfl) dX5_init_69 ?_
  refine g_aload_n C dX5_init_72 (gr _) rfl ?_
  refine g_iconst C dX5_init_73 ?_
  refine g_newa (N := 4) (atype := .int) (ty := .int) C 0 rfl rfl (fun _ _ => rfl) rfl q153 (Nat.le_of_ble_eq_true rfl) (by decide) ⟨Nat.le_of_ble_eq_true rfl, Nat.le_of_ble_eq_true rfl⟩ dX5_init_74 (fun _ => ?_)
  refine g_putF C ((gup_n _ _ (by omega)).trans (gup_s _ _ _)) (ci := 4) rfl in_X5 15 (by decide) tyX5 tyX5_ok nmX5 q1206 (Or.inl rfl) rfl rfl rfl rfl rfl (Nat.le_of_ble_eq_true rfl) dX5_init_76 ?_
  refine g_aload_n C dX5_init_79 (gr _) rfl ?_
  refine g_bipush C dX5_init_80 (by decide +kernel) ?_
  refine g_newa (N := 40) (atype := .int) (ty := .int) C 0 rfl rfl (fun _ _ => rfl) rfl q153 (Nat.le_of_ble_eq_true rfl) (by decide) ⟨Nat.le_of_ble_eq_true rfl, Nat.le_of_ble_eq_true rfl⟩ dX5_init_82 (fun _ => ?_)
  refine g_hE (congrArg (fun z => gup _ _ (gI (dA 0) 40 z)) wdK_0) ?_
  refine g_dup C dX5_init_84 rfl ?_
  refine g_iconst C dX5_init_85 ?_
  refine g_bipush C dX5_init_86 (by decide +kernel) ?_
  refine g_iast C (gup_s _ _ _) (by omega) dX5_init_88 ?_
  refine g_hE (gup_gup0 _ _ _ _) ?_
  refine g_hE (congrArg (fun z => gup _ _ (gI (dA 0) 40 z)) (wdK_s (k := 0) (by omega) (by decide))) ?_
  refine g_dup C dX5_init_89 rfl ?_
  refine g_iconst C dX5_init_90 ?_
  refine g_bipush C dX5_init_91 (by decide +kernel) ?_
  refine g_iast C (gup_s _ _ _) (by omega) dX5_init_93 ?_
  refine g_hE (gup_gup0 _ _ _ _) ?_
  refine g_hE (congrArg (fun z => gup _ _ (gI (dA 0) 40 z)) (wdK_s (k := 1) (by omega) (by decide))) ?_
  refine g_dup C dX5_init_94 rfl ?_
  refine g_iconst C dX5_init_95 ?_
  refine g_bipush C dX5_init_96 (by decide +kernel) ?_
  refine g_iast C (gup_s _ _ _) (by omega) dX5_init_98 ?_
  refine g_hE (gup_gup0 _ _ _ _) ?_
  refine g_hE (congrArg (fun z => gup _ _ (gI (dA 0) 40 z)) (wdK_s (k := 2) (by omega) (by decide))) ?_
  refine g_dup C dX5_init_99 rfl ?_
  refine g_iconst C dX5_init_100 ?_
  refine g_bipush C dX5_init_101 (by decide +kernel) ?_
  refine g_iast C (gup_s _ _ _) (by omega) dX5_init_103 ?_
  refine g_hE (gup_gup0 _ _ _ _) ?_
  refine g_hE (congrArg (fun z => gup _ _ (gI (dA 0) 40 z)) (wdK_s (k := 3) (by omega) (by decide))) ?_
  refine g_dup C dX5_init_104 rfl ?_
  refine g_iconst C dX5_init_105 ?_
  refine g_bipush C dX5_init_106 (by decide +kernel) ?_
  refine g_iast C (gup_s _ _ _) (by omega) dX5_init_108 ?_
  refine g_hE (gup_gup0 _ _ _ _) ?_
  refine g_hE (congrArg (fun z => gup _ _ (gI (dA 0) 40 z)) (wdK_s (k := 4) (by omega) (by decide))) ?_
  refine g_dup C dX5_init_109 rfl ?_
  refine g_iconst C dX5_init_110 ?_
  refine g_bipush C dX5_init_111 (by decide +kernel) ?_
  refine g_iast C (gup_s _ _ _) (by omega) dX5_init_113 ?_
  refine g_hE (gup_gup0 _ _ _ _) ?_
  refine g_hE (congrArg (fun z => gup _ _ (gI (dA 0) 40 z)) (wdK_s (k := 5) (by omega) (by decide))) ?_
  refine g_dup C dX5_init_114 rfl ?_
  refine g_bipush C dX5_init_115 (by decide +kernel) ?_
  refine g_bipush C dX5_init_117 (by decide +kernel) ?_
  refine g_iast C (gup_s _ _ _) (by omega) dX5_init_119 ?_
  refine g_hE (gup_gup0 _ _ _ _) ?_
  refine g_hE (congrArg (fun z => gup _ _ (gI (dA 0) 40 z)) (wdK_s (k := 6) (by omega) (by decide))) ?_
  refine g_dup C dX5_init_120 rfl ?_
  refine g_bipush C dX5_init_121 (by decide +kernel) ?_
  refine g_bipush C dX5_init_123 (by decide +kernel) ?_
  refine g_iast C (gup_s _ _ _) (by omega) dX5_init_125 ?_
  refine g_hE (gup_gup0 _ _ _ _) ?_
  refine g_hE (congrArg (fun z => gup _ _ (gI (dA 0) 40 z)) (wdK_s (k := 7) (by omega) (by decide))) ?_
  refine g_dup C dX5_init_126 rfl ?_
  refine g_bipush C dX5_init_127 (by decide +kernel) ?_
  refine g_bipush C dX5_init_129 (by decide +kernel) ?_
  refine g_iast C (gup_s _ _ _) (by omega) dX5_init_131 ?_
  refine g_hE (gup_gup0 _ _ _ _) ?_
  refine g_hE (congrArg (fun z => gup _ _ (gI (dA 0) 40 z)) (wdK_s (k := 8) (by omega) (by decide))) ?_
  refine g_dup C dX5_init_132 rfl ?_
  refine g_bipush C dX5_init_133 (by decide +kernel) ?_
  refine g_iconst C dX5_init_135 ?_
  refine g_iast C (gup_s _ _ _) (by omega) dX5_init_136 ?_
  refine g_hE (gup_gup0 _ _ _ _) ?_
  refine g_hE (congrArg (fun z => gup _ _ (gI (dA 0) 40 z)) (wdK_s (k := 9) (by omega) (by decide))) ?_
  refine g_dup C dX5_init_137 rfl ?_
  refine g_bipush C dX5_init_138 (by decide +kernel) ?_
  refine g_bipush C dX5_init_140 (by decide +kernel) ?_
  refine g_iast C (gup_s _ _ _) (by omega) dX5_init_142 ?_
  refine g_hE (gup_gup0 _ _ _ _) ?_
  refine g_hE (congrArg (fun z => gup _ _ (gI (dA 0) 40 z)) (wdK_s (k := 10) (by omega) (by decide))) ?_
  refine g_dup C dX5_init_143 rfl ?_
  refine g_bipush C dX5_init_144 (by decide +kernel) ?_
  refine g_bipush C dX5_init_146 (by decide +kernel) ?_
  refine g_iast C (gup_s _ _ _) (by omega) dX5_init_148 ?_
  refine g_hE (gup_gup0 _ _ _ _) ?_
  refine g_hE (congrArg (fun z => gup _ _ (gI (dA 0) 40 z)) (wdK_s (k := 11) (by omega) (by decide))) ?_
  refine g_dup C dX5_init_149 rfl ?_
  refine g_bipush C dX5_init_150 (by decide +kernel) ?_
  refine g_bipush C dX5_init_152 (by decide +kernel) ?_
  refine g_iast C (gup_s _ _ _) (by omega) dX5_init_154 ?_
  refine g_hE (gup_gup0 _ _ _ _) ?_
  refine g_hE (congrArg (fun z => gup _ _ (gI (dA 0) 40 z)) (wdK_s (k := 12) (by omega) (by decide))) ?_
  refine g_dup C dX5_init_155 rfl ?_
  refine g_bipush C dX5_init_156 (by decide +kernel) ?_
  refine g_iconst C dX5_init_158 ?_
  refine g_iast C (gup_s _ _ _) (by omega) dX5_init_159 ?_
  refine g_hE (gup_gup0 _ _ _ _) ?_
  refine g_hE (congrArg (fun z => gup _ _ (gI (dA 0) 40 z)) (wdK_s (k := 13) (by omega) (by decide))) ?_
  refine g_dup C dX5_init_160 rfl ?_
  refine g_bipush C dX5_init_161 (by decide +kernel) ?_
  refine g_iconst C dX5_init_163 ?_
  refine g_iast C (gup_s _ _ _) (by omega) dX5_init_164 ?_
  refine g_hE (gup_gup0 _ _ _ _) ?_
  refine g_hE (congrArg (fun z => gup _ _ (gI (dA 0) 40 z)) (wdK_s (k := 14) (by omega) (by decide))) ?_
  refine g_dup C dX5_init_165 rfl ?_
  refine g_bipush C dX5_init_166 (by decide +kernel) ?_
  refine g_bipush C dX5_init_168 (by decide +kernel) ?_
  refine g_iast C (gup_s _ _ _) (by omega) dX5_init_170 ?_
  refine g_hE (gup_gup0 _ _ _ _) ?_
  refine g_hE (congrArg (fun z => gup _ _ (gI (dA 0) 40 z)) (wdK_s (k := 15) (by omega) (by decide))) ?_
  refine g_dup C dX5_init_171 rfl ?_
  refine g_bipush C dX5_init_172 (by decide +kernel) ?_
  refine g_bipush C dX5_init_174 (by decide +kernel) ?_
  refine g_iast C (gup_s _ _ _) (by omega) dX5_init_176 ?_
  refine g_hE (gup_gup0 _ _ _ _) ?_
  refine g_hE (congrArg (fun z => gup _ _ (gI (dA 0) 40 z)) (wdK_s (k := 16) (by omega) (by decide))) ?_
  refine g_dup C dX5_init_177 rfl ?_
  refine g_bipush C dX5_init_178 (by decide +kernel) ?_
  refine g_bipush C dX5_init_180 (by decide +kernel) ?_
  refine g_iast C (gup_s _ _ _) (by omega) dX5_init_182 ?_
  refine g_hE (gup_gup0 _ _ _ _) ?_
  refine g_hE (congrArg (fun z => gup _ _ (gI (dA 0) 40 z)) (wdK_s (k := 17) (by omega) (by decide))) ?_
  refine g_dup C dX5_init_183 rfl ?_
  refine g_bipush C dX5_init_184 (by decide +kernel) ?_
  refine g_bipush C dX5_init_186 (by decide +kernel) ?_
  refine g_iast C (gup_s _ _ _) (by omega) dX5_init_188 ?_
  refine g_hE (gup_gup0 _ _ _ _) ?_
  refine g_hE (congrArg (fun z => gup _ _ (gI (dA 0) 40 z)) (wdK_s (k := 18) (by omega) (by decide))) ?_
  refine g_dup C dX5_init_189 rfl ?_
  refine g_bipush C dX5_init_190 (by decide +kernel) ?_
  refine g_bipush C dX5_init_192 (by decide +kernel) ?_
  refine g_iast C (gup_s _ _ _) (by omega) dX5_init_194 ?_
  refine g_hE (gup_gup0 _ _ _ _) ?_
  refine g_hE (congrArg (fun z => gup _ _ (gI (dA 0) 40 z)) (wdK_s (k := 19) (by omega) (by decide))) ?_
  refine g_dup C dX5_init_195 rfl ?_
  refine g_bipush C dX5_init_196 (by decide +kernel) ?_
  refine g_bipush C dX5_init_198 (by decide +kernel) ?_
  refine g_iast C (gup_s _ _ _) (by omega) dX5_init_200 ?_
  refine g_hE (gup_gup0 _ _ _ _) ?_
  refine g_hE (congrArg (fun z => gup _ _ (gI (dA 0) 40 z)) (wdK_s (k := 20) (by omega) (by decide))) ?_
  refine g_dup C dX5_init_201 rfl ?_
  refine g_bipush C dX5_init_202 (by decide +kernel) ?_
  refine g_bipush C dX5_init_204 (by decide +kernel) ?_
  refine g_iast C (gup_s _ _ _) (by omega) dX5_init_206 ?_
  refine g_hE (gup_gup0 _ _ _ _) ?_
  refine g_hE (congrArg (fun z => gup _ _ (gI (dA 0) 40 z)) (wdK_s (k := 21) (by omega) (by decide))) ?_
  refine g_dup C dX5_init_207 rfl ?_
  refine g_bipush C dX5_init_208 (by decide +kernel) ?_
  refine g_bipush C dX5_init_210 (by decide +kernel) ?_
  refine g_iast C (gup_s _ _ _) (by omega) dX5_init_212 ?_
  refine g_hE (gup_gup0 _ _ _ _) ?_
  refine g_hE (congrArg (fun z => gup _ _ (gI (dA 0) 40 z)) (wdK_s (k := 22) (by omega) (by decide))) ?_
  refine g_dup C dX5_init_213 rfl ?_
  refine g_bipush C dX5_init_214 (by decide +kernel) ?_
  refine g_bipush C dX5_init_216 (by decide +kernel) ?_
  refine g_iast C (gup_s _ _ _) (by omega) dX5_init_218 ?_
  refine g_hE (gup_gup0 _ _ _ _) ?_
  refine g_hE (congrArg (fun z => gup _ _ (gI (dA 0) 40 z)) (wdK_s (k := 23) (by omega) (by decide))) ?_
  refine g_dup C dX5_init_219 rfl ?_
  refine g_bipush C dX5_init_220 (by decide +kernel) ?_
  refine g_iconst C dX5_init_222 ?_
  refine g_iast C (gup_s _ _ _) (by omega) dX5_init_223 ?_
  refine g_hE (gup_gup0 _ _ _ _) ?_
  refine g_hE (congrArg (fun z => gup _ _ (gI (dA 0) 40 z)) (wdK_s (k := 24) (by omega) (by decide))) ?_
  refine g_dup C dX5_init_224 rfl ?_
  refine g_bipush C dX5_init_225 (by decide +kernel) ?_
  refine g_bipush C dX5_init_227 (by decide +kernel) ?_
  refine g_iast C (gup_s _ _ _) (by omega) dX5_init_229 ?_
  refine g_hE (gup_gup0 _ _ _ _) ?_
  refine g_hE (congrArg (fun z => gup _ _ (gI (dA 0) 40 z)) (wdK_s (k := 25) (by omega) (by decide))) ?_
  refine g_dup C dX5_init_230 rfl ?_
  refine g_bipush C dX5_init_231 (by decide +kernel) ?_
  refine g_bipush C dX5_init_233 (by decide +kernel) ?_
  refine g_iast C (gup_s _ _ _) (by omega) dX5_init_235 ?_
  refine g_hE (gup_gup0 _ _ _ _) ?_
  refine g_hE (congrArg (fun z => gup _ _ (gI (dA 0) 40 z)) (wdK_s (k := 26) (by omega) (by decide))) ?_
  refine g_dup C dX5_init_236 rfl ?_
  refine g_bipush C dX5_init_237 (by decide +kernel) ?_
  refine g_bipush C dX5_init_239 (by decide +kernel) ?_
  refine g_iast C (gup_s _ _ _) (by omega) dX5_init_241 ?_
  refine g_hE (gup_gup0 _ _ _ _) ?_
  refine g_hE (congrArg (fun z => gup _ _ (gI (dA 0) 40 z)) (wdK_s (k := 27) (by omega) (by decide))) ?_
  refine g_dup C dX5_init_242 rfl ?_
  refine g_bipush C dX5_init_243 (by decide +kernel) ?_
  refine g_bipush C dX5_init_245 (by decide +kernel) ?_
  refine g_iast C (gup_s _ _ _) (by omega) dX5_init_247 ?_
  refine g_hE (gup_gup0 _ _ _ _) ?_
  refine g_hE (congrArg (fun z => gup _ _ (gI (dA 0) 40 z)) (wdK_s (k := 28) (by omega) (by decide))) ?_
  refine g_dup C dX5_init_248 rfl ?_
  refine g_bipush C dX5_init_249 (by decide +kernel) ?_
  refine g_iconst C dX5_init_251 ?_
  refine g_iast C (gup_s _ _ _) (by omega) dX5_init_252 ?_
  refine g_hE (gup_gup0 _ _ _ _) ?_
  refine g_hE (congrArg (fun z => gup _ _ (gI (dA 0) 40 z)) (wdK_s (k := 29) (by omega) (by decide))) ?_
  refine g_dup C dX5_init_253 rfl ?_
  refine g_bipush C dX5_init_254 (by decide +kernel) ?_
  refine g_bipush C dX5_init_256 (by decide +kernel) ?_
  refine g_iast C (gup_s _ _ _) (by omega) dX5_init_258 ?_
  refine g_hE (gup_gup0 _ _ _ _) ?_
  refine g_hE (congrArg (fun z => gup _ _ (gI (dA 0) 40 z)) (wdK_s (k := 30) (by omega) (by decide))) ?_
  refine g_dup C dX5_init_259 rfl ?_
  refine g_bipush C dX5_init_260 (by decide +kernel) ?_
  refine g_bipush C dX5_init_262 (by decide +kernel) ?_
  refine g_iast C (gup_s _ _ _) (by omega) dX5_init_264 ?_
  refine g_hE (gup_gup0 _ _ _ _) ?_
  refine g_hE (congrArg (fun z => gup _ _ (gI (dA 0) 40 z)) (wdK_s (k := 31) (by omega) (by decide))) ?_
  refine g_dup C dX5_init_265 rfl ?_
  refine g_bipush C dX5_init_266 (by decide +kernel) ?_
  refine g_bipush C dX5_init_268 (by decide +kernel) ?_
  refine g_iast C (gup_s _ _ _) (by omega) dX5_init_270 ?_
  refine g_hE (gup_gup0 _ _ _ _) ?_
  refine g_hE (congrArg (fun z => gup _ _ (gI (dA 0) 40 z)) (wdK_s (k := 32) (by omega) (by decide))) ?_
  refine g_dup C dX5_init_271 rfl ?_
  refine g_bipush C dX5_init_272 (by decide +kernel) ?_
  refine g_bipush C dX5_init_274 (by decide +kernel) ?_
  refine g_iast C (gup_s _ _ _) (by omega) dX5_init_276 ?_
  refine g_hE (gup_gup0 _ _ _ _) ?_
  refine g_hE (congrArg (fun z => gup _ _ (gI (dA 0) 40 z)) (wdK_s (k := 33) (by omega) (by decide))) ?_
  refine g_dup C dX5_init_277 rfl ?_
  refine g_bipush C dX5_init_278 (by decide +kernel) ?_
  refine g_bipush C dX5_init_280 (by decide +kernel) ?_
  refine g_iast C (gup_s _ _ _) (by omega) dX5_init_282 ?_
  refine g_hE (gup_gup0 _ _ _ _) ?_
  refine g_hE (congrArg (fun z => gup _ _ (gI (dA 0) 40 z)) (wdK_s (k := 34) (by omega) (by decide))) ?_
  refine g_dup C dX5_init_283 rfl ?_
  refine g_bipush C dX5_init_284 (by decide +kernel) ?_
  refine g_bipush C dX5_init_286 (by decide +kernel) ?_
  refine g_iast C (gup_s _ _ _) (by omega) dX5_init_288 ?_
  refine g_hE (gup_gup0 _ _ _ _) ?_
  refine g_hE (congrArg (fun z => gup _ _ (gI (dA 0) 40 z)) (wdK_s (k := 35) (by omega) (by decide))) ?_
  refine g_dup C dX5_init_289 rfl ?_
  refine g_bipush C dX5_init_290 (by decide +kernel) ?_
  refine g_bipush C dX5_init_292 (by decide +kernel) ?_
  refine g_iast C (gup_s _ _ _) (by omega) dX5_init_294 ?_
  refine g_hE (gup_gup0 _ _ _ _) ?_
  refine g_hE (congrArg (fun z => gup _ _ (gI (dA 0) 40 z)) (wdK_s (k := 36) (by omega) (by decide))) ?_
  refine g_dup C dX5_init_295 rfl ?_
  refine g_bipush C dX5_init_296 (by decide +kernel) ?_
  refine g_bipush C dX5_init_298 (by decide +kernel) ?_
  refine g_iast C (gup_s _ _ _) (by omega) dX5_init_300 ?_
  refine g_hE (gup_gup0 _ _ _ _) ?_
  refine g_hE (congrArg (fun z => gup _ _ (gI (dA 0) 40 z)) (wdK_s (k := 37) (by omega) (by decide))) ?_
  refine g_dup C dX5_init_301 rfl ?_
  refine g_bipush C dX5_init_302 (by decide +kernel) ?_
  refine g_iconst C dX5_init_304 ?_
  refine g_iast C (gup_s _ _ _) (by omega) dX5_init_305 ?_
  refine g_hE (gup_gup0 _ _ _ _) ?_
  refine g_hE (congrArg (fun z => gup _ _ (gI (dA 0) 40 z)) (wdK_s (k := 38) (by omega) (by decide))) ?_
  refine g_dup C dX5_init_306 rfl ?_
  refine g_bipush C dX5_init_307 (by decide +kernel) ?_
  refine g_iconst C dX5_init_309 ?_
  refine g_iast C (gup_s _ _ _) (by omega) dX5_init_310 ?_
  refine g_hE (gup_gup0 _ _ _ _) ?_
  refine g_hE (congrArg (fun z => gup _ _ (gI (dA 0) 40 z)) (wdK_s (k := 39) (by omega) (by decide))) ?_
  refine g_putF C ((gup_n _ _ (by omega)).trans (gup_s _ _ _)) (ci := 4) rfl in_X5 16 (by decide) tyX5 tyX5_ok nmX5 q1207 (Or.inl rfl) rfl rfl rfl rfl rfl (Nat.le_of_ble_eq_true rfl) dX5_init_311 ?_
  refine g_aload_n C dX5_init_314 (gr _) rfl ?_
  refine g_bipush C dX5_init_315 (by decide +kernel) ?_
  refine g_newa (N := 6) (atype := .int) (ty := .int) C 0 rfl rfl (fun _ _ => rfl) rfl q153 (Nat.le_of_ble_eq_true rfl) (by decide) ⟨Nat.le_of_ble_eq_true rfl, Nat.le_of_ble_eq_true rfl⟩ dX5_init_317 (fun _ => ?_)
  refine g_putF C ((gup_n _ _ (by omega)).trans (gup_s _ _ _)) (ci := 4) rfl in_X5 17 (by decide) tyX5 tyX5_ok nmX5 q1208 (Or.inl rfl) rfl rfl rfl rfl rfl (Nat.le_of_ble_eq_true rfl) dX5_init_319 ?_
  refine g_hE (initM dA m h _ _ _ _ _ _ _ _ _ _) ?_
  refine g_aload_n C dX5_init_322 (gr _) rfl ?_
  refine g_iconst C dX5_init_323 ?_
  refine g_iconst C dX5_init_324 ?_
  refine g_iconst C dX5_init_325 ?_
  refine g_iconst C dX5_init_326 ?_
  refine g_callV0z C (mX5_anew hY (by omega)) (lw_V q1187 q1189 qs27 q72 q1190) ⟨rfl, nd_X5_anew⟩ (ovM_0 _ _ _ _) rfl ⟨by decide, by decide⟩ ⟨Nat.le_of_ble_eq_true rfl, Nat.le_of_ble_eq_true rfl⟩ rfl (Nat.le_of_ble_eq_true rfl) dX5_init_327 ?_
  exact g_vret C hQ rfl dX5_init_330 ⟨rfl, rfl, rfl⟩
