/-! THE COMPONENT: making a draft -/
set_option maxRecDepth 100000
theorem gup_gup (h : gH) (a : Nat) (e e' : va_E) : gup (gup h a e) a e' = gup h a e' := by
  funext q
  unfold gup
  split <;> rfl
theorem g_sz {X : gX} {k n : Nat} {h : gH} {sz sz' pc : Nat} {L : List (Option Value)} {st : List Value} (e : sz = sz') (kk : G X k n h sz' pc L st) : G X k n h sz pc L st := by rw [e]; exact kk
theorem vI_0 : Value.int 0 = vI 0 := by show Value.int 0 = Value.int (zI 0); rw [zI_0]
def iF : Int → Int := fun j => if 46 ≤ j ∧ j < 58 then 1 else 0
def wpK (b : Nat) (k : Int) : Int → Option Nat := fun j => if 0 ≤ j ∧ j < k then some (b + 4 + 2 * j.toNat) else none
def wfK (b : Nat) (k : Int) : Int → Option Nat := fun j => if 0 ≤ j ∧ j < k then some (b + 5 + 2 * j.toNat) else none
def icell (dA : Nat → ClassId) (x b : Nat) (k : Int) (j : Nat) : va_E :=
  if j = 2 then gR (dA 4) 12 (wpK b k) else if j = 3 then gR (dA 5) 12 (wfK b k) else dcell dA x b iF j
/-- a draft in the making: k ends and picks are there -/
def ovI (dA : Nat → ClassId) (x b : Nat) (k : Int) (h : gH) : gH := fun q => if b ≤ q ∧ q < b + 4 + 2 * k.toNat then some (icell dA x b k (q - b)) else h q
theorem ovI_at (dA : Nat → ClassId) (x b : Nat) (k : Int) (h : gH) {j : Nat} (hj : j < 4 + 2 * k.toNat) : ovI dA x b k h (b + j) = some (icell dA x b k j) := by
  unfold ovI
  rw [if_pos (by omega), Nat.add_sub_cancel_left]
theorem ovI_0 (dA : Nat → ClassId) (x b : Nat) (k : Int) (h : gH) : ovI dA x b k h b = some (gO 1 (dO x b iF)) := ovI_at dA x b k h (j := 0) (by omega)
theorem ovI_2 (dA : Nat → ClassId) (x b : Nat) (k : Int) (h : gH) : ovI dA x b k h (b + 2) = some (gR (dA 4) 12 (wpK b k)) := ovI_at dA x b k h (j := 2) (by omega)
theorem ovI_3 (dA : Nat → ClassId) (x b : Nat) (k : Int) (h : gH) : ovI dA x b k h (b + 3) = some (gR (dA 5) 12 (wfK b k)) := ovI_at dA x b k h (j := 3) (by omega)
theorem icell_12 (dA : Nat → ClassId) (x b j : Nat) : icell dA x b 12 j = dcell dA x b iF j := by
  unfold icell
  by_cases h2 : j = 2
  · rw [if_pos h2, h2]; rfl
  rw [if_neg h2]
  by_cases h3 : j = 3
  · rw [if_pos h3, h3]; rfl
  rw [if_neg h3]
theorem ovI_12 (dA : Nat → ClassId) (x b : Nat) (h : gH) : ovI dA x b 12 h = ovD dA x b iF h := by
  funext q
  unfold ovI ovD
  by_cases hq : b ≤ q ∧ q < b + 28
  · rw [if_pos (show b ≤ q ∧ q < b + 4 + 2 * (12 : Int).toNat by omega), if_pos hq, icell_12]
  · rw [if_neg (show ¬ (b ≤ q ∧ q < b + 4 + 2 * (12 : Int).toNat) by omega), if_neg hq]
theorem wpK_s (b : Nat) {k : Int} (hk : 0 ≤ k) : uI (wpK b k) k (some (b + 4 + 2 * k.toNat)) = wpK b (k + 1) := by
  funext j
  simp only [uI, wpK]
  by_cases h : j = k
  · rw [if_pos h, if_pos (by omega), h]
  · rw [if_neg h]
    by_cases h2 : 0 ≤ j ∧ j < k
    · rw [if_pos h2, if_pos (by omega)]
    · rw [if_neg h2, if_neg (by omega)]
theorem wfK_s (b : Nat) {k : Int} (hk : 0 ≤ k) : uI (wfK b k) k (some (b + 5 + 2 * k.toNat)) = wfK b (k + 1) := by
  funext j
  simp only [uI, wfK]
  by_cases h : j = k
  · rw [if_pos h, if_pos (by omega), h]
  · rw [if_neg h]
    by_cases h2 : 0 ≤ j ∧ j < k
    · rw [if_pos h2, if_pos (by omega)]
    · rw [if_neg h2, if_neg (by omega)]
/-- the first four cells -/
theorem ovI_init (dA : Nat → ClassId) (x b : Nat) (h : gH) (e0 e1 e2 : va_E) {v : List Value} (hv : v = dO x b iF) : gup (gup (gup (gup h b (gO 1 v)) (b + 1) (gI (dA 0) 6 (fun _ => 0))) (b + 2) (gR (dA 4) 12 (fun _ => none))) (b + 3) (gR (dA 5) 12 (fun _ => none)) = ovI dA x b 0 h := by
  subst hv
  have w1 : wpK b 0 = fun _ => none := by funext j; unfold wpK; rw [if_neg (by omega)]
  have w2 : wfK b 0 = fun _ => none := by funext j; unfold wfK; rw [if_neg (by omega)]
  have w3 : tiF iF = fun _ => 0 := by
    funext j
    simp only [tiF, iF]
    split
    · rw [if_neg (by omega)]
    · rfl
  funext q
  unfold ovI
  by_cases h3 : q = b + 3
  · rw [h3, gup_s, if_pos (by omega), show b + 3 - b = 3 by omega]
    show _ = some (gR (dA 5) 12 (wfK b 0))
    rw [w2]
  rw [gup_n _ _ h3]
  by_cases h2 : q = b + 2
  · rw [h2, gup_s, if_pos (by omega), show b + 2 - b = 2 by omega]
    show _ = some (gR (dA 4) 12 (wpK b 0))
    rw [w1]
  rw [gup_n _ _ h2]
  by_cases h1 : q = b + 1
  · rw [h1, gup_s, if_pos (by omega), show b + 1 - b = 1 by omega]
    show _ = some (gI (dA 0) 6 (tiF iF))
    rw [w3]
  rw [gup_n _ _ h1]
  by_cases h0 : q = b
  · rw [h0, gup_s, if_pos (by omega), show b - b = 0 by omega]
    rfl
  rw [gup_n _ _ h0, if_neg (by omega)]
theorem ovI_s (dA : Nat → ClassId) (x b : Nat) {k : Int} (h : gH) (hk : 0 ≤ k ∧ k < 12) :
    gup (gup (gup (gup (ovI dA x b k h) (b + 4 + 2 * k.toNat) (gO 2 [vI 0, vI 0, vI k, .ref b])) (b + 2) (gR (dA 4) 12 (wpK b (k + 1)))) (b + 5 + 2 * k.toNat) (gO 3 [vI 0, vI 1, vI k, .ref b])) (b + 3) (gR (dA 5) 12 (wfK b (k + 1))) = ovI dA x b (k + 1) h := by
  have i0 : ∀ j : Int, j < 46 → iF j = 0 := fun j hj => by unfold iF; rw [if_neg (by omega)]
  have i1 : iF (46 + k) = 1 := by unfold iF; rw [if_pos (by omega)]
  funext q
  by_cases h3 : q = b + 3
  · rw [h3, gup_s, ovI_3]
  rw [gup_n _ _ h3]
  by_cases h5 : q = b + 5 + 2 * k.toNat
  · rw [h5, gup_s, Nat.add_assoc, ovI_at dA x b (k + 1) h (by omega)]
    unfold icell
    rw [if_neg (by omega), if_neg (by omega), dcell_P dA x b iF hk]
    unfold dP
    rw [i0 _ (by omega), i1]
  rw [gup_n _ _ h5]
  by_cases h2 : q = b + 2
  · rw [h2, gup_s, ovI_2]
  rw [gup_n _ _ h2]
  by_cases h4 : q = b + 4 + 2 * k.toNat
  · rw [h4, gup_s, Nat.add_assoc, ovI_at dA x b (k + 1) h (by omega)]
    unfold icell
    rw [if_neg (by omega), if_neg (by omega), dcell_E dA x b iF hk]
    unfold dE
    rw [i0 _ (by omega), i0 _ (by omega)]
  rw [gup_n _ _ h4]
  unfold ovI
  by_cases hr : b ≤ q ∧ q < b + 4 + 2 * k.toNat
  · rw [if_pos hr, if_pos (by omega)]
    unfold icell
    rw [if_neg (by omega), if_neg (by omega), if_neg (by omega), if_neg (by omega)]
  · rw [if_neg hr, if_neg (by omega)]

theorem nd_X2_init : yX2_init.cls ≠ "java/lang/invoke/MethodHandle" ∧ yX2_init.cls ≠ "java/lang/invoke/VarHandle" ∧ (parseMethodDescriptor yX2_init.desc).map (fun d => d.parameters.length) = some 2 := by decide +kernel
theorem mX2_init_E {l : Launch} {D : va_G} {dA : Nat → ClassId} {N0 : Nat} {Y : State → Prop} (hY : gYc N0 Y) {h : gH} {sz a : Nat} {v0 v1 v2 v3 : Value} {t c : Int} : gM l D dA N0 Y yX2_init cX2_init 3 none 1 20 0 0 [.ref a, vI t, vI c] (gup h a (gO 2 [v0, v1, v2, v3])) sz (gP none (gup h a (gO 2 [vI t, vI c, v2, v3])) sz) := by
  refine gM.of hY.ok (by decide +kernel) (Nat.le_of_ble_eq_true rfl) ?_
  intro X hX C hQ
  subst hX
  have C : gC X cX2_init RX2 "<init>" 3 none D dA N0 Y ({ frames := 1, cells := 0, slots := 0, locals := 20 }) := C
  show G X 0 0 _ _ 0 [some (.ref a), some (vI t), some (vI c)] []
  refine g_aload_n C dX2_init_0 (gr _) rfl ?_
  refine g_objInit C q125 q106 q107 (Nat.le_of_ble_eq_true rfl) ⟨by decide, by decide⟩ dX2_init_1 ?_
  refine g_aload_n C dX2_init_4 (gr _) rfl ?_
  refine g_iload_n C dX2_init_5 (gi _) rfl ?_
  refine g_put C (gup_s _ _ _) (ci := 2) rfl in_X3 0 (by decide) tyX3 tyX3_ok nmX3 q128 (Or.inl rfl) rfl rfl rfl (Nat.le_of_ble_eq_true rfl) dX2_init_6 ?_
  refine g_hE (gup_gup _ _ _ _) ?_
  refine g_aload_n C dX2_init_9 (gr _) rfl ?_
  refine g_iload_n C dX2_init_10 (gi _) rfl ?_
  refine g_put C (gup_s _ _ _) (ci := 2) rfl in_X3 1 (by decide) tyX3 tyX3_ok nmX3 q136 (Or.inl rfl) rfl rfl rfl (Nat.le_of_ble_eq_true rfl) dX2_init_11 ?_
  refine g_hE (gup_gup _ _ _ _) ?_
  exact g_vret C hQ rfl dX2_init_14 ⟨rfl, rfl, rfl⟩

theorem nd_X3_init : yX3_init.cls ≠ "java/lang/invoke/MethodHandle" ∧ yX3_init.cls ≠ "java/lang/invoke/VarHandle" ∧ (parseMethodDescriptor yX3_init.desc).map (fun d => d.parameters.length) = some 2 := by decide +kernel
theorem mX3_init {l : Launch} {D : va_G} {dA : Nat → ClassId} {N0 : Nat} {Y : State → Prop} (hY : gYc N0 Y) {h : gH} {sz a : Nat} {v0 v1 v2 v3 : Value} {d : Nat} {k : Int} : gM l D dA N0 Y yX3_init cX3_init 3 none 2 42 0 0 [.ref a, .ref d, vI k] (gup h a (gO 2 [v0, v1, v2, v3])) sz (gP none (gup h a (gO 2 [vI 0, vI 0, vI k, .ref d])) sz) := by
  refine gM.of hY.ok (by decide +kernel) (Nat.le_of_ble_eq_true rfl) ?_
  intro X hX C hQ
  subst hX
  have C : gC X cX3_init RX3 "<init>" 3 none D dA N0 Y ({ frames := 2, cells := 0, slots := 0, locals := 42 }) := C
  show G X 0 0 _ _ 0 [some (.ref a), some (.ref d), some (vI k)] []
  refine g_aload_n C dX3_init_0 (gr _) rfl ?_
  refine g_aload_n C dX3_init_1 (gr _) rfl ?_
  refine g_putF C (gup_s _ _ _) (ci := 2) rfl in_X3 3 (by decide) tyX3 tyX3_ok nmX3 q127 (Or.inl rfl) rfl rfl rfl rfl rfl (Nat.le_of_ble_eq_true rfl) dX3_init_2 ?_
  refine g_hE (gup_gup _ _ _ _) ?_
  refine g_aload_n C dX3_init_5 (gr _) rfl ?_
  refine g_iconst C dX3_init_6 ?_
  refine g_iconst C dX3_init_7 ?_
  refine g_callI0z C (mX2_init_E hY) (lw_meth q124) q69 q122 q123 rfl nd_X2_init ⟨by decide, by decide⟩ ⟨Nat.le_of_ble_eq_true rfl, Nat.le_of_ble_eq_true rfl⟩ rfl (Nat.le_of_ble_eq_true rfl) dX3_init_8 ?_
  refine g_aload_n C dX3_init_11 (gr _) rfl ?_
  refine g_iload_n C dX3_init_12 (gi _) rfl ?_
  refine g_putF C (gup_s _ _ _) (ci := 2) rfl in_X3 2 (by decide) tyX3 tyX3_ok nmX3 q126 (Or.inl rfl) rfl rfl rfl rfl rfl (Nat.le_of_ble_eq_true rfl) dX3_init_13 ?_
  refine g_hE (gup_gup _ _ _ _) ?_
  exact g_vret C hQ rfl dX3_init_16 ⟨rfl, rfl, rfl⟩

theorem mX2_init_P {l : Launch} {D : va_G} {dA : Nat → ClassId} {N0 : Nat} {Y : State → Prop} (hY : gYc N0 Y) {h : gH} {sz a : Nat} {v0 v1 v2 v3 : Value} {t c : Int} : gM l D dA N0 Y yX2_init cX2_init 3 none 1 20 0 0 [.ref a, vI t, vI c] (gup h a (gO 3 [v0, v1, v2, v3])) sz (gP none (gup h a (gO 3 [vI t, vI c, v2, v3])) sz) := by
  refine gM.of hY.ok (by decide +kernel) (Nat.le_of_ble_eq_true rfl) ?_
  intro X hX C hQ
  subst hX
  have C : gC X cX2_init RX2 "<init>" 3 none D dA N0 Y ({ frames := 1, cells := 0, slots := 0, locals := 20 }) := C
  show G X 0 0 _ _ 0 [some (.ref a), some (vI t), some (vI c)] []
  refine g_aload_n C dX2_init_0 (gr _) rfl ?_
  refine g_objInit C q125 q106 q107 (Nat.le_of_ble_eq_true rfl) ⟨by decide, by decide⟩ dX2_init_1 ?_
  refine g_aload_n C dX2_init_4 (gr _) rfl ?_
  refine g_iload_n C dX2_init_5 (gi _) rfl ?_
  refine g_put C (gup_s _ _ _) (ci := 3) rfl in_X4 0 (by decide) tyX4 tyX4_ok nmX4 q128 (Or.inl rfl) rfl rfl rfl (Nat.le_of_ble_eq_true rfl) dX2_init_6 ?_
  refine g_hE (gup_gup _ _ _ _) ?_
  refine g_aload_n C dX2_init_9 (gr _) rfl ?_
  refine g_iload_n C dX2_init_10 (gi _) rfl ?_
  refine g_put C (gup_s _ _ _) (ci := 3) rfl in_X4 1 (by decide) tyX4 tyX4_ok nmX4 q136 (Or.inl rfl) rfl rfl rfl (Nat.le_of_ble_eq_true rfl) dX2_init_11 ?_
  refine g_hE (gup_gup _ _ _ _) ?_
  exact g_vret C hQ rfl dX2_init_14 ⟨rfl, rfl, rfl⟩

theorem nd_X4_init : yX4_init.cls ≠ "java/lang/invoke/MethodHandle" ∧ yX4_init.cls ≠ "java/lang/invoke/VarHandle" ∧ (parseMethodDescriptor yX4_init.desc).map (fun d => d.parameters.length) = some 2 := by decide +kernel
theorem mX4_init {l : Launch} {D : va_G} {dA : Nat → ClassId} {N0 : Nat} {Y : State → Prop} (hY : gYc N0 Y) {h : gH} {sz a : Nat} {v0 v1 v2 v3 : Value} {d : Nat} {k : Int} : gM l D dA N0 Y yX4_init cX4_init 3 none 2 42 0 0 [.ref a, .ref d, vI k] (gup h a (gO 3 [v0, v1, v2, v3])) sz (gP none (gup h a (gO 3 [vI 0, vI 1, vI k, .ref d])) sz) := by
  refine gM.of hY.ok (by decide +kernel) (Nat.le_of_ble_eq_true rfl) ?_
  intro X hX C hQ
  subst hX
  have C : gC X cX4_init RX4 "<init>" 3 none D dA N0 Y ({ frames := 2, cells := 0, slots := 0, locals := 42 }) := C
  show G X 0 0 _ _ 0 [some (.ref a), some (.ref d), some (vI k)] []
  refine g_aload_n C dX4_init_0 (gr _) rfl ?_
  refine g_aload_n C dX4_init_1 (gr _) rfl ?_
  refine g_putF C (gup_s _ _ _) (ci := 3) rfl in_X4 3 (by decide) tyX4 tyX4_ok nmX4 q160 (Or.inl rfl) rfl rfl rfl rfl rfl (Nat.le_of_ble_eq_true rfl) dX4_init_2 ?_
  refine g_hE (gup_gup _ _ _ _) ?_
  refine g_aload_n C dX4_init_5 (gr _) rfl ?_
  refine g_iconst C dX4_init_6 ?_
  refine g_iconst C dX4_init_7 ?_
  refine g_callI0z C (mX2_init_P hY) (lw_meth q124) q69 q158 q123 rfl nd_X2_init ⟨by decide, by decide⟩ ⟨Nat.le_of_ble_eq_true rfl, Nat.le_of_ble_eq_true rfl⟩ rfl (Nat.le_of_ble_eq_true rfl) dX4_init_8 ?_
  refine g_aload_n C dX4_init_11 (gr _) rfl ?_
  refine g_iload_n C dX4_init_12 (gi _) rfl ?_
  refine g_putF C (gup_s _ _ _) (ci := 3) rfl in_X4 2 (by decide) tyX4 tyX4_ok nmX4 q159 (Or.inl rfl) rfl rfl rfl rfl rfl (Nat.le_of_ble_eq_true rfl) dX4_init_13 ?_
  refine g_hE (gup_gup _ _ _ _) ?_
  exact g_vret C hQ rfl dX4_init_16 ⟨rfl, rfl, rfl⟩

theorem gup_sw (h : gH) {a b : Nat} (e e' : va_E) (hn : a ≠ b) : gup (gup h a e) b e' = gup (gup h b e') a e := by
  funext q
  unfold gup
  by_cases h1 : q = b
  · rw [if_pos h1, if_neg (fun z => hn (z.symm.trans h1)), if_pos h1]
  · rw [if_neg h1]
    by_cases h2 : q = a
    · rw [if_pos h2, if_pos h2]
    · rw [if_neg h2, if_neg h2, if_neg h1]

theorem nd_X1_init : yX1_init.cls ≠ "java/lang/invoke/MethodHandle" ∧ yX1_init.cls ≠ "java/lang/invoke/VarHandle" ∧ (parseMethodDescriptor yX1_init.desc).map (fun d => d.parameters.length) = some 1 := by decide +kernel
theorem mX1_init {l : Launch} {D : va_G} {dA : Nat → ClassId} {N0 : Nat} {Y : State → Prop} (hY : gYc N0 Y) {h : gH} {x b : Nat} {v4 v5 v6 v7 : Value} : gM l D dA N0 Y yX1_init cX1_init 3 none 3 64 27 126 [.ref b, .ref x] (gup h b (gO 1 [vI 0, vI 0, vI 0, vI 0, v4, v5, v6, v7])) (b + 1) (gP none (ovD dA x b (dStart iF 4 4 2 2) h) (b + 28)) := by
  refine gM.of hY.ok (by decide +kernel) (Nat.le_of_ble_eq_true rfl) ?_
  intro X hX C hQ
  subst hX
  have C : gC X cX1_init RX1 "<init>" 3 none D dA N0 Y ({ frames := 3, cells := 27, slots := 126, locals := 64 }) := C
  show G X 0 0 _ _ 0 [some (.ref b), some (.ref x), none] []
  refine g_aload_n C dX1_init_0 (gr _) rfl ?_
  refine g_aload_n C dX1_init_1 (gr _) rfl ?_
  refine g_putF C (gup_s _ _ _) (ci := 1) rfl in_X1 7 (by decide) tyX1 tyX1_ok nmX1 q192 (Or.inl rfl) rfl rfl rfl rfl rfl (Nat.le_of_ble_eq_true rfl) dX1_init_2 ?_
  refine g_hE (gup_gup _ _ _ _) ?_
  refine g_aload_n C dX1_init_5 (gr _) rfl ?_
  refine g_objInit C q113 q106 q107 (Nat.le_of_ble_eq_true rfl) ⟨by decide, by decide⟩ dX1_init_6 ?_
  refine g_aload_n C dX1_init_9 (gr _) rfl ?_
  refine g_bipush C dX1_init_10 (by decide +kernel) ?_
  refine g_newa (N := 6) (atype := .int) (ty := .int) C 0 rfl rfl (fun _ _ => rfl) rfl q153 (Nat.le_of_ble_eq_true rfl) (by decide) ⟨Nat.le_of_ble_eq_true rfl, Nat.le_of_ble_eq_true rfl⟩ dX1_init_12 (fun _ => ?_)
  refine g_putF C ((gup_n _ _ (by omega)).trans (gup_s _ _ _)) (ci := 1) rfl in_X1 4 (by decide) tyX1 tyX1_ok nmX1 q186 (Or.inl rfl) rfl rfl rfl rfl rfl (Nat.le_of_ble_eq_true rfl) dX1_init_14 ?_
  refine g_hE (gup_sw _ _ _ (by omega)) ?_
  refine g_hE (congrArg (fun z => gup z _ _) (gup_gup _ _ _ _)) ?_
  refine g_aload_n C dX1_init_17 (gr _) rfl ?_
  refine g_bipush C dX1_init_18 (by decide +kernel) ?_
  refine g_anew (N := 12) C 4 rfl q114 (gtok hY C q115 rfl) (Nat.le_of_ble_eq_true rfl) ⟨Nat.le_of_ble_eq_true rfl, Nat.le_of_ble_eq_true rfl⟩ dX1_init_20 (fun _ => ?_)
  refine g_putF C ((gup_n _ _ (by omega)).trans ((gup_n _ _ (by omega)).trans (gup_s _ _ _))) (ci := 1) rfl in_X1 5 (by decide) tyX1 tyX1_ok nmX1 q188 (Or.inl rfl) rfl rfl rfl rfl rfl (Nat.le_of_ble_eq_true rfl) dX1_init_23 ?_
  refine g_hE (gup_sw _ _ _ (by omega)) ?_
  refine g_hE (congrArg (fun z => gup z _ _) (gup_sw _ _ _ (by omega))) ?_
  refine g_hE (congrArg (fun z => gup (gup z _ _) _ _) (gup_gup _ _ _ _)) ?_
  refine g_aload_n C dX1_init_26 (gr _) rfl ?_
  refine g_bipush C dX1_init_27 (by decide +kernel) ?_
  refine g_anew (N := 12) C 5 rfl q116 (gtok hY C q117 rfl) (Nat.le_of_ble_eq_true rfl) ⟨Nat.le_of_ble_eq_true rfl, Nat.le_of_ble_eq_true rfl⟩ dX1_init_29 (fun _ => ?_)
  refine g_putF C ((gup_n _ _ (by omega)).trans ((gup_n _ _ (by omega)).trans ((gup_n _ _ (by omega)).trans (gup_s _ _ _)))) (ci := 1) rfl in_X1 6 (by decide) tyX1 tyX1_ok nmX1 q190 (Or.inl rfl) rfl rfl rfl rfl rfl (Nat.le_of_ble_eq_true rfl) dX1_init_32 ?_
  refine g_hE (gup_sw _ _ _ (by omega)) ?_
  refine g_hE (congrArg (fun z => gup z _ _) (gup_sw _ _ _ (by omega))) ?_
  refine g_hE (congrArg (fun z => gup (gup z _ _) _ _) (gup_sw _ _ _ (by omega))) ?_
  refine g_hE (congrArg (fun z => gup (gup (gup z _ _) _ _) _ _) (gup_gup _ _ _ _)) ?_
  refine g_iconst C dX1_init_35 ?_
  refine g_istore_n1002 C dX1_init_36 (gi _) rfl ?_
  have lp37_1 : ∀ (fuel : Nat) (k : Int), (0 ≤ k ∧ k ≤ 12) → (12 - k).toNat < fuel → G X (3 + 2 * k.toNat) (30 + 8 * k.toNat) (ovI dA x b k h) (b + 4 + 2 * k.toNat) 37 [some (.ref b), some (.ref x), some (vI k)] [] := by
    intro fuel
    induction fuel with
    | zero => intro k hI hfu; exact absurd hfu (Nat.not_lt_zero _)
    | succ fuel ih =>
      intro k hI hfu
      have ih1 := ih
      refine g_iload_n C dX1_init_37 (gi _) rfl ?_
      refine g_bipush C dX1_init_38 (by decide +kernel) ?_
      refine g_icmp_ge C (tgt := 79) dX1_init_40 (by decide) (by omega) (fun c1 => ?_) (fun c1 => ?_)
      · refine g_hE (show _ = ovD dA x b iF h from ?_) ?_
        · rw [show k = 12 by omega]; exact ovI_12 dA x b h
        refine g_sz (sz' := b + 28) (by omega) ?_
        refine g_widen (k' := 27) (n' := 126) (by omega) (by omega) ?_
        refine g_aload_n C dX1_init_79 (gr _) rfl ?_
        refine g_iconst C dX1_init_80 ?_
        refine g_iconst C dX1_init_81 ?_
        refine g_iconst C dX1_init_82 ?_
        refine g_iconst C dX1_init_83 ?_
        refine g_callV0z C (mX1_start hY (by omega) (by omega)) (lw_V q168 q169 q170 q68 q171) ⟨rfl, nd_X1_start⟩ (isD_0 (isD_ov _ _ _ _ _)) rfl ⟨by decide, by decide⟩ (by show _ ≤ 27 ∧ _ ≤ 126; omega) rfl (Nat.le_of_ble_eq_true rfl) dX1_init_84 ?_
        refine g_widen (k' := 27) (n' := 126) (Nat.le_of_ble_eq_true rfl) (Nat.le_of_ble_eq_true rfl) ?_
        exact g_vret C hQ rfl dX1_init_87 ⟨rfl, rfl, rfl⟩
      · refine g_aload_n C dX1_init_43 (gr _) rfl ?_
        refine g_get C (ovI_0 dA x b k h) rfl in_X1 5 (by decide) q188 (Or.inl rfl) rfl dX1_init_44 ?_
        refine g_iload_n C dX1_init_47 (gi _) rfl ?_
        refine g_new C (ci := 2) (fs := [.int 0, .int 0, .int 0, .null]) rfl in_X3 tyX3 tyX3_ok q114 q118 q70 (by decide +kernel) (by show _ ≤ 27 ∧ _ ≤ 126; omega) dX1_init_48 (fun _ => ?_)
        refine g_dup C dX1_init_51 rfl ?_
        refine g_aload_n C dX1_init_52 (gr _) rfl ?_
        refine g_iload_n C dX1_init_53 (gi _) rfl ?_
        refine g_callI0z C (mX3_init hY) (lw_meth q121) q70 q119 q120 rfl nd_X3_init ⟨by decide, by decide⟩ (by show _ ≤ 27 ∧ _ ≤ 126; omega) rfl (Nat.le_of_ble_eq_true rfl) dX1_init_54 ?_
        refine g_aastK C 4 rfl ((gup_n _ _ (by omega)).trans (ovI_2 dA x b k h)) (gup_s _ _ _) (ci := 2) rfl (by omega) dX1_init_57 ?_
        refine g_hE (congrArg (fun z => gup _ (b + 2) (gR (dA 4) 12 z)) (wpK_s b (by omega))) ?_
        refine g_aload_n C dX1_init_58 (gr _) rfl ?_
        refine g_get C ((gup_n _ _ (by omega)).trans ((gup_n _ _ (by omega)).trans (ovI_0 dA x b k h))) rfl in_X1 6 (by decide) q190 (Or.inl rfl) rfl dX1_init_59 ?_
        refine g_iload_n C dX1_init_62 (gi _) rfl ?_
        refine g_new C (ci := 3) (fs := [.int 0, .int 0, .int 0, .null]) rfl in_X4 tyX4 tyX4_ok q116 q154 q71 (by decide +kernel) (by show _ ≤ 27 ∧ _ ≤ 126; omega) dX1_init_63 (fun _ => ?_)
        refine g_dup C dX1_init_66 rfl ?_
        refine g_aload_n C dX1_init_67 (gr _) rfl ?_
        refine g_iload_n C dX1_init_68 (gi _) rfl ?_
        refine g_callI0z C (mX4_init hY) (lw_meth q157) q71 q155 q156 rfl nd_X4_init ⟨by decide, by decide⟩ (by show _ ≤ 27 ∧ _ ≤ 126; omega) rfl (Nat.le_of_ble_eq_true rfl) dX1_init_69 ?_
        refine g_aastK C 5 rfl ((gup_n _ _ (by omega)).trans ((gup_n _ _ (by omega)).trans ((gup_n _ _ (by omega)).trans (ovI_3 dA x b k h)))) (gup_s _ _ _) (ci := 3) rfl (by omega) dX1_init_72 ?_
        refine g_iinc1002 C dX1_init_73 rfl ?_
        refine g_goto C (tgt := 37) dX1_init_76 (by decide) ?_
        refine g_hE (show _ = ovI dA x b (k + 1) h from ?_) ?_
        · rw [show b + 4 + 2 * k.toNat + 1 = b + 5 + 2 * k.toNat by omega, wfK_s b (by omega)]; exact ovI_s dA x b h (by omega)
        refine g_sz (sz' := b + 4 + 2 * (k + 1).toNat) (by omega) ?_
        refine g_widen (k' := 3 + 2 * (k + 1).toNat) (n' := 30 + 8 * (k + 1).toNat) (by omega) (by omega) ?_
        exact ih1 _ (by omega) (by omega)
  refine g_hE (ovI_init dA x b h (gO 0 []) (gO 0 []) (gO 0 []) rfl) ?_
  exact lp37_1 _ _ (by omega) (Nat.lt_succ_self _)
