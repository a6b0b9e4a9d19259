/-! THE COMPONENT: its constructor -/
set_option maxRecDepth 100000
def dF0 : Int → Int := dStart iF 4 4 2 2
/-- the state at the start -/
def cS0 : MS := fun a j => if a = 0 ∨ a = 6 then dF0 j else if a = 4 ∧ 0 ≤ j ∧ j < 3 then -1 else 0
def cP0 : PS := fun _ _ => none
theorem rep_0 {dA : Nat → ClassId} {x sz : Nat} {h : gH} (hz : x + 73 ≤ sz) : rep dA x cS0 cP0 h sz := by
  refine ⟨⟨by decide, hz⟩, fun i a b => ⟨fun _ w => ?_, fun p hp => ?_⟩, fun i j p q a b c d e => ?_⟩
  · unfold live at w
    by_cases g1 : i < 8
    · rw [if_pos g1] at w
      have : cS0 10 2 = 0 := rfl
      omega
    rw [if_neg g1] at w
    by_cases g2 : i < 10
    · rw [if_pos g2] at w
      have : cS0 2 (i - 8) = 0 := rfl
      omega
    · rw [if_neg g2] at w
      have : cS0 4 (i - 10) = -1 := by unfold cS0; rw [if_neg (by omega), if_pos (by omega)]
      omega
  · unfold rfS cP0 at hp
    (repeat' split at hp) <;> cases hp
  · unfold rfS cP0 at d
    (repeat' split at d) <;> cases d
theorem cP0_bg : bgP cP0 3 = cP0 := by
  funext a j
  unfold bgP cP0
  (repeat' split) <;> rfl
theorem cS0_u : us cS0 10 2 0 = cS0 := by
  funext a j
  rw [us_eq]
  split
  · rename_i g
    rw [g.1]
    rfl
  · rfl
theorem init_H (dA : Nat → ClassId) (x : Nat) (h : gH) (e0 e1 e2 e3 e4 e5 e6 : va_E) :
    gup (gup (gup (gup (gup (gup (gup (gup (gup (gup (gup (ovD dA x (x + 29) dF0 (gup (ovD dA x (x + 1) dF0 (gup h x e0)) x e1)) x e2) (x + 57) (gR (dA 3) 2 (fun _ => none))) x e3) (x + 58) (gR (dA 3) 8 (fun _ => none))) x e4) (x + 59) (gI (dA 0) 12 (fun _ => 0))) x e5) (x + 60) (gI (dA 1) 200 (fun _ => 0))) x e6) (x + 61) (gR (dA 6) 3 (fun _ => none))) x (gO 0 (xO x cS0)) = ovX dA x cS0 cP0 h := by
  have c1 : cS0 1 = fun _ => 0 := rfl
  have c3 : cS0 3 = fun _ => 0 := rfl
  have c0 : cS0 0 = dF0 := rfl
  have c6 : cS0 6 = dF0 := rfl
  funext q
  by_cases h0 : q = x
  · rw [h0, gup_s, ovX_0]
  rw [gup_n _ _ h0]
  by_cases h61 : q = x + 61
  · rw [h61, gup_s, ovX_61]; rfl
  rw [gup_n _ _ h61, gup_n _ _ h0]
  by_cases h60 : q = x + 60
  · rw [h60, gup_s, ovX_60, c3]
  rw [gup_n _ _ h60, gup_n _ _ h0]
  by_cases h59 : q = x + 59
  · rw [h59, gup_s, ovX_59, c1]
  rw [gup_n _ _ h59, gup_n _ _ h0]
  by_cases h58 : q = x + 58
  · rw [h58, gup_s, ovX_58]; rfl
  rw [gup_n _ _ h58, gup_n _ _ h0]
  by_cases h57 : q = x + 57
  · rw [h57, gup_s, ovX_57]; rfl
  rw [gup_n _ _ h57, gup_n _ _ h0]
  by_cases ht : x + 29 ≤ q ∧ q < x + 57
  · have e := isX_tried dA x cS0 cP0 h (q - (x + 29)) (by omega)
    rw [show x + 29 + (q - (x + 29)) = q by omega, c6] at e
    rw [e]
    unfold ovD
    rw [if_pos (by omega)]
  rw [ovD_off _ _ _ _ _ (by omega), gup_n _ _ h0]
  by_cases hn : x + 1 ≤ q ∧ q < x + 29
  · have e := isX_now dA x cS0 cP0 h (q - (x + 1)) (by omega)
    rw [show x + 1 + (q - (x + 1)) = q by omega, c0] at e
    rw [e]
    unfold ovD
    rw [if_pos (by omega)]
  rw [ovD_off _ _ _ _ _ (by omega), gup_n _ _ h0, ovX_off _ _ _ _ _ (by omega)]

theorem nd_X0_init : yX0_init.cls ≠ "java/lang/invoke/MethodHandle" ∧ yX0_init.cls ≠ "java/lang/invoke/VarHandle" ∧ (parseMethodDescriptor yX0_init.desc).map (fun d => d.parameters.length) = some 0 := by decide +kernel
theorem mX0_init {l : Launch} {D : va_G} {dA : Nat → ClassId} {N0 : Nat} {Y : State → Prop} (hY : gYc N0 Y) {h : gH} {x : Nat} : gM l D dA N0 Y yX0_init cX0_init 1 none 4 86 61 493 [.ref x] (gup h x (gO 0 [.null, .null, .null, .null, vI 0, .null, vI 0, vI 0, .null, vI 0, .null])) (x + 1) (gP none (ovX dA x cS0 cP0 h) (x + 62)) := by
  refine gM.of hY.ok (by decide +kernel) (Nat.le_of_ble_eq_true rfl) ?_
  intro X hX C hQ
  subst hX
  have C : gC X cX0_init RX0 "<init>" 1 none D dA N0 Y ({ frames := 4, cells := 61, slots := 493, locals := 86 }) := C
  show G X 0 0 _ _ 0 [some (.ref x)] []
  refine g_aload_n C dX0_init_0 (gr _) rfl ?_
  refine g_objInit C q105 q106 q107 (Nat.le_of_ble_eq_true rfl) ⟨by decide, by decide⟩ dX0_init_1 ?_
  refine g_aload_n C dX0_init_4 (gr _) rfl ?_
  refine g_new C (ci := 1) (fs := [vI 0, vI 0, vI 0, vI 0, .null, .null, .null, .null]) rfl in_X1 tyX1 tyX1_ok q108 q109 q68 (by decide +kernel) ⟨Nat.le_of_ble_eq_true rfl, Nat.le_of_ble_eq_true rfl⟩ dX0_init_5 (fun _ => ?_)
  refine g_dup C dX0_init_8 rfl ?_
  refine g_aload_n C dX0_init_9 (gr _) rfl ?_
  refine g_callI0 C (mX1_init hY) (lw_meth q112) q68 q110 q111 rfl nd_X1_init ⟨by decide, by decide⟩ ⟨Nat.le_of_ble_eq_true rfl, Nat.le_of_ble_eq_true rfl⟩ rfl (Nat.le_of_ble_eq_true rfl) dX0_init_10 ?_
  refine g_putF C ((ovD_off _ _ _ _ _ (by omega)).trans (gup_s _ _ _)) (ci := 0) rfl in_X0 0 (by decide) tyX0 tyX0_ok nmX0 q218 (Or.inl rfl) rfl rfl rfl rfl rfl (Nat.le_of_ble_eq_true rfl) dX0_init_13 ?_
  refine g_aload_n C dX0_init_16 (gr _) rfl ?_
  refine g_new C (ci := 1) (fs := [vI 0, vI 0, vI 0, vI 0, .null, .null, .null, .null]) rfl in_X1 tyX1 tyX1_ok q108 q109 q68 (by decide +kernel) ⟨Nat.le_of_ble_eq_true rfl, Nat.le_of_ble_eq_true rfl⟩ dX0_init_17 (fun _ => ?_)
  refine g_dup C dX0_init_20 rfl ?_
  refine g_aload_n C dX0_init_21 (gr _) rfl ?_
  refine g_callI0 C (mX1_init hY) (lw_meth q112) q68 q110 q111 rfl nd_X1_init ⟨by decide, by decide⟩ ⟨Nat.le_of_ble_eq_true rfl, Nat.le_of_ble_eq_true rfl⟩ rfl (Nat.le_of_ble_eq_true rfl) dX0_init_22 ?_
  refine g_putF C ((ovD_off _ _ _ _ _ (by omega)).trans (gup_s _ _ _)) (ci := 0) rfl in_X0 1 (by decide) tyX0 tyX0_ok nmX0 q219 (Or.inl rfl) rfl rfl rfl rfl rfl (Nat.le_of_ble_eq_true rfl) dX0_init_25 ?_
  refine g_aload_n C dX0_init_28 (gr _) rfl ?_
  refine g_iconst C dX0_init_29 ?_
  refine g_anew (N := 2) C 3 rfl q108 (gtok hY C q210 rfl) (Nat.le_of_ble_eq_true rfl) ⟨Nat.le_of_ble_eq_true rfl, Nat.le_of_ble_eq_true rfl⟩ dX0_init_30 (fun _ => ?_)
  refine g_putF C ((gup_n _ _ (by omega)).trans (gup_s _ _ _)) (ci := 0) rfl in_X0 2 (by decide) tyX0 tyX0_ok nmX0 q220 (Or.inl rfl) rfl rfl rfl rfl rfl (Nat.le_of_ble_eq_true rfl) dX0_init_33 ?_
  refine g_aload_n C dX0_init_36 (gr _) rfl ?_
  refine g_bipush C dX0_init_37 (by decide +kernel) ?_
  refine g_anew (N := 8) C 3 rfl q108 (gtok hY C q210 rfl) (Nat.le_of_ble_eq_true rfl) ⟨Nat.le_of_ble_eq_true rfl, Nat.le_of_ble_eq_true rfl⟩ dX0_init_39 (fun _ => ?_)
  refine g_putF C ((gup_n _ _ (by omega)).trans (gup_s _ _ _)) (ci := 0) rfl in_X0 3 (by decide) tyX0 tyX0_ok nmX0 q221 (Or.inl rfl) rfl rfl rfl rfl rfl (Nat.le_of_ble_eq_true rfl) dX0_init_42 ?_
  refine g_aload_n C dX0_init_45 (gr _) rfl ?_
  refine g_bipush C dX0_init_46 (by decide +kernel) ?_
  refine g_newa (N := 12) (atype := .int) (ty := .int) C 0 rfl rfl (fun _ _ => rfl) rfl q153 (Nat.le_of_ble_eq_true rfl) (by decide) ⟨Nat.le_of_ble_eq_true rfl, Nat.le_of_ble_eq_true rfl⟩ dX0_init_48 (fun _ => ?_)
  refine g_putF C ((gup_n _ _ (by omega)).trans (gup_s _ _ _)) (ci := 0) rfl in_X0 5 (by decide) tyX0 tyX0_ok nmX0 q225 (Or.inl rfl) rfl rfl rfl rfl rfl (Nat.le_of_ble_eq_true rfl) dX0_init_50 ?_
  refine g_aload_n C dX0_init_53 (gr _) rfl ?_
  refine g_sipush C dX0_init_54 (by decide +kernel) ?_
  refine g_newa (N := 200) (atype := .byte) (ty := .byte) C 1 rfl rfl (fun _ _ => rfl) rfl q259 (Nat.le_of_ble_eq_true rfl) (by decide) ⟨Nat.le_of_ble_eq_true rfl, Nat.le_of_ble_eq_true rfl⟩ dX0_init_57 (fun _ => ?_)
  refine g_putF C ((gup_n _ _ (by omega)).trans (gup_s _ _ _)) (ci := 0) rfl in_X0 8 (by decide) tyX0 tyX0_ok nmX0 q232 (Or.inl rfl) rfl rfl rfl rfl rfl (Nat.le_of_ble_eq_true rfl) dX0_init_59 ?_
  refine g_aload_n C dX0_init_62 (gr _) rfl ?_
  refine g_iconst C dX0_init_63 ?_
  refine g_anew (N := 3) C 6 rfl q211 (gtok hY C q212 rfl) (Nat.le_of_ble_eq_true rfl) ⟨Nat.le_of_ble_eq_true rfl, Nat.le_of_ble_eq_true rfl⟩ dX0_init_64 (fun _ => ?_)
  refine g_putF C ((gup_n _ _ (by omega)).trans (gup_s _ _ _)) (ci := 0) rfl in_X0 10 (by decide) tyX0 tyX0_ok nmX0 q235 (Or.inl rfl) rfl rfl rfl rfl rfl (Nat.le_of_ble_eq_true rfl) dX0_init_67 ?_
  refine g_hE (init_H dA x h _ _ _ _ _ _ _) ?_
  refine g_aload_n C dX0_init_70 (gr _) rfl ?_
  refine g_callV0z C (mX0_begin hY) (lw_V q213 q215 qs0 q67 q216) ⟨rfl, nd_X0_begin⟩ (ovX_0 _ _ _ _ _) rfl ⟨by decide, by decide⟩ ⟨Nat.le_of_ble_eq_true rfl, Nat.le_of_ble_eq_true rfl⟩ rfl (Nat.le_of_ble_eq_true rfl) dX0_init_71 ?_
  exact g_vret C hQ rfl dX0_init_74 ⟨rfl, by rw [cS0_u, cP0_bg], rfl⟩
