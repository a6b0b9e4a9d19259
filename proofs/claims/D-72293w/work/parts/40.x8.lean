/-! THE COMPONENT: begin -/
set_option maxRecDepth 100000
/-- no kept drafts, no spools: the references -/
def bgP (P : PS) (k : Int) : PS := fun a j => if a = 0 ∧ 0 ≤ j ∧ j < 2 then none else if a = 2 ∧ 0 ≤ j ∧ j < k then none else P a j
theorem up_eq (P : PS) (a b : Nat) (i j : Int) (v : Option Nat) : up P a i v b j = if b = a ∧ j = i then v else P b j := by
  unfold up uI
  by_cases h : b = a
  · subst h; simp
  · simp [h]
theorem bgP_0 (P : PS) : up (up P 0 0 none) 0 1 none = bgP P 0 := by
  funext a j
  rw [up_eq, up_eq]
  unfold bgP
  (repeat' split) <;> first | rfl | omega
theorem bgP_s (P : PS) {k : Int} (hk : 0 ≤ k) : up (bgP P k) 2 k none = bgP P (k + 1) := by
  funext a j
  rw [up_eq]
  unfold bgP
  (repeat' split) <;> first | rfl | omega
theorem gxP {dA : Nat → ClassId} {x : Nat} {S : MS} {P P' : PS} {h : gH} (e : P = P') : ovX dA x S P h = ovX dA x S P' h := by rw [e]
theorem rep_begin {dA : Nat → ClassId} {x sz : Nat} {S S' : MS} {P : PS} {h : gH} (hr : rep dA x S P h sz) (hb : S' 10 2 = 0) (h2 : S' 2 0 = 0 ∧ S' 2 1 = 0) (h4 : ∀ k : Int, 0 ≤ k → k < 3 → S' 4 k = -1) : rep dA x S' (bgP P 3) h sz := by
  obtain ⟨⟨r1, r1x⟩, r2, r3⟩ := hr
  have hrf : ∀ i : Int, 0 ≤ i → i < 13 → rfS (bgP P 3) i = if i < 8 then rfS P i else none := by
    intro i a b
    unfold rfS bgP
    by_cases g1 : i < 8
    · rw [if_pos g1, if_pos g1, if_pos g1, if_neg (by omega), if_neg (by omega)]
    rw [if_neg g1, if_neg g1]
    by_cases g2 : i < 10
    · rw [if_pos g2, if_pos (by omega)]
    · rw [if_neg g2, if_neg (by omega), if_pos (by omega)]
  have hl : ∀ i : Int, 0 ≤ i → i < 13 → ¬ live S' i := by
    intro i a b
    unfold live
    by_cases g1 : i < 8
    · rw [if_pos g1]; omega
    rw [if_neg g1]
    by_cases g2 : i < 10
    · rw [if_pos g2]
      rcases (show i = 8 ∨ i = 9 by omega) with rfl | rfl
      · have := h2.1; show ¬ S' 2 0 = 1; omega
      · have := h2.2; show ¬ S' 2 1 = 1; omega
    · rw [if_neg g2]
      have := h4 (i - 10) (by omega) (by omega)
      omega
  refine ⟨⟨by omega, r1x⟩, fun i a b => ⟨fun _ => hl i a b, fun p hp => ?_⟩, fun i j p q a b c d e => ?_⟩
  · rw [hrf i a b] at hp
    by_cases g1 : i < 8
    · rw [if_pos g1] at hp
      obtain ⟨t1, t2, t3, t4⟩ := (r2 i a b).2 p hp
      refine ⟨fun z => by omega, t2, t3, ?_⟩
      unfold slotOk at t4 ⊢
      rw [if_pos (by omega)] at t4 ⊢
      obtain ⟨F, f1, _⟩ := t4
      exact ⟨F, f1, fun w => absurd w (hl i a b)⟩
    · rw [if_neg g1] at hp; cases hp
  · rw [hrf i a (by omega)] at d
    rw [hrf j (by omega) c] at e
    by_cases g2 : j < 8
    · rw [if_pos (by omega)] at d
      rw [if_pos g2] at e
      exact r3 i j p q a b c d e
    · rw [if_neg g2] at e; cases e

theorem nd_X0_begin : yX0_begin.cls ≠ "java/lang/invoke/MethodHandle" ∧ yX0_begin.cls ≠ "java/lang/invoke/VarHandle" ∧ (parseMethodDescriptor yX0_begin.desc).map (fun d => d.parameters.length) = some 0 := by decide +kernel
theorem mX0_begin {l : Launch} {D : va_G} {dA : Nat → ClassId} {N0 : Nat} {Y : State → Prop} (hY : gYc N0 Y) {h : gH} {sz x : Nat} {S : MS} {P : PS}  : gM l D dA N0 Y yX0_begin cX0_begin 2 none 0 0 0 0 [.ref x] (ovX dA x S P h) sz (gP none (ovX dA x (us S 10 2 0) (bgP P 3) h) sz) := by
  refine gM.of hY.ok (by decide +kernel) (Nat.le_of_ble_eq_true rfl) ?_
  intro X hX C hQ
  subst hX
  have C : gC X cX0_begin RX0 "begin" 2 none D dA N0 Y ({ frames := 0, cells := 0, slots := 0, locals := 0 }) := C
  show G X 0 0 _ _ 0 [some (.ref x), none] []
  refine g_aload_n C dX0_begin_0 (gr _) rfl ?_
  refine g_iconst C dX0_begin_1 ?_
  refine X_p_backMany C q222 dX0_begin_2 ?_
  refine g_aload_n C dX0_begin_5 (gr _) rfl ?_
  refine X_g_kept C q220 dX0_begin_6 ?_
  refine g_iconst C dX0_begin_9 ?_
  refine g_null C dX0_begin_10 ?_
  refine X_sn_kept C (by omega) dX0_begin_11 ?_
  refine g_aload_n C dX0_begin_12 (gr _) rfl ?_
  refine X_g_kept C q220 dX0_begin_13 ?_
  refine g_iconst C dX0_begin_16 ?_
  refine g_null C dX0_begin_17 ?_
  refine X_sn_kept C (by omega) dX0_begin_18 ?_
  refine g_iconst C dX0_begin_19 ?_
  refine g_istore_n1001 C dX0_begin_20 (gi _) rfl ?_
  have lp21_1 : ∀ (fuel : Nat) (k : Int), (0 ≤ k ∧ k ≤ 3) → (3 - k).toNat < fuel → G X 0 0 (ovX dA x (us S 10 2 0) (bgP P k) h) sz 21 [some (.ref x), some (vI k)] [] := by
    intro fuel
    induction fuel with
    | zero => intro k hI hfu; exact absurd hfu (Nat.not_lt_zero _)
    | succ fuel ih =>
      intro k hI hfu
      have ih1 := ih
      refine g_iload_n C dX0_begin_21 (gi _) rfl ?_
      refine g_iconst C dX0_begin_22 ?_
      refine g_icmp_ge C (tgt := 39) dX0_begin_23 (by decide) (by omega) (fun c1 => ?_) (fun c1 => ?_)
      · exact g_vret C hQ rfl dX0_begin_39 ⟨rfl, by rw [show k = 3 by omega], rfl⟩
      · refine g_aload_n C dX0_begin_26 (gr _) rfl ?_
        refine X_g_spools C q235 dX0_begin_27 ?_
        refine g_iload_n C dX0_begin_30 (gi _) rfl ?_
        refine g_null C dX0_begin_31 ?_
        refine X_sn_spools C (by omega) dX0_begin_32 ?_
        refine g_iinc1001 C dX0_begin_33 rfl ?_
        refine g_goto C (tgt := 21) dX0_begin_36 (by decide) ?_
        refine g_hE (gxP (bgP_s P (by omega))) ?_
        exact ih1 _ (by omega) (by omega)
  refine g_hE (gxP (bgP_0 P)) ?_
  exact lp21_1 _ _ (by omega) (Nat.lt_succ_self _)
