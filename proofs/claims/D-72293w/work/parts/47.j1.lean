/-! THE JDK: Arrays.fill of ints -/
set_option maxRecDepth 100000
def flK (v : Int) (G1 : Int → Int) (k : Int) : Int → Int := fun j => if 0 ≤ j ∧ j < k then v else G1 j
theorem flK_0 (v : Int) (G1 : Int → Int) : flK v G1 0 = G1 := by
  funext j; unfold flK; rw [if_neg (by omega)]
theorem flK_s (v : Int) (G1 : Int → Int) {k : Int} (hk : 0 ≤ k) : uI (flK v G1 k) k v = flK v G1 (k + 1) := by
  funext j
  simp only [uI, flK]
  by_cases h : j = k
  · rw [if_pos h, if_pos (by omega)]
  · rw [if_neg h]
    by_cases h2 : 0 ≤ j ∧ j < k
    · rw [if_pos h2, if_pos (by omega)]
    · rw [if_neg h2, if_neg (by omega)]

theorem nd_J6_fill : yJ6_fill.cls ≠ "java/lang/invoke/MethodHandle" ∧ yJ6_fill.cls ≠ "java/lang/invoke/VarHandle" ∧ (parseMethodDescriptor yJ6_fill.desc).map (fun d => d.parameters.length) = some 2 := by decide +kernel
theorem mJ6_fill {l : Launch} {D : va_G} {dA : Nat → ClassId} {N0 : Nat} {Y : State → Prop} (hY : gYc N0 Y) {h : gH} {sz t N : Nat} {v : Int} {G1 : Int → Int} (hN : N < 2147483648) : gM l D dA N0 Y yJ6_fill cJ6_fill 4 none 0 0 0 0 [.ref t, vI v] (gup h t (gI (dA 0) N (G1))) sz (gP none (gup h t (gI (dA 0) N (flK v G1 N))) sz) := by
  refine gM.ofF hY.ok (by decide +kernel) (Nat.le_of_ble_eq_true rfl) ?_
  intro X hX C hQ
  subst hX
  have C : gC X cJ6_fill RJ6 "fill" 4 none D dA N0 Y ({ frames := 0, cells := 0, slots := 0, locals := 0 }) := C
  show G X 0 0 _ _ 0 [some (.ref t), some (vI v), none, none] []
  refine g_iconst C dJ6_fill_0 ?_
  refine g_istore_n1002 C dJ6_fill_1 (gi _) rfl ?_
  refine g_aload_n C dJ6_fill_2 (gr _) rfl ?_
  refine g_alen C 0 rfl (gup_s _ _ _) dJ6_fill_3 ?_
  refine g_istore_n1003 C dJ6_fill_4 (gi _) rfl ?_
  have lp5_1 : ∀ (fuel : Nat) (k : Int), (0 ≤ k ∧ k ≤ N) → ((N : Int) - k).toNat < fuel → G X 0 0 (gup h t (gI (dA 0) N (flK v G1 k))) sz 5 [some (.ref t), some (vI v), some (vI k), some (vI (N : Int))] [] := by
    intro fuel
    induction fuel with
    | zero => intro k hI hfu; exact absurd hfu (Nat.not_lt_zero _)
    | succ fuel ih =>
      intro k hI hfu
      have ih1 := ih
      refine g_iload_n C dJ6_fill_5 (gi _) rfl ?_
      refine g_iload_n C dJ6_fill_6 (gi _) rfl ?_
      refine g_icmp_ge C (tgt := 20) dJ6_fill_7 (by decide) (by omega) (fun c1 => ?_) (fun c1 => ?_)
      · exact g_vret C hQ rfl dJ6_fill_20 ⟨rfl, by rw [show k = (N : Int) by omega], rfl⟩
      · refine g_aload_n C dJ6_fill_10 (gr _) rfl ?_
        refine g_iload_n C dJ6_fill_11 (gi _) rfl ?_
        refine g_iload_n C dJ6_fill_12 (gi _) rfl ?_
        refine g_iast C (gup_s _ _ _) (by omega) dJ6_fill_13 ?_
        refine g_hE (gup_gup _ _ _ _) ?_
        refine g_iinc1002 C dJ6_fill_14 rfl ?_
        refine g_goto C (tgt := 5) dJ6_fill_17 (by decide) ?_
        refine g_hE (congrArg (fun z => gup h t (gI (dA 0) N z)) (flK_s v G1 (by omega))) ?_
        exact ih1 _ (by omega) (by omega)
  refine g_hE (congrArg (fun z => gup h t (gI (dA 0) N z)) (flK_0 v G1).symm) ?_
  exact lp5_1 _ 0 (by omega) (Nat.lt_succ_self _)
