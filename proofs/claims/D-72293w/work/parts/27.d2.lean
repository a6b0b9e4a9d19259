/-! THE COMPONENT: the longest floats, the stitches -/
set_option maxRecDepth 100000
theorem runU_rg (u : Int → Bool) (many : Int) (b : Bool) (h : 0 ≤ many) : 0 ≤ runU u many b ∧ runU u many b ≤ many := by
  have := runG_rg u b many.toNat
  unfold runU
  omega
theorem mxI_12 {a b : Int} (h : (0 ≤ a ∧ a ≤ 12) ∧ 0 ≤ b ∧ b ≤ 12) : 0 ≤ mxI a b ∧ mxI a b ≤ 12 := by unfold mxI; split <;> omega
theorem runU_12 (u : Int → Bool) (many : Int) (b : Bool) (h : 0 ≤ many ∧ many ≤ 12) : 0 ≤ runU u many b ∧ runU u many b ≤ 12 := by
  have := runU_rg u many b h.1
  omega
theorem runU_Ed (F : Int → Int) (i : Int) (up : Bool) : runU (fun k => upB (dS F) k i) (F 1) up = runV (upEnd (dS F) i) (F 1) up := runU_E (S := dS F) i up
theorem runU_Pd (F : Int → Int) (q : Int) (up : Bool) : runU (fun k => upB (dS F) q k) (F 0) up = runV (upPick (dS F) q) (F 0) up := runU_P (S := dS F) q up
/-- a pick's stitches: every second end is enough -/
theorem stF_2 {S : MS} {q n k : Int} {up : Bool} (hu : up = decide (q % 2 = 0)) (hq : 0 ≤ q) (hk : 0 ≤ k ∧ k % 2 = bI up) : stF S q (k + 1) (stF S q k n) = n + (if upB S q k = up then 1 else 0) := by
  subst hu
  unfold stF
  by_cases h : q % 2 = 0
  · rw [decide_eq_true h] at hk ⊢
    have hk2 : k % 2 = 1 := hk.2
    rw [if_neg (show ¬((q % 2 = 0 ∧ (k + 1) % 2 = 1 ∧ upB S q (k + 1) = true) ∨ (q % 2 = 1 ∧ (k + 1) % 2 = 0 ∧ upB S q (k + 1) = false)) by omega)]
    cases hb : upB S q k
    · rw [if_neg (by rintro (⟨-, -, z⟩ | ⟨z, -⟩); · cases z
                     · omega), if_neg (by decide)]; omega
    · rw [if_pos (Or.inl ⟨h, hk2, rfl⟩), if_pos rfl]; omega
  · rw [decide_eq_false h] at hk ⊢
    have hk2 : k % 2 = 0 := hk.2
    rw [if_neg (show ¬((q % 2 = 0 ∧ (k + 1) % 2 = 1 ∧ upB S q (k + 1) = true) ∨ (q % 2 = 1 ∧ (k + 1) % 2 = 0 ∧ upB S q (k + 1) = false)) by omega)]
    cases hb : upB S q k
    · rw [if_pos (Or.inr ⟨by omega, hk2, rfl⟩), if_pos rfl]; omega
    · rw [if_neg (by rintro (⟨z, -⟩ | ⟨-, -, z⟩); · omega
                     · cases z), if_neg (by decide)]; omega
theorem stF_0 {S : MS} {q : Int} {up : Bool} (hu : up = decide (q % 2 = 0)) : fo (stF S q) 0 (bI up).toNat = 0 := by
  subst hu
  by_cases h : q % 2 = 0
  · rw [decide_eq_true h]
    show stF S q 0 0 = 0
    unfold stF
    rw [if_neg (by omega)]
    rfl
  · rw [decide_eq_false h]
    rfl
theorem stF_end {S : MS} {q k : Int} {up : Bool} (hu : up = decide (q % 2 = 0)) (hq : 0 ≤ q) (h0 : 0 ≤ S 0 0) (hk : S 0 0 ≤ k ∧ k ≤ S 0 0 + 1 ∧ k % 2 = bI up) : fo (stF S q) 0 k.toNat = stV S q := by
  unfold stV
  by_cases h : k = S 0 0
  · rw [h]
  · rw [show k = S 0 0 + 1 by omega, fo_s h0]
    generalize fo (stF S q) 0 (S 0 0).toNat = n
    have hp : (S 0 0) % 2 ≠ bI up := by
      cases up
      · have : bI false = 0 := rfl
        omega
      · have : bI true = 1 := rfl
        omega
    subst hu
    unfold stF
    rw [if_neg]
    · omega
    · rintro (⟨z1, z2, -⟩ | ⟨z1, z2, -⟩)
      · rw [decide_eq_true z1] at hp; exact hp z2
      · rw [decide_eq_false (by omega)] at hp; exact hp z2

theorem ndx_2 : (⟨"WeaveDraft$Look", "longest", "(Z)I"⟩ : MethodName).cls ≠ "java/lang/invoke/MethodHandle" ∧ (⟨"WeaveDraft$Look", "longest", "(Z)I"⟩ : MethodName).cls ≠ "java/lang/invoke/VarHandle" ∧ (parseMethodDescriptor "(Z)I").map (fun d => d.parameters.length) = some 1 := by decide +kernel
theorem nd_X3_longest : yX3_longest.cls ≠ "java/lang/invoke/MethodHandle" ∧ yX3_longest.cls ≠ "java/lang/invoke/VarHandle" ∧ (parseMethodDescriptor yX3_longest.desc).map (fun d => d.parameters.length) = some 0 := by decide +kernel
theorem mX3_longest {l : Launch} {D : va_G} {dA : Nat → ClassId} {N0 : Nat} {Y : State → Prop} (hY : gYc N0 Y) {h : gH} {sz x b : Nat} {F : Int → Int} (hD : isD dA x b F h) (hO : OkD F) {i : Int} (hi : 0 ≤ i ∧ i < 12) : gM l D dA N0 Y yX3_longest cX3_longest 1 (some .int) 4 88 0 0 [.ref (b + 4 + 2 * i.toNat)] (h) sz (gP (some (vI (mxI (runU (fun k => upB (dS F) k i) (F 1) true) (runU (fun k => upB (dS F) k i) (F 1) false)))) h sz) := by
  refine gM.of hY.ok (by decide +kernel) (Nat.le_of_ble_eq_true rfl) ?_
  intro X hX C hQ
  subst hX
  have C : gC X cX3_longest RX3 "longest" 1 (some .int) D dA N0 Y ({ frames := 4, cells := 0, slots := 0, locals := 88 }) := C
  show G X 0 0 _ _ 0 [some (.ref (b + 4 + 2 * i.toNat))] []
  have hn := hO.1
  have r1 := runU_12 (fun k => upB (dS F) k i) (F 1) true (by omega)
  have r2 := runU_12 (fun k => upB (dS F) k i) (F 1) false (by omega)
  refine g_aload_n C dX3_longest_0 (gr _) rfl ?_
  refine g_iconst C dX3_longest_1 ?_
  refine g_callVD1z (owner := "WeaveDraft$Look") C (mX12_longest_E hY (up := true) (hD) (hO) (by omega)) q742 q1560 (gtoD hY C 7 rfl) (gtoD hY C 8 rfl) (gtok hY C q736 rfl) (gtoL hY C 5 rfl) (gtoA C q741 rfl) ⟨by decide, by decide, ndx_2.2.2⟩ (isD_E hD (by omega)) rfl ⟨by decide, by decide⟩ ⟨Nat.le_of_ble_eq_true rfl, Nat.le_of_ble_eq_true rfl⟩ rfl (Nat.le_of_ble_eq_true rfl) dX3_longest_2 ?_
  refine g_aload_n C dX3_longest_5 (gr _) rfl ?_
  refine g_iconst C dX3_longest_6 ?_
  refine g_callVD1z (owner := "WeaveDraft$Look") C (mX12_longest_E hY (up := false) (hD) (hO) (by omega)) q742 q1560 (gtoD hY C 7 rfl) (gtoD hY C 8 rfl) (gtok hY C q736 rfl) (gtoL hY C 5 rfl) (gtoA C q741 rfl) ⟨by decide, by decide, ndx_2.2.2⟩ (isD_E hD (by omega)) rfl ⟨by decide, by decide⟩ ⟨Nat.le_of_ble_eq_true rfl, Nat.le_of_ble_eq_true rfl⟩ rfl (Nat.le_of_ble_eq_true rfl) dX3_longest_7 ?_
  refine g_mmax C q1142 q396 q79 q397 (by omega) (Nat.le_of_ble_eq_true rfl) ⟨by decide, by decide⟩ ⟨Nat.le_of_ble_eq_true rfl, Nat.le_of_ble_eq_true rfl⟩ dX3_longest_10 ?_
  exact g_iret C hQ rfl dX3_longest_13 ⟨rfl, rfl, rfl⟩

theorem nd_X4_longest : yX4_longest.cls ≠ "java/lang/invoke/MethodHandle" ∧ yX4_longest.cls ≠ "java/lang/invoke/VarHandle" ∧ (parseMethodDescriptor yX4_longest.desc).map (fun d => d.parameters.length) = some 1 := by decide +kernel
theorem mX4_longest {l : Launch} {D : va_G} {dA : Nat → ClassId} {N0 : Nat} {Y : State → Prop} (hY : gYc N0 Y) {h : gH} {sz x b : Nat} {F : Int → Int} (hD : isD dA x b F h) (hO : OkD F) {i : Int} {up : Bool} (hi : 0 ≤ i ∧ i < 12) : gM l D dA N0 Y yX4_longest cX4_longest 2 (some .int) 4 88 0 0 [.ref (b + 5 + 2 * i.toNat), vI (bI up)] (h) sz (gP (some (vI (runU (fun k => upB (dS F) i k) (F 0) (!up)))) h sz) := by
  refine gM.of hY.ok (by decide +kernel) (Nat.le_of_ble_eq_true rfl) ?_
  intro X hX C hQ
  subst hX
  have C : gC X cX4_longest RX4 "longest" 2 (some .int) D dA N0 Y ({ frames := 4, cells := 0, slots := 0, locals := 88 }) := C
  show G X 0 0 _ _ 0 [some (.ref (b + 5 + 2 * i.toNat)), some (vI (bI up))] []
  refine g_aload_n C dX4_longest_0 (gr _) rfl ?_
  refine g_iload_n C dX4_longest_1 (gi _) rfl ?_
  refine g_ifne_b C (tgt := 9) dX4_longest_2 (by decide) (fun c1 => ?_) (fun c1 => ?_)
  · have hup := c1
    refine g_iconst C dX4_longest_9 ?_
    refine g_top (b := bI (!up)) (by rw [hup]; rfl) ?_
    refine g_callSUD1z C (mX12_longest_P hY (up := !up) (hD) (hO) (by omega)) q742 q1560 (gtoD hY C 2 rfl) (gtoD hY C 1 rfl) q167 (gtoL hY C 1 rfl) rfl q741 (by decide) ndx_2.2.2 (isD_P hD (by omega)) rfl ⟨by decide, by decide⟩ ⟨Nat.le_of_ble_eq_true rfl, Nat.le_of_ble_eq_true rfl⟩ rfl (Nat.le_of_ble_eq_true rfl) dX4_longest_10 ?_
    exact g_iret C hQ rfl dX4_longest_13 ⟨rfl, rfl, rfl⟩
  · have hup := c1
    refine g_iconst C dX4_longest_5 ?_
    refine g_goto C (tgt := 10) dX4_longest_6 (by decide) ?_
    refine g_top (b := bI (!up)) (by rw [hup]; rfl) ?_
    refine g_callSUD1z C (mX12_longest_P hY (up := !up) (hD) (hO) (by omega)) q742 q1560 (gtoD hY C 2 rfl) (gtoD hY C 1 rfl) q167 (gtoL hY C 1 rfl) rfl q741 (by decide) ndx_2.2.2 (isD_P hD (by omega)) rfl ⟨by decide, by decide⟩ ⟨Nat.le_of_ble_eq_true rfl, Nat.le_of_ble_eq_true rfl⟩ rfl (Nat.le_of_ble_eq_true rfl) dX4_longest_10 ?_
    exact g_iret C hQ rfl dX4_longest_13 ⟨rfl, rfl, rfl⟩

theorem nd_X4_stitches : yX4_stitches.cls ≠ "java/lang/invoke/MethodHandle" ∧ yX4_stitches.cls ≠ "java/lang/invoke/VarHandle" ∧ (parseMethodDescriptor yX4_stitches.desc).map (fun d => d.parameters.length) = some 0 := by decide +kernel
theorem mX4_stitches {l : Launch} {D : va_G} {dA : Nat → ClassId} {N0 : Nat} {Y : State → Prop} (hY : gYc N0 Y) {h : gH} {sz x b : Nat} {F : Int → Int} (hD : isD dA x b F h) (hO : OkD F) {i : Int} (hi : 0 ≤ i ∧ i < 12) : gM l D dA N0 Y yX4_stitches cX4_stitches 4 (some .int) 3 64 0 0 [.ref (b + 5 + 2 * i.toNat)] (h) sz (gP (some (vI (stV (dS F) i))) h sz) := by
  refine gM.of hY.ok (by decide +kernel) (Nat.le_of_ble_eq_true rfl) ?_
  intro X hX C hQ
  subst hX
  have C : gC X cX4_stitches RX4 "stitches" 4 (some .int) D dA N0 Y ({ frames := 3, cells := 0, slots := 0, locals := 64 }) := C
  show G X 0 0 _ _ 0 [some (.ref (b + 5 + 2 * i.toNat)), none, none, none] []
  have hn := hO.1
  refine g_iconst C dX4_stitches_0 ?_
  refine g_istore_n1001 C dX4_stitches_1 (gi _) rfl ?_
  have jn16 : ∀ (u : Bool), (u = decide (i % 2 = 0)) → G X 0 0 (h) sz 16 [some (.ref (b + 5 + 2 * i.toNat)), some (vI 0), none, none] [vI (bI u)] := by
    intro u hu
    refine g_istore_n1002 C dX4_stitches_16 (gi _) rfl ?_
    refine g_iload_n C dX4_stitches_17 (gi _) rfl ?_
    refine g_ifeq_b C (tgt := 25) dX4_stitches_18 (by decide) (fun c1 => ?_) (fun c1 => ?_)
    · have hu0 : u = false := c1
      refine g_iconst C dX4_stitches_25 ?_
      refine g_istore_n1003 C dX4_stitches_26 (gi _) rfl ?_
      have lp27_1 : ∀ (fuel : Nat) (n k : Int), ((0 ≤ k ∧ k ≤ F 0 + 1) ∧ k % 2 = bI u ∧ n = fo (stF (dS F) i) 0 k.toNat ∧ 0 ≤ n ∧ n ≤ k) → (F 0 + 1 - k).toNat < fuel → G X 0 0 (h) sz 27 [some (.ref (b + 5 + 2 * i.toNat)), some (vI n), some (vI (bI u)), some (vI k)] [] := by
        intro fuel
        induction fuel with
        | zero => intro n k hI hfu; exact absurd hfu (Nat.not_lt_zero _)
        | succ fuel ih =>
          intro n k hI hfu
          have ih1 := ih
          obtain ⟨hI1, hI2, hI3, hI4⟩ := hI
          have e2 : fo (stF (dS F) i) 0 (k + 2).toNat = n + (if upB (dS F) i k = u then 1 else 0) := by rw [show k + 2 = (k + 1) + 1 by omega, fo_s (by omega), fo_s (by omega), ← hI3]; exact stF_2 hu (by omega) ⟨by omega, hI2⟩
          refine g_iload_n C dX4_stitches_27 (gi _) rfl ?_
          refine g_aload_n C dX4_stitches_28 (gr _) rfl ?_
          refine D_gP_this1 C hD (by omega) q160 dX4_stitches_29 ?_
          refine D_g_ends C hD q174 dX4_stitches_32 ?_
          refine g_icmp_ge C (tgt := 61) dX4_stitches_35 (by decide) (by omega) (fun c2 => ?_) (fun c2 => ?_)
          · refine g_iload_n C dX4_stitches_61 (gi _) rfl ?_
            exact g_iret C hQ rfl dX4_stitches_62 ⟨gv (by rw [hI3]; exact stF_end hu (by omega) (by show 0 ≤ F 0; omega) (by show F 0 ≤ k ∧ k ≤ F 0 + 1 ∧ _; omega)), rfl, rfl⟩
          · refine g_iload_n C dX4_stitches_38 (gi _) rfl ?_
            refine g_aload_n C dX4_stitches_39 (gr _) rfl ?_
            refine g_iload_n C dX4_stitches_40 (gi _) rfl ?_
            refine g_callV1z C (mX4_is hY (hD) (hO) (by omega) (by omega)) (lw_V q802 q777 q1557 q71 q779) ⟨rfl, nd_X4_is⟩ (isD_P hD (by omega)) rfl ⟨by decide, by decide⟩ ⟨Nat.le_of_ble_eq_true rfl, Nat.le_of_ble_eq_true rfl⟩ rfl (Nat.le_of_ble_eq_true rfl) dX4_stitches_41 ?_
            refine g_iload_n C dX4_stitches_44 (gi _) rfl ?_
            refine g_icmp_ne C (tgt := 52) dX4_stitches_45 (by decide) (by exact ⟨bI_32 _, bI_32 _⟩) (fun c3 => ?_) (fun c3 => ?_)
            · have hup := mt bI_inj.mpr c3
              refine g_iconst C dX4_stitches_52 ?_
              refine g_iadd C dX4_stitches_53 ?_
              refine g_istore_n1001 C dX4_stitches_54 (gi _) rfl ?_
              refine g_iinc1003 C dX4_stitches_55 rfl ?_
              refine g_goto C (tgt := 27) dX4_stitches_58 (by decide) ?_
              exact ih1 _ _ (⟨by omega, by omega, by rw [e2, if_neg hup], by omega⟩) (by omega)
            · have hup := bI_inj.mp c3
              refine g_iconst C dX4_stitches_48 ?_
              refine g_goto C (tgt := 53) dX4_stitches_49 (by decide) ?_
              refine g_iadd C dX4_stitches_53 ?_
              refine g_istore_n1001 C dX4_stitches_54 (gi _) rfl ?_
              refine g_iinc1003 C dX4_stitches_55 rfl ?_
              refine g_goto C (tgt := 27) dX4_stitches_58 (by decide) ?_
              exact ih1 _ _ (⟨by omega, by omega, by rw [e2, if_pos hup], by omega⟩) (by omega)
      exact lp27_1 _ _ _ (⟨by omega, by rw [hu0]; rfl, by have := stF_0 (S := dS F) hu; rw [hu0] at this; exact this.symm, by omega⟩) (Nat.lt_succ_self _)
    · have hu0 : u = true := c1
      refine g_iconst C dX4_stitches_21 ?_
      refine g_goto C (tgt := 26) dX4_stitches_22 (by decide) ?_
      refine g_istore_n1003 C dX4_stitches_26 (gi _) rfl ?_
      have lp27_2 : ∀ (fuel : Nat) (n k : Int), ((0 ≤ k ∧ k ≤ F 0 + 1) ∧ k % 2 = bI u ∧ n = fo (stF (dS F) i) 0 k.toNat ∧ 0 ≤ n ∧ n ≤ k) → (F 0 + 1 - k).toNat < fuel → G X 0 0 (h) sz 27 [some (.ref (b + 5 + 2 * i.toNat)), some (vI n), some (vI (bI u)), some (vI k)] [] := by
        intro fuel
        induction fuel with
        | zero => intro n k hI hfu; exact absurd hfu (Nat.not_lt_zero _)
        | succ fuel ih =>
          intro n k hI hfu
          have ih2 := ih
          obtain ⟨hI1, hI2, hI3, hI4⟩ := hI
          have e2 : fo (stF (dS F) i) 0 (k + 2).toNat = n + (if upB (dS F) i k = u then 1 else 0) := by rw [show k + 2 = (k + 1) + 1 by omega, fo_s (by omega), fo_s (by omega), ← hI3]; exact stF_2 hu (by omega) ⟨by omega, hI2⟩
          refine g_iload_n C dX4_stitches_27 (gi _) rfl ?_
          refine g_aload_n C dX4_stitches_28 (gr _) rfl ?_
          refine D_gP_this1 C hD (by omega) q160 dX4_stitches_29 ?_
          refine D_g_ends C hD q174 dX4_stitches_32 ?_
          refine g_icmp_ge C (tgt := 61) dX4_stitches_35 (by decide) (by omega) (fun c4 => ?_) (fun c4 => ?_)
          · refine g_iload_n C dX4_stitches_61 (gi _) rfl ?_
            exact g_iret C hQ rfl dX4_stitches_62 ⟨gv (by rw [hI3]; exact stF_end hu (by omega) (by show 0 ≤ F 0; omega) (by show F 0 ≤ k ∧ k ≤ F 0 + 1 ∧ _; omega)), rfl, rfl⟩
          · refine g_iload_n C dX4_stitches_38 (gi _) rfl ?_
            refine g_aload_n C dX4_stitches_39 (gr _) rfl ?_
            refine g_iload_n C dX4_stitches_40 (gi _) rfl ?_
            refine g_callV1z C (mX4_is hY (hD) (hO) (by omega) (by omega)) (lw_V q802 q777 q1557 q71 q779) ⟨rfl, nd_X4_is⟩ (isD_P hD (by omega)) rfl ⟨by decide, by decide⟩ ⟨Nat.le_of_ble_eq_true rfl, Nat.le_of_ble_eq_true rfl⟩ rfl (Nat.le_of_ble_eq_true rfl) dX4_stitches_41 ?_
            refine g_iload_n C dX4_stitches_44 (gi _) rfl ?_
            refine g_icmp_ne C (tgt := 52) dX4_stitches_45 (by decide) (by exact ⟨bI_32 _, bI_32 _⟩) (fun c5 => ?_) (fun c5 => ?_)
            · have hup := mt bI_inj.mpr c5
              refine g_iconst C dX4_stitches_52 ?_
              refine g_iadd C dX4_stitches_53 ?_
              refine g_istore_n1001 C dX4_stitches_54 (gi _) rfl ?_
              refine g_iinc1003 C dX4_stitches_55 rfl ?_
              refine g_goto C (tgt := 27) dX4_stitches_58 (by decide) ?_
              exact ih2 _ _ (⟨by omega, by omega, by rw [e2, if_neg hup], by omega⟩) (by omega)
            · have hup := bI_inj.mp c5
              refine g_iconst C dX4_stitches_48 ?_
              refine g_goto C (tgt := 53) dX4_stitches_49 (by decide) ?_
              refine g_iadd C dX4_stitches_53 ?_
              refine g_istore_n1001 C dX4_stitches_54 (gi _) rfl ?_
              refine g_iinc1003 C dX4_stitches_55 rfl ?_
              refine g_goto C (tgt := 27) dX4_stitches_58 (by decide) ?_
              exact ih2 _ _ (⟨by omega, by omega, by rw [e2, if_pos hup], by omega⟩) (by omega)
      exact lp27_2 _ _ _ (⟨by omega, by rw [hu0]; rfl, by have := stF_0 (S := dS F) hu; rw [hu0] at this; exact this.symm, by omega⟩) (Nat.lt_succ_self _)
  refine g_aload_n C dX4_stitches_2 (gr _) rfl ?_
  refine D_gP_number C hD (by omega) q159 dX4_stitches_3 ?_
  refine g_iconst C dX4_stitches_6 ?_
  refine g_irem C (by omega) dX4_stitches_7 ?_
  refine g_if_ne C (tgt := 15) dX4_stitches_8 (by decide) (by omega) (fun c6 => ?_) (fun c6 => ?_)
  · refine g_iconst C dX4_stitches_15 ?_
    refine g_sub (L' := [some _, some _, none, none]) ⟨rfl, ⟨rfl, trivial⟩⟩ ?_
    exact jn16 false (by rw [decide_eq_false (by omega)])
  · refine g_iconst C dX4_stitches_11 ?_
    refine g_goto C (tgt := 16) dX4_stitches_12 (by decide) ?_
    refine g_sub (L' := [some _, some _, none, none]) ⟨rfl, ⟨rfl, trivial⟩⟩ ?_
    exact jn16 true (by rw [decide_eq_true (by omega)])

theorem nd_X1_longest : yX1_longest.cls ≠ "java/lang/invoke/MethodHandle" ∧ yX1_longest.cls ≠ "java/lang/invoke/VarHandle" ∧ (parseMethodDescriptor yX1_longest.desc).map (fun d => d.parameters.length) = some 0 := by decide +kernel
theorem mX1_longest {l : Launch} {D : va_G} {dA : Nat → ClassId} {N0 : Nat} {Y : State → Prop} (hY : gYc N0 Y) {h : gH} {sz x b : Nat} {F : Int → Int} (hD : isD dA x b F h) (hO : OkD F)  : gM l D dA N0 Y yX1_longest cX1_longest 3 (some .int) 5 108 0 0 [.ref b] (h) sz (gP (some (vI (loeV (dS F)))) h sz) := by
  refine gM.of hY.ok (by decide +kernel) (Nat.le_of_ble_eq_true rfl) ?_
  intro X hX C hQ
  subst hX
  have C : gC X cX1_longest RX1 "longest" 3 (some .int) D dA N0 Y ({ frames := 5, cells := 0, slots := 0, locals := 108 }) := C
  show G X 0 0 _ _ 0 [some (.ref b), none, none] []
  have hn := hO.1
  refine g_iconst C dX1_longest_0 ?_
  refine g_istore_n1001 C dX1_longest_1 (gi _) rfl ?_
  refine g_iconst C dX1_longest_2 ?_
  refine g_istore_n1002 C dX1_longest_3 (gi _) rfl ?_
  have lp4_1 : ∀ (fuel : Nat) (m k : Int), ((0 ≤ k ∧ k ≤ F 0) ∧ m = fo (lgF (upEnd (dS F)) (F 1) true false) 0 k.toNat ∧ 0 ≤ m ∧ m ≤ 12) → (F 0 - k).toNat < fuel → G X 0 0 (h) sz 4 [some (.ref b), some (vI m), some (vI k)] [] := by
    intro fuel
    induction fuel with
    | zero => intro m k hI hfu; exact absurd hfu (Nat.not_lt_zero _)
    | succ fuel ih =>
      intro m k hI hfu
      have ih1 := ih
      obtain ⟨hI1, hI2, hI3⟩ := hI
      refine g_iload_n C dX1_longest_4 (gi _) rfl ?_
      refine g_aload_n C dX1_longest_5 (gr _) rfl ?_
      refine D_g_ends C hD q173 dX1_longest_6 ?_
      refine g_icmp_ge C (tgt := 32) dX1_longest_9 (by decide) (by omega) (fun c1 => ?_) (fun c1 => ?_)
      · refine g_iload_n C dX1_longest_32 (gi _) rfl ?_
        exact g_iret C hQ rfl dX1_longest_33 ⟨gv (by rw [hI2, show k = F 0 by omega]; rfl), rfl, rfl⟩
      · refine g_iload_n C dX1_longest_12 (gi _) rfl ?_
        refine g_aload_n C dX1_longest_13 (gr _) rfl ?_
        refine D_g_warp C hD q188 dX1_longest_14 ?_
        refine g_iload_n C dX1_longest_17 (gi _) rfl ?_
        refine D_ld_warp C hD (by omega) dX1_longest_18 ?_
        refine g_callV1z C (mX3_longest hY (hD) (hO) (by omega)) (lw_V q1138 q1139 q1140 q70 q1141) ⟨rfl, nd_X3_longest⟩ (isD_E hD (by omega)) rfl ⟨by decide, by decide⟩ ⟨Nat.le_of_ble_eq_true rfl, Nat.le_of_ble_eq_true rfl⟩ rfl (Nat.le_of_ble_eq_true rfl) dX1_longest_19 ?_
        have r1 := mxI_12 (a := runU (fun j => upB (dS F) j k) (F 1) true) (b := runU (fun j => upB (dS F) j k) (F 1) false) ⟨runU_12 _ _ _ (by omega), runU_12 _ _ _ (by omega)⟩
        refine g_mmax C q975 q396 q79 q397 (by omega) (Nat.le_of_ble_eq_true rfl) ⟨by decide, by decide⟩ ⟨Nat.le_of_ble_eq_true rfl, Nat.le_of_ble_eq_true rfl⟩ dX1_longest_22 ?_
        refine g_istore_n1001 C dX1_longest_25 (gi _) rfl ?_
        refine g_iinc1002 C dX1_longest_26 rfl ?_
        refine g_goto C (tgt := 4) dX1_longest_29 (by decide) ?_
        exact ih1 _ _ (⟨by omega, by rw [fo_s hI1.1, ← hI2, lgF, ← runU_Ed, ← runU_Ed, mxI_as], mxI_12 (by omega)⟩) (by omega)
  exact lp4_1 _ _ _ (⟨by omega, rfl, by omega⟩) (Nat.lt_succ_self _)

theorem nd_X1_longestPick : yX1_longestPick.cls ≠ "java/lang/invoke/MethodHandle" ∧ yX1_longestPick.cls ≠ "java/lang/invoke/VarHandle" ∧ (parseMethodDescriptor yX1_longestPick.desc).map (fun d => d.parameters.length) = some 0 := by decide +kernel
theorem mX1_longestPick {l : Launch} {D : va_G} {dA : Nat → ClassId} {N0 : Nat} {Y : State → Prop} (hY : gYc N0 Y) {h : gH} {sz x b : Nat} {F : Int → Int} (hD : isD dA x b F h) (hO : OkD F)  : gM l D dA N0 Y yX1_longestPick cX1_longestPick 3 (some .int) 5 109 0 0 [.ref b] (h) sz (gP (some (vI (lopV (dS F)))) h sz) := by
  refine gM.of hY.ok (by decide +kernel) (Nat.le_of_ble_eq_true rfl) ?_
  intro X hX C hQ
  subst hX
  have C : gC X cX1_longestPick RX1 "longestPick" 3 (some .int) D dA N0 Y ({ frames := 5, cells := 0, slots := 0, locals := 109 }) := C
  show G X 0 0 _ _ 0 [some (.ref b), none, none] []
  have hn := hO.1
  refine g_iconst C dX1_longestPick_0 ?_
  refine g_istore_n1001 C dX1_longestPick_1 (gi _) rfl ?_
  refine g_iconst C dX1_longestPick_2 ?_
  refine g_istore_n1002 C dX1_longestPick_3 (gi _) rfl ?_
  have lp4_1 : ∀ (fuel : Nat) (m k : Int), ((0 ≤ k ∧ k ≤ F 1) ∧ m = fo (lgF (upPick (dS F)) (F 0) false true) 0 k.toNat ∧ 0 ≤ m ∧ m ≤ 12) → (F 1 - k).toNat < fuel → G X 0 0 (h) sz 4 [some (.ref b), some (vI m), some (vI k)] [] := by
    intro fuel
    induction fuel with
    | zero => intro m k hI hfu; exact absurd hfu (Nat.not_lt_zero _)
    | succ fuel ih =>
      intro m k hI hfu
      have ih1 := ih
      obtain ⟨hI1, hI2, hI3⟩ := hI
      refine g_iload_n C dX1_longestPick_4 (gi _) rfl ?_
      refine g_aload_n C dX1_longestPick_5 (gr _) rfl ?_
      refine D_g_picks C hD q178 dX1_longestPick_6 ?_
      refine g_icmp_ge C (tgt := 46) dX1_longestPick_9 (by decide) (by omega) (fun c1 => ?_) (fun c1 => ?_)
      · refine g_iload_n C dX1_longestPick_46 (gi _) rfl ?_
        exact g_iret C hQ rfl dX1_longestPick_47 ⟨gv (by rw [hI2, show k = F 1 by omega]; rfl), rfl, rfl⟩
      · refine g_iload_n C dX1_longestPick_12 (gi _) rfl ?_
        refine g_aload_n C dX1_longestPick_13 (gr _) rfl ?_
        refine D_g_weft C hD q190 dX1_longestPick_14 ?_
        refine g_iload_n C dX1_longestPick_17 (gi _) rfl ?_
        refine D_ld_weft C hD (by omega) dX1_longestPick_18 ?_
        refine g_iconst C dX1_longestPick_19 ?_
        refine g_callV1z C (mX4_longest hY (up := true) (hD) (hO) (by omega)) (lw_V q974 q739 q1558 q71 q740) ⟨rfl, nd_X4_longest⟩ (isD_P hD (by omega)) rfl ⟨by decide, by decide⟩ ⟨Nat.le_of_ble_eq_true rfl, Nat.le_of_ble_eq_true rfl⟩ rfl (Nat.le_of_ble_eq_true rfl) dX1_longestPick_20 ?_
        have r1 := runU_12 (fun j => upB (dS F) k j) (F 0) (!true) (by omega)
        refine g_aload_n C dX1_longestPick_23 (gr _) rfl ?_
        refine D_g_weft C hD q190 dX1_longestPick_24 ?_
        refine g_iload_n C dX1_longestPick_27 (gi _) rfl ?_
        refine D_ld_weft C hD (by omega) dX1_longestPick_28 ?_
        refine g_iconst C dX1_longestPick_29 ?_
        refine g_callV1z C (mX4_longest hY (up := false) (hD) (hO) (by omega)) (lw_V q974 q739 q1558 q71 q740) ⟨rfl, nd_X4_longest⟩ (isD_P hD (by omega)) rfl ⟨by decide, by decide⟩ ⟨Nat.le_of_ble_eq_true rfl, Nat.le_of_ble_eq_true rfl⟩ rfl (Nat.le_of_ble_eq_true rfl) dX1_longestPick_30 ?_
        have r2 := runU_12 (fun j => upB (dS F) k j) (F 0) (!false) (by omega)
        have r4 := mxI_12 ⟨r1, r2⟩
        have r3 := mxI_12 ⟨hI3, r4⟩
        refine g_mmax C q975 q396 q79 q397 (by omega) (Nat.le_of_ble_eq_true rfl) ⟨by decide, by decide⟩ ⟨Nat.le_of_ble_eq_true rfl, Nat.le_of_ble_eq_true rfl⟩ dX1_longestPick_33 ?_
        refine g_mmax C q975 q396 q79 q397 (by omega) (Nat.le_of_ble_eq_true rfl) ⟨by decide, by decide⟩ ⟨Nat.le_of_ble_eq_true rfl, Nat.le_of_ble_eq_true rfl⟩ dX1_longestPick_36 ?_
        refine g_istore_n1001 C dX1_longestPick_39 (gi _) rfl ?_
        refine g_iinc1002 C dX1_longestPick_40 rfl ?_
        refine g_goto C (tgt := 4) dX1_longestPick_43 (by decide) ?_
        exact ih1 _ _ (⟨by omega, by rw [fo_s hI1.1, ← hI2, lgF, ← runU_Pd, ← runU_Pd, mxI_as]; rfl, r3⟩) (by omega)
  exact lp4_1 _ _ _ (⟨by omega, rfl, by omega⟩) (Nat.lt_succ_self _)
