/-! THE COMPONENT: what is seen of a draft -/
set_option maxRecDepth 100000
/-- a draft's numbers as a state of the reference -/
def dS (F : Int → Int) : MS
  | 0 => F
  | _ => fun _ => 0
theorem bI_32 (b : Bool) : -2147483648 ≤ bI b ∧ bI b ≤ 2147483647 := by cases b <;> decide
theorem hasB_or (a b k : Int) : hasB (orI a b) k = (hasB a k || hasB b k) := by
  unfold hasB orI
  rw [Int.toNat_natCast, Nat.testBit_or]
theorem hasB_sh {j k : Int} (hj : 0 ≤ j) (hk : 0 ≤ k) : hasB (shI j) k = decide (j = k) := by
  unfold hasB shI
  rw [Int.toNat_natCast, Nat.testBit_two_pow]
  congr 1
  apply propext
  omega
theorem hasB_0 (k : Int) : hasB 0 k = false := by
  unfold hasB
  simp
theorem hasB_fo {u : Int → Bool} (n : Nat) {k : Int} (hk : 0 ≤ k) : hasB (fo (fun j set => orI set (if u j = true then shI j else 0)) 0 n) k = (decide (k < n) && u k) := by
  induction n with
  | zero => show hasB 0 k = _; rw [hasB_0, decide_eq_false (by omega)]; rfl
  | succ n ih =>
    show hasB (orI (fo _ 0 n) (if u n = true then shI n else 0)) k = _
    rw [hasB_or, ih]
    by_cases hn : (n : Int) = k
    · subst hn
      rw [decide_eq_false (by omega), decide_eq_true (by omega)]
      cases hu : u n
      · simp [hasB_0]
      · simp [hasB_sh]
    · have e : hasB (if u n = true then shI n else 0) k = false := by
        split
        · rw [hasB_sh (by omega) hk, decide_eq_false hn]
        · exact hasB_0 k
      rw [e, Bool.or_false]
      congr 1
      exact decide_eq_decide.mpr (by omega)
theorem hasB_upEnd {S : MS} (i : Int) {k : Int} (hk : 0 ≤ k ∧ k < S 0 1) : hasB (upEnd S i) k = upB S k i := by
  have := hasB_fo (u := fun j => upB S j i) (S 0 1).toNat hk.1
  rw [decide_eq_true (by omega), Bool.true_and] at this
  exact this
theorem hasB_upPick {S : MS} (q : Int) {k : Int} (hk : 0 ≤ k ∧ k < S 0 0) : hasB (upPick S q) k = upB S q k := by
  have := hasB_fo (u := fun j => upB S q j) (S 0 0).toNat hk.1
  rw [decide_eq_true (by omega), Bool.true_and] at this
  exact this
def runG (u : Int → Bool) (up : Bool) (k : Int) (x : Int × Int) : Int × Int := (if u k = up then x.1 + 1 else 0, mxI x.2 (if u k = up then x.1 + 1 else 0))
def runU (u : Int → Bool) (many : Int) (up : Bool) : Int := (fo (runG u up) (0, 0) many.toNat).2
theorem runG_V {u : Int → Bool} {set : Int} {up : Bool} (n : Nat) (h : ∀ k : Int, 0 ≤ k → k < n → hasB set k = u k) : fo (runG u up) (0, 0) n = fo (runF set up) (0, 0) n := by
  induction n with
  | zero => rfl
  | succ n ih =>
    show runG u up n (fo (runG u up) (0, 0) n) = runF set up n (fo (runF set up) (0, 0) n)
    rw [ih (fun k h0 h1 => h k h0 (by omega))]
    unfold runG runF
    rw [h n (by omega) (by omega)]
theorem runU_E {S : MS} (i : Int) (up : Bool) : runU (fun k => upB S k i) (S 0 1) up = runV (upEnd S i) (S 0 1) up := by
  unfold runU runV
  rw [runG_V]
  intro k h0 h1
  exact hasB_upEnd i (by omega)
theorem runU_P {S : MS} (q : Int) (up : Bool) : runU (fun k => upB S q k) (S 0 0) up = runV (upPick S q) (S 0 0) up := by
  unfold runU runV
  rw [runG_V]
  intro k h0 h1
  exact hasB_upPick q (by omega)
theorem runG_rg (u : Int → Bool) (b : Bool) (n : Nat) : (0 ≤ (fo (runG u b) (0, 0) n).1 ∧ (fo (runG u b) (0, 0) n).1 ≤ n) ∧ 0 ≤ (fo (runG u b) (0, 0) n).2 ∧ (fo (runG u b) (0, 0) n).2 ≤ n := by
  induction n with
  | zero => simp [fo]
  | succ n ih =>
    have e : fo (runG u b) (0, 0) (n + 1) = runG u b n (fo (runG u b) (0, 0) n) := rfl
    rw [e]
    generalize fo (runG u b) (0, 0) n = x at ih ⊢
    unfold runG mxI
    simp only
    split <;> split <;> omega
theorem mxI_as (a b c : Int) : mxI a (mxI b c) = mxI (mxI a b) c := by
  unfold mxI
  (repeat' split) <;> omega
theorem OkD.isUp {F : Int → Int} (hO : OkD F) {q i : Int} (hq : 0 ≤ q ∧ q < 12) (hi : 0 ≤ i ∧ i < 12) : ((0 ≤ F (22 + q) ∧ F (22 + q) < 6) ∧ 0 ≤ F (4 + i) ∧ F (4 + i) < 6) ∧ 0 ≤ F (16 + F (22 + q)) ∧ F (16 + F (22 + q)) < 64 := by
  have h1 := hO.1
  have h2 := hO.2.1 i hi.1 hi.2
  have h3 := hO.2.2.1 q hq.1 hq.2
  have h4 := hO.tied (F (22 + q)) (by omega)
  omega

theorem nd_X0_in : yX0_in.cls ≠ "java/lang/invoke/MethodHandle" ∧ yX0_in.cls ≠ "java/lang/invoke/VarHandle" ∧ (parseMethodDescriptor yX0_in.desc).map (fun d => d.parameters.length) = some 3 := by decide +kernel
theorem mX0_in {l : Launch} {D : va_G} {dA : Nat → ClassId} {N0 : Nat} {Y : State → Prop} (hY : gYc N0 Y) {h : gH} {sz : Nat} {a b c : Int} (hr : (-9223372036854775808 ≤ a ∧ a ≤ 9223372036854775807) ∧ (-9223372036854775808 ≤ b ∧ b ≤ 9223372036854775807) ∧ -9223372036854775808 ≤ c ∧ c ≤ 9223372036854775807) : gM l D dA N0 Y yX0_in cX0_in 6 (some .boolean) 0 0 0 0 [vL a, vL b, vL c] (h) sz (gP (some (vI (bI (inB a b c)))) h sz) := by
  refine gM.of hY.ok (by decide +kernel) (Nat.le_of_ble_eq_true rfl) ?_
  intro X hX C hQ
  subst hX
  have C : gC X cX0_in RX0 "in" 6 (some .boolean) D dA N0 Y ({ frames := 0, cells := 0, slots := 0, locals := 0 }) := C
  show G X 0 0 _ _ 0 [some (vL a), none, some (vL b), none, some (vL c), none] []
  have r1 := cmpI_rg a b
  have r2 := cmpI_rg a c
  refine g_lload_nz C dX0_in_0 rfl ?_
  refine g_lload_nz C dX0_in_1 rfl ?_
  refine g_lcmpz C dX0_in_2 (by omega) ?_
  refine g_if_lt C (tgt := 17) dX0_in_3 (by decide) (by omega) (fun c1 => ?_) (fun c1 => ?_)
  · refine g_iconst C dX0_in_17 ?_
    refine g_topv (v' := vI (bI false)) rfl ?_
    exact g_zret C hQ rfl dX0_in_18 ⟨gz (by rw [cmpI_neg] at c1; rw [eq_comm, inB_f]; omega), rfl, rfl⟩
  · refine g_lload_nz C dX0_in_6 rfl ?_
    refine g_lloadz C dX0_in_7 rfl ?_
    refine g_lcmpz C dX0_in_9 (by omega) ?_
    refine g_if_gt C (tgt := 17) dX0_in_10 (by decide) (by omega) (fun c2 => ?_) (fun c2 => ?_)
    · refine g_iconst C dX0_in_17 ?_
      refine g_topv (v' := vI (bI false)) rfl ?_
      exact g_zret C hQ rfl dX0_in_18 ⟨gz (by rw [cmpI_pos] at c2; rw [eq_comm, inB_f]; omega), rfl, rfl⟩
    · refine g_iconst C dX0_in_13 ?_
      refine g_goto C (tgt := 18) dX0_in_14 (by decide) ?_
      refine g_topv (v' := vI (bI true)) rfl ?_
      exact g_zret C hQ rfl dX0_in_18 ⟨gz (by have q1 := mt cmpI_neg.mpr (Int.not_lt.mpr c1); have q2 := mt cmpI_pos.mpr (Int.not_lt.mpr c2); rw [eq_comm, inB_t]; omega), rfl, rfl⟩

theorem nd_X0_has : yX0_has.cls ≠ "java/lang/invoke/MethodHandle" ∧ yX0_has.cls ≠ "java/lang/invoke/VarHandle" ∧ (parseMethodDescriptor yX0_has.desc).map (fun d => d.parameters.length) = some 2 := by decide +kernel
theorem mX0_has {l : Launch} {D : va_G} {dA : Nat → ClassId} {N0 : Nat} {Y : State → Prop} (hY : gYc N0 Y) {h : gH} {sz : Nat} {a b : Int} (hr : (0 ≤ a ∧ a < 2147483648) ∧ 0 ≤ b ∧ b ≤ 31) : gM l D dA N0 Y yX0_has cX0_has 2 (some .boolean) 0 0 0 0 [vI a, vI b] (h) sz (gP (some (vI (bI (hasB a b)))) h sz) := by
  refine gM.of hY.ok (by decide +kernel) (Nat.le_of_ble_eq_true rfl) ?_
  intro X hX C hQ
  subst hX
  have C : gC X cX0_has RX0 "has" 2 (some .boolean) D dA N0 Y ({ frames := 0, cells := 0, slots := 0, locals := 0 }) := C
  show G X 0 0 _ _ 0 [some (vI a), some (vI b)] []
  refine g_iload_n C dX0_has_0 (gi _) rfl ?_
  refine g_iload_n C dX0_has_1 (gi _) rfl ?_
  refine g_ishr C dX0_has_2 (zI_shr (by omega) (by omega)) ?_
  refine g_iconst C dX0_has_3 ?_
  refine g_iand C dX0_has_4 (zI_and1 (by exact shr_rg (by omega))) ?_
  refine g_iconst C dX0_has_5 ?_
  refine g_icmp_ne C (tgt := 13) dX0_has_6 (by decide) (by have := shr_rg (a := a) (b := b) (by omega); omega) (fun c1 => ?_) (fun c1 => ?_)
  · refine g_iconst C dX0_has_13 ?_
    refine g_topv (v' := vI (bI false)) rfl ?_
    exact g_zret C hQ rfl dX0_has_14 ⟨gz (by rw [hasB_mod hr.1.1 hr.2.1] at c1; cases hh : hasB a b <;> first | rfl | (simp [hh, bI] at c1)), rfl, rfl⟩
  · refine g_iconst C dX0_has_9 ?_
    refine g_goto C (tgt := 14) dX0_has_10 (by decide) ?_
    refine g_topv (v' := vI (bI true)) rfl ?_
    exact g_zret C hQ rfl dX0_has_14 ⟨gz (by rw [hasB_mod hr.1.1 hr.2.1] at c1; cases hh : hasB a b <;> first | rfl | (simp [hh, bI] at c1)), rfl, rfl⟩

theorem nd_X1_isUp : yX1_isUp.cls ≠ "java/lang/invoke/MethodHandle" ∧ yX1_isUp.cls ≠ "java/lang/invoke/VarHandle" ∧ (parseMethodDescriptor yX1_isUp.desc).map (fun d => d.parameters.length) = some 2 := by decide +kernel
theorem mX1_isUp {l : Launch} {D : va_G} {dA : Nat → ClassId} {N0 : Nat} {Y : State → Prop} (hY : gYc N0 Y) {h : gH} {sz x b : Nat} {F : Int → Int} (hD : isD dA x b F h) (hO : OkD F) {q i : Int} (hq : 0 ≤ q ∧ q < 12) (hi : 0 ≤ i ∧ i < 12) : gM l D dA N0 Y yX1_isUp cX1_isUp 3 (some .boolean) 1 21 0 0 [.ref b, vI q, vI i] (h) sz (gP (some (vI (bI (upB (dS F) q i)))) h sz) := by
  refine gM.of hY.ok (by decide +kernel) (Nat.le_of_ble_eq_true rfl) ?_
  intro X hX C hQ
  subst hX
  have C : gC X cX1_isUp RX1 "isUp" 3 (some .boolean) D dA N0 Y ({ frames := 1, cells := 0, slots := 0, locals := 21 }) := C
  show G X 0 0 _ _ 0 [some (.ref b), some (vI q), some (vI i)] []
  have hu := hO.isUp hq hi
  refine g_aload_n C dX1_isUp_0 (gr _) rfl ?_
  refine D_g_ties C hD q186 dX1_isUp_1 ?_
  refine g_aload_n C dX1_isUp_4 (gr _) rfl ?_
  refine D_g_weft C hD q190 dX1_isUp_5 ?_
  refine g_iload_n C dX1_isUp_8 (gi _) rfl ?_
  refine D_ld_weft C hD (by omega) dX1_isUp_9 ?_
  refine D_gP_tied C hD (by omega) (Or.inr q132) q131 dX1_isUp_10 ?_
  refine D_ld_ties C hD (by omega) dX1_isUp_13 ?_
  refine g_aload_n C dX1_isUp_14 (gr _) rfl ?_
  refine D_g_warp C hD q188 dX1_isUp_15 ?_
  refine g_iload_n C dX1_isUp_18 (gi _) rfl ?_
  refine D_ld_warp C hD (by omega) dX1_isUp_19 ?_
  refine D_gE_tied C hD (by omega) (Or.inr q130) q129 dX1_isUp_20 ?_
  refine g_callSN1z C (mX0_has hY (by omega)) (lw_meth q774) (gtok hY C q772 rfl) q773 q67 nd_X0_has ⟨by decide, by decide⟩ ⟨Nat.le_of_ble_eq_true rfl, Nat.le_of_ble_eq_true rfl⟩ rfl (Nat.le_of_ble_eq_true rfl) dX1_isUp_23 ?_
  exact g_zret C hQ rfl dX1_isUp_26 ⟨rfl, rfl, rfl⟩

theorem nd_X3_many : yX3_many.cls ≠ "java/lang/invoke/MethodHandle" ∧ yX3_many.cls ≠ "java/lang/invoke/VarHandle" ∧ (parseMethodDescriptor yX3_many.desc).map (fun d => d.parameters.length) = some 0 := by decide +kernel
theorem mX3_many {l : Launch} {D : va_G} {dA : Nat → ClassId} {N0 : Nat} {Y : State → Prop} (hY : gYc N0 Y) {h : gH} {sz x b : Nat} {F : Int → Int} (hD : isD dA x b F h) (hO : OkD F) {i : Int} (hi : 0 ≤ i ∧ i < 12) : gM l D dA N0 Y yX3_many cX3_many 1 (some .int) 0 0 0 0 [.ref (b + 4 + 2 * i.toNat)] (h) sz (gP (some (vI (F 1))) h sz) := by
  refine gM.of hY.ok (by decide +kernel) (Nat.le_of_ble_eq_true rfl) ?_
  intro X hX C hQ
  subst hX
  have C : gC X cX3_many RX3 "many" 1 (some .int) D dA N0 Y ({ frames := 0, cells := 0, slots := 0, locals := 0 }) := C
  show G X 0 0 _ _ 0 [some (.ref (b + 4 + 2 * i.toNat))] []
  refine g_aload_n C dX3_many_0 (gr _) rfl ?_
  refine D_gE_this1 C hD (by omega) q127 dX3_many_1 ?_
  refine D_g_picks C hD q177 dX3_many_4 ?_
  exact g_iret C hQ rfl dX3_many_7 ⟨rfl, rfl, rfl⟩

theorem nd_X3_is : yX3_is.cls ≠ "java/lang/invoke/MethodHandle" ∧ yX3_is.cls ≠ "java/lang/invoke/VarHandle" ∧ (parseMethodDescriptor yX3_is.desc).map (fun d => d.parameters.length) = some 1 := by decide +kernel
theorem mX3_is {l : Launch} {D : va_G} {dA : Nat → ClassId} {N0 : Nat} {Y : State → Prop} (hY : gYc N0 Y) {h : gH} {sz x b : Nat} {F : Int → Int} (hD : isD dA x b F h) (hO : OkD F) {i k : Int} (hi : 0 ≤ i ∧ i < 12) (hk : 0 ≤ k ∧ k < 12) : gM l D dA N0 Y yX3_is cX3_is 2 (some .boolean) 2 43 0 0 [.ref (b + 4 + 2 * i.toNat), vI k] (h) sz (gP (some (vI (bI (upB (dS F) k i)))) h sz) := by
  refine gM.of hY.ok (by decide +kernel) (Nat.le_of_ble_eq_true rfl) ?_
  intro X hX C hQ
  subst hX
  have C : gC X cX3_is RX3 "is" 2 (some .boolean) D dA N0 Y ({ frames := 2, cells := 0, slots := 0, locals := 43 }) := C
  show G X 0 0 _ _ 0 [some (.ref (b + 4 + 2 * i.toNat)), some (vI k)] []
  refine g_aload_n C dX3_is_0 (gr _) rfl ?_
  refine D_gE_this1 C hD (by omega) q127 dX3_is_1 ?_
  refine g_iload_n C dX3_is_4 (gi _) rfl ?_
  refine g_aload_n C dX3_is_5 (gr _) rfl ?_
  refine D_gE_number C hD (by omega) q126 dX3_is_6 ?_
  refine g_callV1z C (mX1_isUp hY (hD) (hO) (by omega) (by omega)) (lw_V q768 q769 q770 q68 q771) ⟨rfl, nd_X1_isUp⟩ (isD_0 hD) rfl ⟨by decide, by decide⟩ ⟨Nat.le_of_ble_eq_true rfl, Nat.le_of_ble_eq_true rfl⟩ rfl (Nat.le_of_ble_eq_true rfl) dX3_is_9 ?_
  exact g_zret C hQ rfl dX3_is_12 ⟨rfl, rfl, rfl⟩

theorem nd_X4_many : yX4_many.cls ≠ "java/lang/invoke/MethodHandle" ∧ yX4_many.cls ≠ "java/lang/invoke/VarHandle" ∧ (parseMethodDescriptor yX4_many.desc).map (fun d => d.parameters.length) = some 0 := by decide +kernel
theorem mX4_many {l : Launch} {D : va_G} {dA : Nat → ClassId} {N0 : Nat} {Y : State → Prop} (hY : gYc N0 Y) {h : gH} {sz x b : Nat} {F : Int → Int} (hD : isD dA x b F h) (hO : OkD F) {i : Int} (hi : 0 ≤ i ∧ i < 12) : gM l D dA N0 Y yX4_many cX4_many 1 (some .int) 0 0 0 0 [.ref (b + 5 + 2 * i.toNat)] (h) sz (gP (some (vI (F 0))) h sz) := by
  refine gM.of hY.ok (by decide +kernel) (Nat.le_of_ble_eq_true rfl) ?_
  intro X hX C hQ
  subst hX
  have C : gC X cX4_many RX4 "many" 1 (some .int) D dA N0 Y ({ frames := 0, cells := 0, slots := 0, locals := 0 }) := C
  show G X 0 0 _ _ 0 [some (.ref (b + 5 + 2 * i.toNat))] []
  refine g_aload_n C dX4_many_0 (gr _) rfl ?_
  refine D_gP_this1 C hD (by omega) q160 dX4_many_1 ?_
  refine D_g_ends C hD q174 dX4_many_4 ?_
  exact g_iret C hQ rfl dX4_many_7 ⟨rfl, rfl, rfl⟩

theorem nd_X4_is : yX4_is.cls ≠ "java/lang/invoke/MethodHandle" ∧ yX4_is.cls ≠ "java/lang/invoke/VarHandle" ∧ (parseMethodDescriptor yX4_is.desc).map (fun d => d.parameters.length) = some 1 := by decide +kernel
theorem mX4_is {l : Launch} {D : va_G} {dA : Nat → ClassId} {N0 : Nat} {Y : State → Prop} (hY : gYc N0 Y) {h : gH} {sz x b : Nat} {F : Int → Int} (hD : isD dA x b F h) (hO : OkD F) {i k : Int} (hi : 0 ≤ i ∧ i < 12) (hk : 0 ≤ k ∧ k < 12) : gM l D dA N0 Y yX4_is cX4_is 2 (some .boolean) 2 43 0 0 [.ref (b + 5 + 2 * i.toNat), vI k] (h) sz (gP (some (vI (bI (upB (dS F) i k)))) h sz) := by
  refine gM.of hY.ok (by decide +kernel) (Nat.le_of_ble_eq_true rfl) ?_
  intro X hX C hQ
  subst hX
  have C : gC X cX4_is RX4 "is" 2 (some .boolean) D dA N0 Y ({ frames := 2, cells := 0, slots := 0, locals := 43 }) := C
  show G X 0 0 _ _ 0 [some (.ref (b + 5 + 2 * i.toNat)), some (vI k)] []
  refine g_aload_n C dX4_is_0 (gr _) rfl ?_
  refine D_gP_this1 C hD (by omega) q160 dX4_is_1 ?_
  refine g_aload_n C dX4_is_4 (gr _) rfl ?_
  refine D_gP_number C hD (by omega) q159 dX4_is_5 ?_
  refine g_iload_n C dX4_is_8 (gi _) rfl ?_
  refine g_callV1z C (mX1_isUp hY (hD) (hO) (by omega) (by omega)) (lw_V q780 q769 q770 q68 q771) ⟨rfl, nd_X1_isUp⟩ (isD_0 hD) rfl ⟨by decide, by decide⟩ ⟨Nat.le_of_ble_eq_true rfl, Nat.le_of_ble_eq_true rfl⟩ rfl (Nat.le_of_ble_eq_true rfl) dX4_is_9 ?_
  exact g_zret C hQ rfl dX4_is_12 ⟨rfl, rfl, rfl⟩

theorem ndx_0 : (⟨"WeaveDraft$Look", "many", "()I"⟩ : MethodName).cls ≠ "java/lang/invoke/MethodHandle" ∧ (⟨"WeaveDraft$Look", "many", "()I"⟩ : MethodName).cls ≠ "java/lang/invoke/VarHandle" ∧ (parseMethodDescriptor "()I").map (fun d => d.parameters.length) = some 0 := by decide +kernel
theorem ndx_1 : (⟨"WeaveDraft$Look", "is", "(I)Z"⟩ : MethodName).cls ≠ "java/lang/invoke/MethodHandle" ∧ (⟨"WeaveDraft$Look", "is", "(I)Z"⟩ : MethodName).cls ≠ "java/lang/invoke/VarHandle" ∧ (parseMethodDescriptor "(I)Z").map (fun d => d.parameters.length) = some 1 := by decide +kernel
theorem nd_X12_longest : yX12_longest.cls ≠ "java/lang/invoke/MethodHandle" ∧ yX12_longest.cls ≠ "java/lang/invoke/VarHandle" ∧ (parseMethodDescriptor yX12_longest.desc).map (fun d => d.parameters.length) = some 1 := by decide +kernel
theorem mX12_longest_E {l : Launch} {D : va_G} {dA : Nat → ClassId} {N0 : Nat} {Y : State → Prop} (hY : gYc N0 Y) {h : gH} {sz x b : Nat} {F : Int → Int} (hD : isD dA x b F h) (hO : OkD F) {i : Int} {up : Bool} (hi : 0 ≤ i ∧ i < 12) : gM l D dA N0 Y yX12_longest cX12_longest 5 (some .int) 3 64 0 0 [.ref (b + 4 + 2 * i.toNat), vI (bI up)] (h) sz (gP (some (vI (runU (fun k => upB (dS F) k i) (F 1) up))) h sz) := by
  refine gM.of hY.ok (by decide +kernel) (Nat.le_of_ble_eq_true rfl) ?_
  intro X hX C hQ
  subst hX
  have C : gC X cX12_longest RX12 "longest" 5 (some .int) D dA N0 Y ({ frames := 3, cells := 0, slots := 0, locals := 64 }) := C
  show G X 0 0 _ _ 0 [some (.ref (b + 4 + 2 * i.toNat)), some (vI (bI up)), none, none, none] []
  have hn := hO.1
  refine g_iconst C dX12_longest_0 ?_
  refine g_istore_n1002 C dX12_longest_1 (gi _) rfl ?_
  refine g_iconst C dX12_longest_2 ?_
  refine g_istore_n1003 C dX12_longest_3 (gi _) rfl ?_
  refine g_iconst C dX12_longest_4 ?_
  refine g_istore1004 C dX12_longest_5 (gi _) rfl ?_
  have lp7_1 : ∀ (fuel : Nat) (most run k : Int), ((0 ≤ k ∧ k ≤ F 1) ∧ (run, most) = fo (runG (fun k => upB (dS F) k i) up) (0, 0) k.toNat) → (F 1 - k).toNat < fuel → G X 0 0 (h) sz 7 [some (.ref (b + 4 + 2 * i.toNat)), some (vI (bI up)), some (vI most), some (vI run), some (vI k)] [] := by
    intro fuel
    induction fuel with
    | zero => intro most run k hI hfu; exact absurd hfu (Nat.not_lt_zero _)
    | succ fuel ih =>
      intro most run k hI hfu
      have ih1 := ih
      obtain ⟨hI1, hI2⟩ := hI
      have hrg := runG_rg (fun k => upB (dS F) k i) up k.toNat
      rw [← hI2] at hrg
      refine g_iload C dX12_longest_7 (gi _) rfl ?_
      refine g_aload_n C dX12_longest_9 (gr _) rfl ?_
      refine g_callF1z C (mX3_many hY (hD) (hO) (by omega)) (lw_F q744 q748 q750 q70 q752) ⟨gtok hY C q746 rfl, gtok hY C q745 rfl, gtok hY C q751 rfl, gtok hY C q749 rfl, gtok hY C q747 rfl⟩ ndx_0 (isD_E hD (by omega)) rfl ⟨by decide, by decide⟩ ⟨Nat.le_of_ble_eq_true rfl, Nat.le_of_ble_eq_true rfl⟩ rfl (Nat.le_of_ble_eq_true rfl) dX12_longest_10 ?_
      refine g_icmp_ge C (tgt := 50) dX12_longest_15 (by decide) (by omega) (fun c1 => ?_) (fun c1 => ?_)
      · refine g_iload_n C dX12_longest_50 (gi _) rfl ?_
        exact g_iret C hQ rfl dX12_longest_51 ⟨gv (by unfold runU; rw [← show k = F 1 by omega, ← hI2]), rfl, rfl⟩
      · refine g_aload_n C dX12_longest_18 (gr _) rfl ?_
        refine g_iload C dX12_longest_19 (gi _) rfl ?_
        refine g_callF1z C (mX3_is hY (hD) (hO) (by omega) (by omega)) (lw_F q760 q763 q765 q70 q767) ⟨gtok hY C q762 rfl, gtok hY C q761 rfl, gtok hY C q766 rfl, gtok hY C q764 rfl, gtok hY C q747 rfl⟩ ndx_1 (isD_E hD (by omega)) rfl ⟨by decide, by decide⟩ ⟨Nat.le_of_ble_eq_true rfl, Nat.le_of_ble_eq_true rfl⟩ rfl (Nat.le_of_ble_eq_true rfl) dX12_longest_21 ?_
        refine g_iload_n C dX12_longest_26 (gi _) rfl ?_
        refine g_icmp_ne C (tgt := 36) dX12_longest_27 (by decide) (by exact ⟨bI_32 _, bI_32 _⟩) (fun c2 => ?_) (fun c2 => ?_)
        · have hup := mt bI_inj.mpr c2
          refine g_iconst C dX12_longest_36 ?_
          refine g_istore_n1003 C dX12_longest_37 (gi _) rfl ?_
          refine g_iload_n C dX12_longest_38 (gi _) rfl ?_
          refine g_iload_n C dX12_longest_39 (gi _) rfl ?_
          refine g_mmax C q781 q396 q79 q397 (by omega) (Nat.le_of_ble_eq_true rfl) ⟨by decide, by decide⟩ ⟨Nat.le_of_ble_eq_true rfl, Nat.le_of_ble_eq_true rfl⟩ dX12_longest_40 ?_
          refine g_istore_n1002 C dX12_longest_43 (gi _) rfl ?_
          refine g_iinc1004 C dX12_longest_44 rfl ?_
          refine g_goto C (tgt := 7) dX12_longest_47 (by decide) ?_
          exact ih1 _ _ _ (⟨by omega, by rw [fo_s hI1.1, ← hI2]; unfold runG; simp only [if_neg hup]⟩) (by omega)
        · have hup := bI_inj.mp c2
          refine g_iload_n C dX12_longest_30 (gi _) rfl ?_
          refine g_iconst C dX12_longest_31 ?_
          refine g_iadd C dX12_longest_32 ?_
          refine g_goto C (tgt := 37) dX12_longest_33 (by decide) ?_
          refine g_istore_n1003 C dX12_longest_37 (gi _) rfl ?_
          refine g_iload_n C dX12_longest_38 (gi _) rfl ?_
          refine g_iload_n C dX12_longest_39 (gi _) rfl ?_
          refine g_mmax C q781 q396 q79 q397 (by omega) (Nat.le_of_ble_eq_true rfl) ⟨by decide, by decide⟩ ⟨Nat.le_of_ble_eq_true rfl, Nat.le_of_ble_eq_true rfl⟩ dX12_longest_40 ?_
          refine g_istore_n1002 C dX12_longest_43 (gi _) rfl ?_
          refine g_iinc1004 C dX12_longest_44 rfl ?_
          refine g_goto C (tgt := 7) dX12_longest_47 (by decide) ?_
          exact ih1 _ _ _ (⟨by omega, by rw [fo_s hI1.1, ← hI2]; unfold runG; simp only [if_pos hup]⟩) (by omega)
  exact lp7_1 _ _ _ _ (⟨by omega, rfl⟩) (Nat.lt_succ_self _)

theorem nd_X12_bits : yX12_bits.cls ≠ "java/lang/invoke/MethodHandle" ∧ yX12_bits.cls ≠ "java/lang/invoke/VarHandle" ∧ (parseMethodDescriptor yX12_bits.desc).map (fun d => d.parameters.length) = some 0 := by decide +kernel
theorem mX12_bits_E {l : Launch} {D : va_G} {dA : Nat → ClassId} {N0 : Nat} {Y : State → Prop} (hY : gYc N0 Y) {h : gH} {sz x b : Nat} {F : Int → Int} (hD : isD dA x b F h) (hO : OkD F) {i : Int} (hi : 0 ≤ i ∧ i < 12) : gM l D dA N0 Y yX12_bits cX12_bits 3 (some .int) 3 64 0 0 [.ref (b + 4 + 2 * i.toNat)] (h) sz (gP (some (vI (upEnd (dS F) i))) h sz) := by
  refine gM.of hY.ok (by decide +kernel) (Nat.le_of_ble_eq_true rfl) ?_
  intro X hX C hQ
  subst hX
  have C : gC X cX12_bits RX12 "bits" 3 (some .int) D dA N0 Y ({ frames := 3, cells := 0, slots := 0, locals := 64 }) := C
  show G X 0 0 _ _ 0 [some (.ref (b + 4 + 2 * i.toNat)), none, none] []
  have hn := hO.1
  refine g_iconst C dX12_bits_0 ?_
  refine g_istore_n1001 C dX12_bits_1 (gi _) rfl ?_
  refine g_iconst C dX12_bits_2 ?_
  refine g_istore_n1002 C dX12_bits_3 (gi _) rfl ?_
  have lp4_1 : ∀ (fuel : Nat) (set k : Int), ((0 ≤ k ∧ k ≤ F 1) ∧ set = fo (upEndF (dS F) i) 0 k.toNat ∧ 0 ≤ set ∧ set < 4096) → (F 1 - k).toNat < fuel → G X 0 0 (h) sz 4 [some (.ref (b + 4 + 2 * i.toNat)), some (vI set), some (vI k)] [] := by
    intro fuel
    induction fuel with
    | zero => intro set k hI hfu; exact absurd hfu (Nat.not_lt_zero _)
    | succ fuel ih =>
      intro set k hI hfu
      have ih1 := ih
      obtain ⟨hI1, hI2, hI3⟩ := hI
      refine g_iload_n C dX12_bits_4 (gi _) rfl ?_
      refine g_aload_n C dX12_bits_5 (gr _) rfl ?_
      refine g_callF1z C (mX3_many hY (hD) (hO) (by omega)) (lw_F q744 q748 q750 q70 q752) ⟨gtok hY C q746 rfl, gtok hY C q745 rfl, gtok hY C q751 rfl, gtok hY C q749 rfl, gtok hY C q747 rfl⟩ ndx_0 (isD_E hD (by omega)) rfl ⟨by decide, by decide⟩ ⟨Nat.le_of_ble_eq_true rfl, Nat.le_of_ble_eq_true rfl⟩ rfl (Nat.le_of_ble_eq_true rfl) dX12_bits_6 ?_
      refine g_icmp_ge C (tgt := 40) dX12_bits_11 (by decide) (by omega) (fun c1 => ?_) (fun c1 => ?_)
      · refine g_iload_n C dX12_bits_40 (gi _) rfl ?_
        exact g_iret C hQ rfl dX12_bits_41 ⟨gv (by unfold upEnd; rw [show (dS F) 0 1 = k by show F 1 = k; omega, ← hI2]), rfl, rfl⟩
      · refine g_iload_n C dX12_bits_14 (gi _) rfl ?_
        refine g_aload_n C dX12_bits_15 (gr _) rfl ?_
        refine g_iload_n C dX12_bits_16 (gi _) rfl ?_
        refine g_callF1z C (mX3_is hY (hD) (hO) (by omega) (by omega)) (lw_F q760 q763 q765 q70 q767) ⟨gtok hY C q762 rfl, gtok hY C q761 rfl, gtok hY C q766 rfl, gtok hY C q764 rfl, gtok hY C q747 rfl⟩ ndx_1 (isD_E hD (by omega)) rfl ⟨by decide, by decide⟩ ⟨Nat.le_of_ble_eq_true rfl, Nat.le_of_ble_eq_true rfl⟩ rfl (Nat.le_of_ble_eq_true rfl) dX12_bits_17 ?_
        refine g_ifeq_b C (tgt := 31) dX12_bits_22 (by decide) (fun c2 => ?_) (fun c2 => ?_)
        · have hup := c2
          refine g_iconst C dX12_bits_31 ?_
          refine g_ior C dX12_bits_32 (zI_or (by omega)) ?_
          refine g_istore_n1001 C dX12_bits_33 (gi _) rfl ?_
          refine g_iinc1002 C dX12_bits_34 rfl ?_
          refine g_goto C (tgt := 4) dX12_bits_37 (by decide) ?_
          have e0 : fo (upEndF (dS F) i) 0 (k + 1).toNat = orI set 0 := by rw [fo_s hI1.1, ← hI2]; unfold upEndF; rw [if_neg (by rw [hup]; decide)]
          exact ih1 _ _ (⟨by omega, e0.symm, or12 (by omega)⟩) (by omega)
        · have hup := c2
          have hsh := sh12 (i := k) (by omega)
          refine g_iconst C dX12_bits_25 ?_
          refine g_iload_n C dX12_bits_26 (gi _) rfl ?_
          refine g_ishl C dX12_bits_27 (zI_shl (by omega)) ?_
          refine g_goto C (tgt := 32) dX12_bits_28 (by decide) ?_
          refine g_ior C dX12_bits_32 (zI_or (by omega)) ?_
          refine g_istore_n1001 C dX12_bits_33 (gi _) rfl ?_
          refine g_iinc1002 C dX12_bits_34 rfl ?_
          refine g_goto C (tgt := 4) dX12_bits_37 (by decide) ?_
          have e0 : fo (upEndF (dS F) i) 0 (k + 1).toNat = orI set (shI k) := by rw [fo_s hI1.1, ← hI2]; unfold upEndF; rw [if_pos hup]
          exact ih1 _ _ (⟨by omega, e0.symm, or12 (by omega)⟩) (by omega)
  exact lp4_1 _ _ _ (⟨by omega, rfl, by omega⟩) (Nat.lt_succ_self _)

theorem mX12_longest_P {l : Launch} {D : va_G} {dA : Nat → ClassId} {N0 : Nat} {Y : State → Prop} (hY : gYc N0 Y) {h : gH} {sz x b : Nat} {F : Int → Int} (hD : isD dA x b F h) (hO : OkD F) {i : Int} {up : Bool} (hi : 0 ≤ i ∧ i < 12) : gM l D dA N0 Y yX12_longest cX12_longest 5 (some .int) 3 64 0 0 [.ref (b + 5 + 2 * i.toNat), vI (bI up)] (h) sz (gP (some (vI (runU (fun k => upB (dS F) i k) (F 0) up))) h sz) := by
  refine gM.of hY.ok (by decide +kernel) (Nat.le_of_ble_eq_true rfl) ?_
  intro X hX C hQ
  subst hX
  have C : gC X cX12_longest RX12 "longest" 5 (some .int) D dA N0 Y ({ frames := 3, cells := 0, slots := 0, locals := 64 }) := C
  show G X 0 0 _ _ 0 [some (.ref (b + 5 + 2 * i.toNat)), some (vI (bI up)), none, none, none] []
  have hn := hO.1
  refine g_iconst C dX12_longest_0 ?_
  refine g_istore_n1002 C dX12_longest_1 (gi _) rfl ?_
  refine g_iconst C dX12_longest_2 ?_
  refine g_istore_n1003 C dX12_longest_3 (gi _) rfl ?_
  refine g_iconst C dX12_longest_4 ?_
  refine g_istore1004 C dX12_longest_5 (gi _) rfl ?_
  have lp7_1 : ∀ (fuel : Nat) (most run k : Int), ((0 ≤ k ∧ k ≤ F 0) ∧ (run, most) = fo (runG (fun k => upB (dS F) i k) up) (0, 0) k.toNat) → (F 0 - k).toNat < fuel → G X 0 0 (h) sz 7 [some (.ref (b + 5 + 2 * i.toNat)), some (vI (bI up)), some (vI most), some (vI run), some (vI k)] [] := by
    intro fuel
    induction fuel with
    | zero => intro most run k hI hfu; exact absurd hfu (Nat.not_lt_zero _)
    | succ fuel ih =>
      intro most run k hI hfu
      have ih1 := ih
      obtain ⟨hI1, hI2⟩ := hI
      have hrg := runG_rg (fun k => upB (dS F) i k) up k.toNat
      rw [← hI2] at hrg
      refine g_iload C dX12_longest_7 (gi _) rfl ?_
      refine g_aload_n C dX12_longest_9 (gr _) rfl ?_
      refine g_callF1z C (mX4_many hY (hD) (hO) (by omega)) (lw_F q744 q754 q756 q71 q758) ⟨gtok hY C q746 rfl, gtok hY C q745 rfl, gtok hY C q757 rfl, gtok hY C q755 rfl, gtok hY C q753 rfl⟩ ndx_0 (isD_P hD (by omega)) rfl ⟨by decide, by decide⟩ ⟨Nat.le_of_ble_eq_true rfl, Nat.le_of_ble_eq_true rfl⟩ rfl (Nat.le_of_ble_eq_true rfl) dX12_longest_10 ?_
      refine g_icmp_ge C (tgt := 50) dX12_longest_15 (by decide) (by omega) (fun c1 => ?_) (fun c1 => ?_)
      · refine g_iload_n C dX12_longest_50 (gi _) rfl ?_
        exact g_iret C hQ rfl dX12_longest_51 ⟨gv (by unfold runU; rw [← show k = F 0 by omega, ← hI2]), rfl, rfl⟩
      · refine g_aload_n C dX12_longest_18 (gr _) rfl ?_
        refine g_iload C dX12_longest_19 (gi _) rfl ?_
        refine g_callF1z C (mX4_is hY (hD) (hO) (by omega) (by omega)) (lw_F q760 q775 q777 q71 q779) ⟨gtok hY C q762 rfl, gtok hY C q761 rfl, gtok hY C q778 rfl, gtok hY C q776 rfl, gtok hY C q753 rfl⟩ ndx_1 (isD_P hD (by omega)) rfl ⟨by decide, by decide⟩ ⟨Nat.le_of_ble_eq_true rfl, Nat.le_of_ble_eq_true rfl⟩ rfl (Nat.le_of_ble_eq_true rfl) dX12_longest_21 ?_
        refine g_iload_n C dX12_longest_26 (gi _) rfl ?_
        refine g_icmp_ne C (tgt := 36) dX12_longest_27 (by decide) (by exact ⟨bI_32 _, bI_32 _⟩) (fun c2 => ?_) (fun c2 => ?_)
        · have hup := mt bI_inj.mpr c2
          refine g_iconst C dX12_longest_36 ?_
          refine g_istore_n1003 C dX12_longest_37 (gi _) rfl ?_
          refine g_iload_n C dX12_longest_38 (gi _) rfl ?_
          refine g_iload_n C dX12_longest_39 (gi _) rfl ?_
          refine g_mmax C q781 q396 q79 q397 (by omega) (Nat.le_of_ble_eq_true rfl) ⟨by decide, by decide⟩ ⟨Nat.le_of_ble_eq_true rfl, Nat.le_of_ble_eq_true rfl⟩ dX12_longest_40 ?_
          refine g_istore_n1002 C dX12_longest_43 (gi _) rfl ?_
          refine g_iinc1004 C dX12_longest_44 rfl ?_
          refine g_goto C (tgt := 7) dX12_longest_47 (by decide) ?_
          exact ih1 _ _ _ (⟨by omega, by rw [fo_s hI1.1, ← hI2]; unfold runG; simp only [if_neg hup]⟩) (by omega)
        · have hup := bI_inj.mp c2
          refine g_iload_n C dX12_longest_30 (gi _) rfl ?_
          refine g_iconst C dX12_longest_31 ?_
          refine g_iadd C dX12_longest_32 ?_
          refine g_goto C (tgt := 37) dX12_longest_33 (by decide) ?_
          refine g_istore_n1003 C dX12_longest_37 (gi _) rfl ?_
          refine g_iload_n C dX12_longest_38 (gi _) rfl ?_
          refine g_iload_n C dX12_longest_39 (gi _) rfl ?_
          refine g_mmax C q781 q396 q79 q397 (by omega) (Nat.le_of_ble_eq_true rfl) ⟨by decide, by decide⟩ ⟨Nat.le_of_ble_eq_true rfl, Nat.le_of_ble_eq_true rfl⟩ dX12_longest_40 ?_
          refine g_istore_n1002 C dX12_longest_43 (gi _) rfl ?_
          refine g_iinc1004 C dX12_longest_44 rfl ?_
          refine g_goto C (tgt := 7) dX12_longest_47 (by decide) ?_
          exact ih1 _ _ _ (⟨by omega, by rw [fo_s hI1.1, ← hI2]; unfold runG; simp only [if_pos hup]⟩) (by omega)
  exact lp7_1 _ _ _ _ (⟨by omega, rfl⟩) (Nat.lt_succ_self _)

theorem mX12_bits_P {l : Launch} {D : va_G} {dA : Nat → ClassId} {N0 : Nat} {Y : State → Prop} (hY : gYc N0 Y) {h : gH} {sz x b : Nat} {F : Int → Int} (hD : isD dA x b F h) (hO : OkD F) {i : Int} (hi : 0 ≤ i ∧ i < 12) : gM l D dA N0 Y yX12_bits cX12_bits 3 (some .int) 3 64 0 0 [.ref (b + 5 + 2 * i.toNat)] (h) sz (gP (some (vI (upPick (dS F) i))) h sz) := by
  refine gM.of hY.ok (by decide +kernel) (Nat.le_of_ble_eq_true rfl) ?_
  intro X hX C hQ
  subst hX
  have C : gC X cX12_bits RX12 "bits" 3 (some .int) D dA N0 Y ({ frames := 3, cells := 0, slots := 0, locals := 64 }) := C
  show G X 0 0 _ _ 0 [some (.ref (b + 5 + 2 * i.toNat)), none, none] []
  have hn := hO.1
  refine g_iconst C dX12_bits_0 ?_
  refine g_istore_n1001 C dX12_bits_1 (gi _) rfl ?_
  refine g_iconst C dX12_bits_2 ?_
  refine g_istore_n1002 C dX12_bits_3 (gi _) rfl ?_
  have lp4_1 : ∀ (fuel : Nat) (set k : Int), ((0 ≤ k ∧ k ≤ F 0) ∧ set = fo (upPickF (dS F) i) 0 k.toNat ∧ 0 ≤ set ∧ set < 4096) → (F 0 - k).toNat < fuel → G X 0 0 (h) sz 4 [some (.ref (b + 5 + 2 * i.toNat)), some (vI set), some (vI k)] [] := by
    intro fuel
    induction fuel with
    | zero => intro set k hI hfu; exact absurd hfu (Nat.not_lt_zero _)
    | succ fuel ih =>
      intro set k hI hfu
      have ih1 := ih
      obtain ⟨hI1, hI2, hI3⟩ := hI
      refine g_iload_n C dX12_bits_4 (gi _) rfl ?_
      refine g_aload_n C dX12_bits_5 (gr _) rfl ?_
      refine g_callF1z C (mX4_many hY (hD) (hO) (by omega)) (lw_F q744 q754 q756 q71 q758) ⟨gtok hY C q746 rfl, gtok hY C q745 rfl, gtok hY C q757 rfl, gtok hY C q755 rfl, gtok hY C q753 rfl⟩ ndx_0 (isD_P hD (by omega)) rfl ⟨by decide, by decide⟩ ⟨Nat.le_of_ble_eq_true rfl, Nat.le_of_ble_eq_true rfl⟩ rfl (Nat.le_of_ble_eq_true rfl) dX12_bits_6 ?_
      refine g_icmp_ge C (tgt := 40) dX12_bits_11 (by decide) (by omega) (fun c1 => ?_) (fun c1 => ?_)
      · refine g_iload_n C dX12_bits_40 (gi _) rfl ?_
        exact g_iret C hQ rfl dX12_bits_41 ⟨gv (by unfold upPick; rw [show (dS F) 0 0 = k by show F 0 = k; omega, ← hI2]), rfl, rfl⟩
      · refine g_iload_n C dX12_bits_14 (gi _) rfl ?_
        refine g_aload_n C dX12_bits_15 (gr _) rfl ?_
        refine g_iload_n C dX12_bits_16 (gi _) rfl ?_
        refine g_callF1z C (mX4_is hY (hD) (hO) (by omega) (by omega)) (lw_F q760 q775 q777 q71 q779) ⟨gtok hY C q762 rfl, gtok hY C q761 rfl, gtok hY C q778 rfl, gtok hY C q776 rfl, gtok hY C q753 rfl⟩ ndx_1 (isD_P hD (by omega)) rfl ⟨by decide, by decide⟩ ⟨Nat.le_of_ble_eq_true rfl, Nat.le_of_ble_eq_true rfl⟩ rfl (Nat.le_of_ble_eq_true rfl) dX12_bits_17 ?_
        refine g_ifeq_b C (tgt := 31) dX12_bits_22 (by decide) (fun c2 => ?_) (fun c2 => ?_)
        · have hup := c2
          refine g_iconst C dX12_bits_31 ?_
          refine g_ior C dX12_bits_32 (zI_or (by omega)) ?_
          refine g_istore_n1001 C dX12_bits_33 (gi _) rfl ?_
          refine g_iinc1002 C dX12_bits_34 rfl ?_
          refine g_goto C (tgt := 4) dX12_bits_37 (by decide) ?_
          have e0 : fo (upPickF (dS F) i) 0 (k + 1).toNat = orI set 0 := by rw [fo_s hI1.1, ← hI2]; unfold upPickF; rw [if_neg (by rw [hup]; decide)]
          exact ih1 _ _ (⟨by omega, e0.symm, or12 (by omega)⟩) (by omega)
        · have hup := c2
          have hsh := sh12 (i := k) (by omega)
          refine g_iconst C dX12_bits_25 ?_
          refine g_iload_n C dX12_bits_26 (gi _) rfl ?_
          refine g_ishl C dX12_bits_27 (zI_shl (by omega)) ?_
          refine g_goto C (tgt := 32) dX12_bits_28 (by decide) ?_
          refine g_ior C dX12_bits_32 (zI_or (by omega)) ?_
          refine g_istore_n1001 C dX12_bits_33 (gi _) rfl ?_
          refine g_iinc1002 C dX12_bits_34 rfl ?_
          refine g_goto C (tgt := 4) dX12_bits_37 (by decide) ?_
          have e0 : fo (upPickF (dS F) i) 0 (k + 1).toNat = orI set (shI k) := by rw [fo_s hI1.1, ← hI2]; unfold upPickF; rw [if_pos hup]
          exact ih1 _ _ (⟨by omega, e0.symm, or12 (by omega)⟩) (by omega)
  exact lp4_1 _ _ _ (⟨by omega, rfl, by omega⟩) (Nat.lt_succ_self _)
