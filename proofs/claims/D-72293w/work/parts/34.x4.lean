/-! THE COMPONENT: rows and columns of the sample, numbered -/
set_option maxRecDepth 100000
/-- what a Line reads -/
def isXr (dA : Nat → ClassId) (x : Nat) (S : MS) (h : gH) : Prop := h x = some (gO 0 (xO x S)) ∧ h (x + 59) = some (gI (dA 0) 12 (S 1))
theorem isXr_X (dA : Nat → ClassId) (x : Nat) (S : MS) (P : PS) (h : gH) : isXr dA x S (ovX dA x S P h) := ⟨ovX_0 _ _ _ _ _, ovX_59 _ _ _ _ _⟩
theorem isXr_gup {dA : Nat → ClassId} {x t : Nat} {S : MS} {h : gH} {e : va_E} (hX : isXr dA x S h) (h1 : x ≠ t) (h2 : x + 59 ≠ t) : isXr dA x S (gup h t e) := ⟨(gup_n _ _ h1).trans hX.1, (gup_n _ _ h2).trans hX.2⟩
theorem firstR_sp (p : Int → Bool) (f : Nat) (r : Int) : (∀ j, r ≤ j → j < firstR p f r → p j = false) ∧ ((∃ j, r ≤ j ∧ j < r + f ∧ p j = true) → p (firstR p f r) = true) := by
  induction f generalizing r with
  | zero => exact ⟨fun j h1 h2 => by simp [firstR] at h2; omega, fun ⟨j, h1, h2, _⟩ => by omega⟩
  | succ f ih =>
    unfold firstR
    by_cases hp : p r = true
    · rw [if_pos hp]
      exact ⟨fun j h1 h2 => by omega, fun _ => hp⟩
    · rw [if_neg hp]
      have hp' : p r = false := by simpa using hp
      obtain ⟨i1, i2⟩ := ih (r + 1)
      refine ⟨fun j h1 h2 => ?_, fun ⟨j, h1, h2, h3⟩ => i2 ⟨j, ?_, by omega, h3⟩⟩
      · by_cases hj : j = r
        · rw [hj]; exact hp'
        · exact i1 j (by omega) h2
      · by_cases hj : j = r
        · rw [hj, hp'] at h3; cases h3
        · omega
theorem newB_t {u : Int → Int} {k : Int} (hk : 0 ≤ k) : newB u k = true ↔ ∀ j : Int, 0 ≤ j → j < k → u j ≠ u k := by
  have key : ∀ n : Nat, fo (newF u k) true n = true ↔ ∀ j : Int, 0 ≤ j → j < n → u j ≠ u k := by
    intro n
    induction n with
    | zero => exact ⟨fun _ j h0 h1 => by omega, fun _ => rfl⟩
    | succ n ih =>
      show (fo (newF u k) true n && decide (u n ≠ u k)) = true ↔ _
      rw [Bool.and_eq_true, ih, decide_eq_true_eq]
      exact ⟨fun ⟨a, b⟩ j h0 h1 => if hj : j = n then by rw [hj]; exact b else a j h0 (by omega), fun a => ⟨fun j h0 h1 => a j h0 (by omega), a n (by omega) (by omega)⟩⟩
  have := key k.toNat
  unfold newB
  rw [this]
  exact ⟨fun a j h0 h1 => a j h0 (by omega), fun a j h0 h1 => a j h0 (by omega)⟩
theorem cntN_s2 {u : Int → Int} {k : Int} (hk : 0 ≤ k) : cntN u (k + 1) = cntN u k + bI (newB u k) := by
  unfold cntN
  rw [fo_s hk]
theorem cntN_mono {u : Int → Int} {a b : Int} (h : 0 ≤ a ∧ a ≤ b) : cntN u a ≤ cntN u b := by
  obtain ⟨d, hd⟩ : ∃ d : Nat, b = a + d := ⟨(b - a).toNat, by omega⟩
  subst hd
  induction d with
  | zero => simp
  | succ d ih =>
    have e := cntN_s2 (u := u) (k := a + d) (by omega)
    have := ih (by omega)
    have := bI_rg (newB u (a + d))
    rw [show a + ((d + 1 : Nat) : Int) = a + d + 1 by omega, e]
    omega
theorem num_same {u : Int → Int} {many i j : Int} (h : u i = u j) : numV u many i = numV u many j := by
  unfold numV
  have e : eqB u i = eqB u j := by funext k; unfold eqB; rw [h]
  rw [e]
theorem num_new {u : Int → Int} {many k : Int} (hk : 0 ≤ k ∧ k < many) (h : newB u k = true) : numV u many k = cntN u k := by
  have hn := (newB_t hk.1).mp h
  obtain ⟨h1, h2⟩ := firstR_sp (eqB u k) many.toNat 0
  have h3 := h2 ⟨k, hk.1, by omega, by simp [eqB]⟩
  have hr := firstR_rg (eqB u k) many.toNat 0
  have e : firstR (eqB u k) many.toNat 0 = k := by
    rcases Int.lt_trichotomy (firstR (eqB u k) many.toNat 0) k with z | z | z
    · exact absurd (by simpa [eqB] using h3) (hn _ hr.1 z)
    · exact z
    · have := h1 k hk.1 z
      simp [eqB] at this
  unfold numV
  rw [e]
theorem num_old {u : Int → Int} {many k : Int} (hk : 0 ≤ k ∧ k < many) (h : newB u k = false) : numV u many k < cntN u k := by
  have hx : ∃ j : Int, 0 ≤ j ∧ j < k ∧ u j = u k := by
    apply Classical.byContradiction
    intro hc
    have : newB u k = true := (newB_t hk.1).mpr (fun j h0 h1 he => hc ⟨j, h0, h1, he⟩)
    rw [h] at this; cases this
  obtain ⟨j, j0, j1, je⟩ := hx
  obtain ⟨h1, h2⟩ := firstR_sp (eqB u k) many.toNat 0
  have h3 := h2 ⟨j, j0, by omega, by simp [eqB, je]⟩
  have hr := firstR_rg (eqB u k) many.toNat 0
  have hle : firstR (eqB u k) many.toNat 0 ≤ j := by
    apply Classical.byContradiction
    intro hc
    have := h1 j j0 (by omega)
    simp [eqB, je] at this
  unfold numV
  generalize hf : firstR (eqB u k) many.toNat 0 = f at *
  have hnew : newB u f = true := (newB_t hr.1).mpr (fun i i0 i1 ie => by
    have h4 := h1 i i0 i1
    have h5 : u f = u k := by simpa [eqB] using h3
    simp [eqB, ie.trans h5] at h4)
  have e := cntN_s2 (u := u) (k := f) hr.1
  rw [hnew] at e
  have := cntN_mono (u := u) (a := f + 1) (b := k) (by omega)
  have : bI true = 1 := rfl
  omega
theorem ls_cnt {u : Int → Int} {many : Int} (k : Nat) (hk : (k : Int) ≤ many) : fo (lsF u many) 0 k = cntN u k := by
  induction k with
  | zero => rfl
  | succ k ih =>
    show lsF u many k (fo (lsF u many) 0 k) = _
    rw [ih (by omega), show ((k + 1 : Nat) : Int) = (k : Int) + 1 by omega, cntN_s2 (by omega)]
    unfold lsF
    cases hb : newB u k with
    | true =>
      rw [num_new (by omega) hb, if_pos (by omega)]
      rfl
    | false =>
      have := num_old (u := u) (many := many) (k := k) (by omega) hb
      rw [if_neg (by omega)]
      show _ = _ + 0
      omega
theorem ls_eq {u : Int → Int} {many : Int} (h : 0 ≤ many) : lsV u many = cntN u many := by
  have := ls_cnt (u := u) (many := many) many.toNat (by omega)
  unfold lsV
  rw [this]
  congr 1
  omega
def nT (u : Int → Int) (many : Int) (G1 : Int → Int) (k : Int) : Int → Int := fun j => if 0 ≤ j ∧ j < k then numV u many j else G1 j
theorem nT_0 (u : Int → Int) (many : Int) (G1 : Int → Int) : nT u many G1 0 = G1 := by
  funext j; unfold nT; rw [if_neg (by omega)]
theorem nT_s (u : Int → Int) (many : Int) (G1 : Int → Int) {k : Int} (hk : 0 ≤ k) : uI (nT u many G1 k) k (numV u many k) = nT u many G1 (k + 1) := by
  funext j
  simp only [nT, uI]
  by_cases h : j = k
  · rw [if_pos h, if_pos (by omega), h]
  · rw [if_neg h]
    by_cases h2 : 0 ≤ j ∧ j < k
    · rw [if_pos h2, if_pos (by omega)]
    · rw [if_neg h2, if_neg (by omega)]

theorem nd_X8_init : yX8_init.cls ≠ "java/lang/invoke/MethodHandle" ∧ yX8_init.cls ≠ "java/lang/invoke/VarHandle" ∧ (parseMethodDescriptor yX8_init.desc).map (fun d => d.parameters.length) = some 1 := by decide +kernel
theorem mX8_init {l : Launch} {D : va_G} {dA : Nat → ClassId} {N0 : Nat} {Y : State → Prop} (hY : gYc N0 Y) {h : gH} {sz a x : Nat} {v0 : Value} : gM l D dA N0 Y yX8_init cX8_init 2 none 1 20 0 0 [.ref a, .ref x] (gup h a (gO 7 [v0])) sz (gP none (gup h a (gO 7 [.ref x])) sz) := by
  refine gM.of hY.ok (by decide +kernel) (Nat.le_of_ble_eq_true rfl) ?_
  intro X hX C hQ
  subst hX
  have C : gC X cX8_init RX8 "<init>" 2 none D dA N0 Y ({ frames := 1, cells := 0, slots := 0, locals := 20 }) := C
  show G X 0 0 _ _ 0 [some (.ref a), some (.ref x)] []
  refine g_aload_n C dX8_init_0 (gr _) rfl ?_
  refine g_aload_n C dX8_init_1 (gr _) rfl ?_
  refine g_putF C (gup_s _ _ _) (ci := 7) rfl in_X8 0 (by decide) tyX8 tyX8_ok nmX8 q873 (Or.inl rfl) rfl rfl rfl rfl rfl (Nat.le_of_ble_eq_true rfl) dX8_init_2 ?_
  refine g_hE (gup_gup _ _ _ _) ?_
  refine g_aload_n C dX8_init_5 (gr _) rfl ?_
  refine g_objInit C q872 q106 q107 (Nat.le_of_ble_eq_true rfl) ⟨by decide, by decide⟩ dX8_init_6 ?_
  exact g_vret C hQ rfl dX8_init_9 ⟨rfl, rfl, rfl⟩

theorem nd_X8_bits : yX8_bits.cls ≠ "java/lang/invoke/MethodHandle" ∧ yX8_bits.cls ≠ "java/lang/invoke/VarHandle" ∧ (parseMethodDescriptor yX8_bits.desc).map (fun d => d.parameters.length) = some 1 := by decide +kernel
theorem mX8_bits {l : Launch} {D : va_G} {dA : Nat → ClassId} {N0 : Nat} {Y : State → Prop} (hY : gYc N0 Y) {h : gH} {sz a x : Nat} {S : MS} {k : Int} (hX : isXr dA x S h) (hA : h a = some (gO 7 [.ref x])) (hR : OkR S) (hk : 0 ≤ k ∧ k < 12) : gM l D dA N0 Y yX8_bits cX8_bits 4 (some .int) 1 21 0 0 [.ref a, vI k] (h) sz (gP (some (vI (colV S k))) h sz) := by
  refine gM.of hY.ok (by decide +kernel) (Nat.le_of_ble_eq_true rfl) ?_
  intro X hX C hQ
  subst hX
  have C : gC X cX8_bits RX8 "bits" 4 (some .int) D dA N0 Y ({ frames := 1, cells := 0, slots := 0, locals := 21 }) := C
  show G X 0 0 _ _ 0 [some (.ref a), some (vI k), none, none] []
  obtain ⟨hR1, hR2, hR3⟩ := hR
  refine g_iconst C dX8_bits_0 ?_
  refine g_istore_n1002 C dX8_bits_1 (gi _) rfl ?_
  refine g_iconst C dX8_bits_2 ?_
  refine g_istore_n1003 C dX8_bits_3 (gi _) rfl ?_
  have lp4_1 : ∀ (fuel : Nat) (set r : Int), ((0 ≤ r ∧ r ≤ S 10 0) ∧ set = fo (colF S k) 0 r.toNat ∧ 0 ≤ set ∧ set < 4096) → (S 10 0 - r).toNat < fuel → G X 0 0 (h) sz 4 [some (.ref a), some (vI k), some (vI set), some (vI r)] [] := by
    intro fuel
    induction fuel with
    | zero => intro set r hI hfu; exact absurd hfu (Nat.not_lt_zero _)
    | succ fuel ih =>
      intro set r hI hfu
      have ih1 := ih
      obtain ⟨hI1, hI2, hI3⟩ := hI
      have hsh := fun z => sh12 (i := r) z
      refine g_iload_n C dX8_bits_4 (gi _) rfl ?_
      refine g_aload_n C dX8_bits_5 (gr _) rfl ?_
      refine g_get C hA rfl in_X8 0 (by decide) q873 (Or.inl rfl) rfl dX8_bits_6 ?_
      refine g_getN C hX.1 rfl in_X0 6 (by decide) (gtok hY C q227 rfl) rfl rfl dX8_bits_9 ?_
      refine g_icmp_ge C (tgt := 47) dX8_bits_12 (by decide) (by omega) (fun c1 => ?_) (fun c1 => ?_)
      · refine g_iload_n C dX8_bits_47 (gi _) rfl ?_
        exact g_iret C hQ rfl dX8_bits_48 ⟨gv (by rw [hI2, show r = S 10 0 by omega]; rfl), rfl, rfl⟩
      · have hrr := hR3 r (by omega) (by omega)
        have hs2 := hsh (by omega)
        refine g_iload_n C dX8_bits_15 (gi _) rfl ?_
        refine g_aload_n C dX8_bits_16 (gr _) rfl ?_
        refine g_get C hA rfl in_X8 0 (by decide) q873 (Or.inl rfl) rfl dX8_bits_17 ?_
        refine g_getN C hX.1 rfl in_X0 5 (by decide) (gtok hY C q224 rfl) rfl rfl dX8_bits_20 ?_
        refine g_iload_n C dX8_bits_23 (gi _) rfl ?_
        refine g_iald C hX.2 (by omega) dX8_bits_24 ?_
        refine g_iload_n C dX8_bits_25 (gi _) rfl ?_
        refine g_callSN1z C (mX0_has hY (by omega)) (lw_meth q774) (gtok hY C q896 rfl) q773 q67 nd_X0_has ⟨by decide, by decide⟩ ⟨Nat.le_of_ble_eq_true rfl, Nat.le_of_ble_eq_true rfl⟩ rfl (Nat.le_of_ble_eq_true rfl) dX8_bits_26 ?_
        refine g_ifeq_b C (tgt := 38) dX8_bits_29 (by decide) (fun c2 => ?_) (fun c2 => ?_)
        · have hb := c2
          refine g_iconst C dX8_bits_38 ?_
          refine g_ior C dX8_bits_39 (zI_or (by omega)) ?_
          refine g_istore_n1002 C dX8_bits_40 (gi _) rfl ?_
          refine g_iinc1003 C dX8_bits_41 rfl ?_
          refine g_goto C (tgt := 4) dX8_bits_44 (by decide) ?_
          exact ih1 _ _ (⟨by omega, by rw [fo_s (by omega), ← hI2]; simp only [colF, hb, if_false, Bool.false_eq_true], or12 (by omega)⟩) (by omega)
        · have hb := c2
          refine g_iconst C dX8_bits_32 ?_
          refine g_iload_n C dX8_bits_33 (gi _) rfl ?_
          refine g_ishl C dX8_bits_34 (zI_shl (by omega)) ?_
          refine g_goto C (tgt := 39) dX8_bits_35 (by decide) ?_
          refine g_ior C dX8_bits_39 (zI_or (by omega)) ?_
          refine g_istore_n1002 C dX8_bits_40 (gi _) rfl ?_
          refine g_iinc1003 C dX8_bits_41 rfl ?_
          refine g_goto C (tgt := 4) dX8_bits_44 (by decide) ?_
          exact ih1 _ _ (⟨by omega, by rw [fo_s (by omega), ← hI2]; simp only [colF, hb, if_true], or12 (by omega)⟩) (by omega)
  exact lp4_1 _ _ _ (⟨by omega, rfl, by omega⟩) (Nat.lt_succ_self _)

theorem nd_X9_init : yX9_init.cls ≠ "java/lang/invoke/MethodHandle" ∧ yX9_init.cls ≠ "java/lang/invoke/VarHandle" ∧ (parseMethodDescriptor yX9_init.desc).map (fun d => d.parameters.length) = some 1 := by decide +kernel
theorem mX9_init {l : Launch} {D : va_G} {dA : Nat → ClassId} {N0 : Nat} {Y : State → Prop} (hY : gYc N0 Y) {h : gH} {sz a x : Nat} {v0 : Value} : gM l D dA N0 Y yX9_init cX9_init 2 none 1 20 0 0 [.ref a, .ref x] (gup h a (gO 8 [v0])) sz (gP none (gup h a (gO 8 [.ref x])) sz) := by
  refine gM.of hY.ok (by decide +kernel) (Nat.le_of_ble_eq_true rfl) ?_
  intro X hX C hQ
  subst hX
  have C : gC X cX9_init RX9 "<init>" 2 none D dA N0 Y ({ frames := 1, cells := 0, slots := 0, locals := 20 }) := C
  show G X 0 0 _ _ 0 [some (.ref a), some (.ref x)] []
  refine g_aload_n C dX9_init_0 (gr _) rfl ?_
  refine g_aload_n C dX9_init_1 (gr _) rfl ?_
  refine g_putF C (gup_s _ _ _) (ci := 8) rfl in_X9 0 (by decide) tyX9 tyX9_ok nmX9 q911 (Or.inl rfl) rfl rfl rfl rfl rfl (Nat.le_of_ble_eq_true rfl) dX9_init_2 ?_
  refine g_hE (gup_gup _ _ _ _) ?_
  refine g_aload_n C dX9_init_5 (gr _) rfl ?_
  refine g_objInit C q910 q106 q107 (Nat.le_of_ble_eq_true rfl) ⟨by decide, by decide⟩ dX9_init_6 ?_
  exact g_vret C hQ rfl dX9_init_9 ⟨rfl, rfl, rfl⟩

theorem nd_X9_bits : yX9_bits.cls ≠ "java/lang/invoke/MethodHandle" ∧ yX9_bits.cls ≠ "java/lang/invoke/VarHandle" ∧ (parseMethodDescriptor yX9_bits.desc).map (fun d => d.parameters.length) = some 1 := by decide +kernel
theorem mX9_bits {l : Launch} {D : va_G} {dA : Nat → ClassId} {N0 : Nat} {Y : State → Prop} (hY : gYc N0 Y) {h : gH} {sz a x : Nat} {S : MS} {k : Int} (hX : isXr dA x S h) (hA : h a = some (gO 8 [.ref x])) (hk : 0 ≤ k ∧ k < 12) : gM l D dA N0 Y yX9_bits cX9_bits 2 (some .int) 0 0 0 0 [.ref a, vI k] (h) sz (gP (some (vI (S 1 k))) h sz) := by
  refine gM.of hY.ok (by decide +kernel) (Nat.le_of_ble_eq_true rfl) ?_
  intro X hX C hQ
  subst hX
  have C : gC X cX9_bits RX9 "bits" 2 (some .int) D dA N0 Y ({ frames := 0, cells := 0, slots := 0, locals := 0 }) := C
  show G X 0 0 _ _ 0 [some (.ref a), some (vI k)] []
  refine g_aload_n C dX9_bits_0 (gr _) rfl ?_
  refine g_get C hA rfl in_X9 0 (by decide) q911 (Or.inl rfl) rfl dX9_bits_1 ?_
  refine g_getN C hX.1 rfl in_X0 5 (by decide) (gtok hY C q223 rfl) rfl rfl dX9_bits_4 ?_
  refine g_iload_n C dX9_bits_7 (gi _) rfl ?_
  refine g_iald C hX.2 (by omega) dX9_bits_8 ?_
  exact g_iret C hQ rfl dX9_bits_9 ⟨rfl, rfl, rfl⟩

theorem ndx_4 : (⟨"WeaveDraft$Line", "bits", "(I)I"⟩ : MethodName).cls ≠ "java/lang/invoke/MethodHandle" ∧ (⟨"WeaveDraft$Line", "bits", "(I)I"⟩ : MethodName).cls ≠ "java/lang/invoke/VarHandle" ∧ (parseMethodDescriptor "(I)I").map (fun d => d.parameters.length) = some 1 := by decide +kernel
theorem nd_X0_numbered : yX0_numbered.cls ≠ "java/lang/invoke/MethodHandle" ∧ yX0_numbered.cls ≠ "java/lang/invoke/VarHandle" ∧ (parseMethodDescriptor yX0_numbered.desc).map (fun d => d.parameters.length) = some 3 := by decide +kernel
theorem mX0_numbered_L2 {l : Launch} {D : va_G} {dA : Nat → ClassId} {N0 : Nat} {Y : State → Prop} (hY : gYc N0 Y) {h : gH} {sz a t x : Nat} {S : MS} {many : Int} {G1 : Int → Int} (hX : isXr dA x S h) (hA : h a = some (gO 7 [.ref x])) (hat : a ≠ t) (hxt : x ≠ t) (hyt : x + 59 ≠ t) (hR : OkR S) (hm : 0 ≤ many ∧ many ≤ 12) (hrg0 : ∀ i : Int, 0 ≤ i ∧ i < many → -2147483648 ≤ (colV S) i ∧ (colV S) i ≤ 2147483647) : gM l D dA N0 Y yX0_numbered cX0_numbered 6 (some .int) 2 44 0 0 [.ref a, vI many, .ref t] (gup h t (gI (dA 0) 12 (G1))) sz (gP (some (vI (cntN (colV S) many))) (gup h t (gI (dA 0) 12 (nT (colV S) many G1 (many)))) sz) := by
  refine gM.of hY.ok (by decide +kernel) (Nat.le_of_ble_eq_true rfl) ?_
  intro X hX C hQ
  subst hX
  have C : gC X cX0_numbered RX0 "numbered" 6 (some .int) D dA N0 Y ({ frames := 2, cells := 0, slots := 0, locals := 44 }) := C
  show G X 0 0 _ _ 0 [some (.ref a), some (vI many), some (.ref t), none, none, none] []
  have hrg : ∀ i : Int, 0 ≤ i ∧ i < many → -2147483648 ≤ (colV S) i ∧ (colV S) i ≤ 2147483647 := hrg0
  refine g_iconst C dX0_numbered_0 ?_
  refine g_istore_n1003 C dX0_numbered_1 (gi _) rfl ?_
  refine g_iconst C dX0_numbered_2 ?_
  refine g_istore1004 C dX0_numbered_3 (gi _) rfl ?_
  have lp5_1 : ∀ (fuel : Nat) (n k : Int), ((0 ≤ k ∧ k ≤ many) ∧ n = cntN (colV S) k ∧ 0 ≤ n ∧ n ≤ k) → (many - k).toNat < fuel → G X 0 0 (gup h t (gI (dA 0) 12 (nT (colV S) many G1 (k)))) sz 5 [some (.ref a), some (vI many), some (.ref t), some (vI n), some (vI k), none] [] := by
    intro fuel
    induction fuel with
    | zero => intro n k hI hfu; exact absurd hfu (Nat.not_lt_zero _)
    | succ fuel ih =>
      intro n k hI hfu
      have ih1 := ih
      obtain ⟨hI1, hI2, hI3⟩ := hI
      refine g_iload C dX0_numbered_5 (gi _) rfl ?_
      refine g_iload_n C dX0_numbered_7 (gi _) rfl ?_
      refine g_icmp_ge C (tgt := 93) dX0_numbered_8 (by decide) (by omega) (fun c1 => ?_) (fun c1 => ?_)
      · refine g_iload_n C dX0_numbered_93 (gi _) rfl ?_
        exact g_iret C hQ rfl dX0_numbered_94 ⟨gv (by rw [hI2, show k = many by omega]), by rw [show k = many by omega], rfl⟩
      · refine g_aload_n C dX0_numbered_11 (gr _) rfl ?_
        refine g_iload C dX0_numbered_12 (gi _) rfl ?_
        refine g_iconst C dX0_numbered_14 ?_
        refine g_iast C (gup_s _ _ _) (by omega) dX0_numbered_15 ?_
        refine g_hE (gup_gup _ _ _ _) ?_
        refine g_iconst C dX0_numbered_16 ?_
        refine g_istore1005 C dX0_numbered_17 (gi _) rfl ?_
        have lp19_2 : ∀ (fuel : Nat) (j v : Int), ((0 ≤ j ∧ j ≤ k) ∧ ((v = -1 ∧ ∀ i : Int, 0 ≤ i → i < j → (colV S) i ≠ (colV S) k) ∨ (v = numV (colV S) many k ∧ newB (colV S) k = false)) ∧ -1 ≤ v ∧ v ≤ 12) → (k - j).toNat < fuel → G X 0 0 (gup h t (gI (dA 0) 12 (uI (nT (colV S) many G1 (k)) k v))) sz 19 [some (.ref a), some (vI many), some (.ref t), some (vI n), some (vI k), some (vI j)] [] := by
          intro fuel
          induction fuel with
          | zero => intro j v hI hfu; exact absurd hfu (Nat.not_lt_zero _)
          | succ fuel ih =>
            intro j v hI hfu
            have ih2 := ih
            obtain ⟨hJ1, hJ2, hJ3⟩ := hI
            refine g_iload C dX0_numbered_19 (gi _) rfl ?_
            refine g_iload C dX0_numbered_21 (gi _) rfl ?_
            refine g_icmp_ge C (tgt := 71) dX0_numbered_23 (by decide) (by omega) (fun c2 => ?_) (fun c2 => ?_)
            · refine g_aload_n C dX0_numbered_71 (gr _) rfl ?_
              refine g_iload C dX0_numbered_72 (gi _) rfl ?_
              refine g_iald C (gup_s _ _ _) (by omega) dX0_numbered_74 ?_
              refine g_top (b := v) (by exact uI_s _ _ _) ?_
              refine g_iconst C dX0_numbered_75 ?_
              refine g_icmp_ne C (tgt := 87) dX0_numbered_76 (by decide) (by omega) (fun c3 => ?_) (fun c3 => ?_)
              · refine g_iinc1004 C dX0_numbered_87 rfl ?_
                refine g_goto C (tgt := 5) dX0_numbered_90 (by decide) ?_
                have e1 : numV (colV S) many k = v := by
                  rcases hJ2 with z | z
                  · omega
                  · exact z.1.symm
                have hold : newB (colV S) k = false := by
                  rcases hJ2 with z | z
                  · omega
                  · exact z.2
                have hcs := cntN_s2 (u := (colV S)) (k := k) (by omega)
                refine g_hE (congrArg (fun z => gup h t (gI (dA 0) 12 z)) (show uI (nT (colV S) many G1 (k)) k v = nT (colV S) many G1 (k + 1) by rw [← e1]; exact nT_s _ _ _ (by omega))) ?_
                refine g_sub (L' := [some _, some _, some _, some _, some _, none]) ⟨rfl, ⟨rfl, ⟨rfl, ⟨rfl, ⟨rfl, trivial⟩⟩⟩⟩⟩ ?_
                exact ih1 _ _ (⟨by omega, by rw [hcs, hold]; show n = _ + 0; omega, by omega⟩) (by omega)
              · refine g_aload_n C dX0_numbered_79 (gr _) rfl ?_
                refine g_iload C dX0_numbered_80 (gi _) rfl ?_
                refine g_iload_n C dX0_numbered_82 (gi _) rfl ?_
                refine g_iinc1003 C dX0_numbered_83 rfl ?_
                refine g_iast C (gup_s _ _ _) (by omega) dX0_numbered_86 ?_
                refine g_hE (gup_gup _ _ _ _) ?_
                refine g_iinc1004 C dX0_numbered_87 rfl ?_
                refine g_goto C (tgt := 5) dX0_numbered_90 (by decide) ?_
                have hnew : newB (colV S) k = true := by
                  refine (newB_t (by omega)).mpr (fun i i0 i1 => ?_)
                  rcases hJ2 with z | z
                  · exact z.2 i i0 (by omega)
                  · have := numV_rg (colV S) many k (by omega); omega
                have hcs := cntN_s2 (u := (colV S)) (k := k) (by omega)
                rw [hnew] at hcs
                refine g_hE (congrArg (fun z => gup h t (gI (dA 0) 12 z)) (show uI (uI (nT (colV S) many G1 (k)) k v) k n = nT (colV S) many G1 (k + 1) by rw [uI_uI, hI2, ← num_new (many := many) (by omega) hnew]; exact nT_s _ _ _ (by omega))) ?_
                refine g_sub (L' := [some _, some _, some _, some _, some _, none]) ⟨rfl, ⟨rfl, ⟨rfl, ⟨rfl, ⟨rfl, trivial⟩⟩⟩⟩⟩ ?_
                exact ih1 _ _ (⟨by omega, by rw [hcs, ← hI2]; rfl, by omega⟩) (by omega)
            · refine g_aload_n C dX0_numbered_26 (gr _) rfl ?_
              refine g_iload C dX0_numbered_27 (gi _) rfl ?_
              refine g_iald C (gup_s _ _ _) (by omega) dX0_numbered_29 ?_
              refine g_top (b := v) (by exact uI_s _ _ _) ?_
              refine g_iconst C dX0_numbered_30 ?_
              refine g_icmp_ne C (tgt := 71) dX0_numbered_31 (by decide) (by omega) (fun c4 => ?_) (fun c4 => ?_)
              · refine g_aload_n C dX0_numbered_71 (gr _) rfl ?_
                refine g_iload C dX0_numbered_72 (gi _) rfl ?_
                refine g_iald C (gup_s _ _ _) (by omega) dX0_numbered_74 ?_
                refine g_top (b := v) (by exact uI_s _ _ _) ?_
                refine g_iconst C dX0_numbered_75 ?_
                refine g_icmp_ne C (tgt := 87) dX0_numbered_76 (by decide) (by omega) (fun c5 => ?_) (fun c5 => ?_)
                · refine g_iinc1004 C dX0_numbered_87 rfl ?_
                  refine g_goto C (tgt := 5) dX0_numbered_90 (by decide) ?_
                  have e1 : numV (colV S) many k = v := by
                    rcases hJ2 with z | z
                    · omega
                    · exact z.1.symm
                  have hold : newB (colV S) k = false := by
                    rcases hJ2 with z | z
                    · omega
                    · exact z.2
                  have hcs := cntN_s2 (u := (colV S)) (k := k) (by omega)
                  refine g_hE (congrArg (fun z => gup h t (gI (dA 0) 12 z)) (show uI (nT (colV S) many G1 (k)) k v = nT (colV S) many G1 (k + 1) by rw [← e1]; exact nT_s _ _ _ (by omega))) ?_
                  refine g_sub (L' := [some _, some _, some _, some _, some _, none]) ⟨rfl, ⟨rfl, ⟨rfl, ⟨rfl, ⟨rfl, trivial⟩⟩⟩⟩⟩ ?_
                  exact ih1 _ _ (⟨by omega, by rw [hcs, hold]; show n = _ + 0; omega, by omega⟩) (by omega)
                · omega
              · have hv : v = -1 ∧ ∀ i : Int, 0 ≤ i → i < j → (colV S) i ≠ (colV S) k := by
                  rcases hJ2 with z | z
                  · exact z
                  · have := numV_rg (colV S) many k (by omega); omega
                have rj := colV_rg (S := S) j hR
                have rk := colV_rg (S := S) k hR
                refine g_aload_n C dX0_numbered_34 (gr _) rfl ?_
                refine g_iload C dX0_numbered_35 (gi _) rfl ?_
                refine g_aload_n C dX0_numbered_37 (gr _) rfl ?_
                refine g_iload C dX0_numbered_38 (gi _) rfl ?_
                refine g_callF1z C (mX8_bits hY (isXr_gup hX hxt hyt) ((gup_n _ _ hat).trans hA) (hR) (by omega)) (lw_F q881 q891 q893 q91 q895) ⟨gtok hY C q883 rfl, gtok hY C q882 rfl, gtok hY C q894 rfl, gtok hY C q892 rfl, gtok hY C q890 rfl⟩ ndx_4 ((gup_n _ _ hat).trans hA) rfl ⟨by decide, by decide⟩ ⟨Nat.le_of_ble_eq_true rfl, Nat.le_of_ble_eq_true rfl⟩ rfl (Nat.le_of_ble_eq_true rfl) dX0_numbered_40 ?_
                refine g_aload_n C dX0_numbered_45 (gr _) rfl ?_
                refine g_iload C dX0_numbered_46 (gi _) rfl ?_
                refine g_callF1z C (mX8_bits hY (isXr_gup hX hxt hyt) ((gup_n _ _ hat).trans hA) (hR) (by omega)) (lw_F q881 q891 q893 q91 q895) ⟨gtok hY C q883 rfl, gtok hY C q882 rfl, gtok hY C q894 rfl, gtok hY C q892 rfl, gtok hY C q890 rfl⟩ ndx_4 ((gup_n _ _ hat).trans hA) rfl ⟨by decide, by decide⟩ ⟨Nat.le_of_ble_eq_true rfl, Nat.le_of_ble_eq_true rfl⟩ rfl (Nat.le_of_ble_eq_true rfl) dX0_numbered_48 ?_
                refine g_icmp_ne C (tgt := 63) dX0_numbered_53 (by decide) (by exact ⟨hrg j (by omega), hrg k (by omega)⟩) (fun c6 => ?_) (fun c6 => ?_)
                · have hne : (colV S) j ≠ (colV S) k := c6
                  refine g_iconst C dX0_numbered_63 ?_
                  refine g_iast C (gup_s _ _ _) (by omega) dX0_numbered_64 ?_
                  refine g_hE (gup_gup _ _ _ _) ?_
                  refine g_iinc1005 C dX0_numbered_65 rfl ?_
                  refine g_goto C (tgt := 19) dX0_numbered_68 (by decide) ?_
                  refine g_hE (congrArg (fun z => gup h t (gI (dA 0) 12 z)) (show uI (uI (nT (colV S) many G1 (k)) k v) k (-1) = uI (nT (colV S) many G1 (k)) k (-1) by rw [uI_uI])) ?_
                  exact ih2 (j + 1) (-1) (⟨by omega, Or.inl ⟨rfl, fun i i0 i1 => if hij : i = j then by rw [hij]; exact hne else (hv.2 i i0 (by omega))⟩, by omega⟩) (by omega)
                · have heq : (colV S) j = (colV S) k := c6
                  refine g_aload_n C dX0_numbered_56 (gr _) rfl ?_
                  refine g_iload C dX0_numbered_57 (gi _) rfl ?_
                  refine g_iald C (gup_s _ _ _) (by omega) dX0_numbered_59 ?_
                  refine g_top (b := numV (colV S) many j) (by simp only [uI, nT]; rw [if_neg (by omega), if_pos (by omega)]) ?_
                  refine g_goto C (tgt := 64) dX0_numbered_60 (by decide) ?_
                  refine g_iast C (gup_s _ _ _) (by omega) dX0_numbered_64 ?_
                  refine g_hE (gup_gup _ _ _ _) ?_
                  refine g_iinc1005 C dX0_numbered_65 rfl ?_
                  refine g_goto C (tgt := 19) dX0_numbered_68 (by decide) ?_
                  refine g_hE (congrArg (fun z => gup h t (gI (dA 0) 12 z)) (show uI (uI (nT (colV S) many G1 (k)) k v) k (numV (colV S) many j) = uI (nT (colV S) many G1 (k)) k (numV (colV S) many j) by rw [uI_uI])) ?_
                  have hnr := numV_rg (colV S) many j (by omega)
                  exact ih2 (j + 1) (numV (colV S) many j) (⟨by omega, Or.inr ⟨num_same heq, by cases hb : newB (colV S) k with | false => rfl | true => exact absurd heq ((newB_t (by omega)).mp hb j (by omega) (by omega))⟩, by omega⟩) (by omega)
        exact lp19_2 _ 0 (-1) (⟨by omega, Or.inl ⟨rfl, fun i i0 i1 => by omega⟩, by omega⟩) (Nat.lt_succ_self _)
  refine g_hE (congrArg (fun z => gup h t (gI (dA 0) 12 z)) (nT_0 (colV S) many G1).symm) ?_
  refine g_sub (L' := [some _, some _, some _, some _, some _, none]) ⟨rfl, ⟨rfl, ⟨rfl, ⟨rfl, ⟨rfl, trivial⟩⟩⟩⟩⟩ ?_
  exact lp5_1 _ 0 0 (⟨by omega, rfl, by omega⟩) (Nat.lt_succ_self _)

theorem mX0_numbered_L1 {l : Launch} {D : va_G} {dA : Nat → ClassId} {N0 : Nat} {Y : State → Prop} (hY : gYc N0 Y) {h : gH} {sz a t x : Nat} {S : MS} {many : Int} {G1 : Int → Int} (hX : isXr dA x S h) (hA : h a = some (gO 8 [.ref x])) (hat : a ≠ t) (hxt : x ≠ t) (hyt : x + 59 ≠ t) (hR : OkR S) (hm : 0 ≤ many ∧ many ≤ 12) (hrg0 : ∀ i : Int, 0 ≤ i ∧ i < many → -2147483648 ≤ (S 1) i ∧ (S 1) i ≤ 2147483647) : gM l D dA N0 Y yX0_numbered cX0_numbered 6 (some .int) 1 21 0 0 [.ref a, vI many, .ref t] (gup h t (gI (dA 0) 12 (G1))) sz (gP (some (vI (cntN (S 1) many))) (gup h t (gI (dA 0) 12 (nT (S 1) many G1 (many)))) sz) := by
  refine gM.of hY.ok (by decide +kernel) (Nat.le_of_ble_eq_true rfl) ?_
  intro X hX C hQ
  subst hX
  have C : gC X cX0_numbered RX0 "numbered" 6 (some .int) D dA N0 Y ({ frames := 1, cells := 0, slots := 0, locals := 21 }) := C
  show G X 0 0 _ _ 0 [some (.ref a), some (vI many), some (.ref t), none, none, none] []
  have hrg : ∀ i : Int, 0 ≤ i ∧ i < many → -2147483648 ≤ (S 1) i ∧ (S 1) i ≤ 2147483647 := hrg0
  refine g_iconst C dX0_numbered_0 ?_
  refine g_istore_n1003 C dX0_numbered_1 (gi _) rfl ?_
  refine g_iconst C dX0_numbered_2 ?_
  refine g_istore1004 C dX0_numbered_3 (gi _) rfl ?_
  have lp5_1 : ∀ (fuel : Nat) (n k : Int), ((0 ≤ k ∧ k ≤ many) ∧ n = cntN (S 1) k ∧ 0 ≤ n ∧ n ≤ k) → (many - k).toNat < fuel → G X 0 0 (gup h t (gI (dA 0) 12 (nT (S 1) many G1 (k)))) sz 5 [some (.ref a), some (vI many), some (.ref t), some (vI n), some (vI k), none] [] := by
    intro fuel
    induction fuel with
    | zero => intro n k hI hfu; exact absurd hfu (Nat.not_lt_zero _)
    | succ fuel ih =>
      intro n k hI hfu
      have ih1 := ih
      obtain ⟨hI1, hI2, hI3⟩ := hI
      refine g_iload C dX0_numbered_5 (gi _) rfl ?_
      refine g_iload_n C dX0_numbered_7 (gi _) rfl ?_
      refine g_icmp_ge C (tgt := 93) dX0_numbered_8 (by decide) (by omega) (fun c1 => ?_) (fun c1 => ?_)
      · refine g_iload_n C dX0_numbered_93 (gi _) rfl ?_
        exact g_iret C hQ rfl dX0_numbered_94 ⟨gv (by rw [hI2, show k = many by omega]), by rw [show k = many by omega], rfl⟩
      · refine g_aload_n C dX0_numbered_11 (gr _) rfl ?_
        refine g_iload C dX0_numbered_12 (gi _) rfl ?_
        refine g_iconst C dX0_numbered_14 ?_
        refine g_iast C (gup_s _ _ _) (by omega) dX0_numbered_15 ?_
        refine g_hE (gup_gup _ _ _ _) ?_
        refine g_iconst C dX0_numbered_16 ?_
        refine g_istore1005 C dX0_numbered_17 (gi _) rfl ?_
        have lp19_2 : ∀ (fuel : Nat) (j v : Int), ((0 ≤ j ∧ j ≤ k) ∧ ((v = -1 ∧ ∀ i : Int, 0 ≤ i → i < j → (S 1) i ≠ (S 1) k) ∨ (v = numV (S 1) many k ∧ newB (S 1) k = false)) ∧ -1 ≤ v ∧ v ≤ 12) → (k - j).toNat < fuel → G X 0 0 (gup h t (gI (dA 0) 12 (uI (nT (S 1) many G1 (k)) k v))) sz 19 [some (.ref a), some (vI many), some (.ref t), some (vI n), some (vI k), some (vI j)] [] := by
          intro fuel
          induction fuel with
          | zero => intro j v hI hfu; exact absurd hfu (Nat.not_lt_zero _)
          | succ fuel ih =>
            intro j v hI hfu
            have ih2 := ih
            obtain ⟨hJ1, hJ2, hJ3⟩ := hI
            refine g_iload C dX0_numbered_19 (gi _) rfl ?_
            refine g_iload C dX0_numbered_21 (gi _) rfl ?_
            refine g_icmp_ge C (tgt := 71) dX0_numbered_23 (by decide) (by omega) (fun c2 => ?_) (fun c2 => ?_)
            · refine g_aload_n C dX0_numbered_71 (gr _) rfl ?_
              refine g_iload C dX0_numbered_72 (gi _) rfl ?_
              refine g_iald C (gup_s _ _ _) (by omega) dX0_numbered_74 ?_
              refine g_top (b := v) (by exact uI_s _ _ _) ?_
              refine g_iconst C dX0_numbered_75 ?_
              refine g_icmp_ne C (tgt := 87) dX0_numbered_76 (by decide) (by omega) (fun c3 => ?_) (fun c3 => ?_)
              · refine g_iinc1004 C dX0_numbered_87 rfl ?_
                refine g_goto C (tgt := 5) dX0_numbered_90 (by decide) ?_
                have e1 : numV (S 1) many k = v := by
                  rcases hJ2 with z | z
                  · omega
                  · exact z.1.symm
                have hold : newB (S 1) k = false := by
                  rcases hJ2 with z | z
                  · omega
                  · exact z.2
                have hcs := cntN_s2 (u := (S 1)) (k := k) (by omega)
                refine g_hE (congrArg (fun z => gup h t (gI (dA 0) 12 z)) (show uI (nT (S 1) many G1 (k)) k v = nT (S 1) many G1 (k + 1) by rw [← e1]; exact nT_s _ _ _ (by omega))) ?_
                refine g_sub (L' := [some _, some _, some _, some _, some _, none]) ⟨rfl, ⟨rfl, ⟨rfl, ⟨rfl, ⟨rfl, trivial⟩⟩⟩⟩⟩ ?_
                exact ih1 _ _ (⟨by omega, by rw [hcs, hold]; show n = _ + 0; omega, by omega⟩) (by omega)
              · refine g_aload_n C dX0_numbered_79 (gr _) rfl ?_
                refine g_iload C dX0_numbered_80 (gi _) rfl ?_
                refine g_iload_n C dX0_numbered_82 (gi _) rfl ?_
                refine g_iinc1003 C dX0_numbered_83 rfl ?_
                refine g_iast C (gup_s _ _ _) (by omega) dX0_numbered_86 ?_
                refine g_hE (gup_gup _ _ _ _) ?_
                refine g_iinc1004 C dX0_numbered_87 rfl ?_
                refine g_goto C (tgt := 5) dX0_numbered_90 (by decide) ?_
                have hnew : newB (S 1) k = true := by
                  refine (newB_t (by omega)).mpr (fun i i0 i1 => ?_)
                  rcases hJ2 with z | z
                  · exact z.2 i i0 (by omega)
                  · have := numV_rg (S 1) many k (by omega); omega
                have hcs := cntN_s2 (u := (S 1)) (k := k) (by omega)
                rw [hnew] at hcs
                refine g_hE (congrArg (fun z => gup h t (gI (dA 0) 12 z)) (show uI (uI (nT (S 1) many G1 (k)) k v) k n = nT (S 1) many G1 (k + 1) by rw [uI_uI, hI2, ← num_new (many := many) (by omega) hnew]; exact nT_s _ _ _ (by omega))) ?_
                refine g_sub (L' := [some _, some _, some _, some _, some _, none]) ⟨rfl, ⟨rfl, ⟨rfl, ⟨rfl, ⟨rfl, trivial⟩⟩⟩⟩⟩ ?_
                exact ih1 _ _ (⟨by omega, by rw [hcs, ← hI2]; rfl, by omega⟩) (by omega)
            · refine g_aload_n C dX0_numbered_26 (gr _) rfl ?_
              refine g_iload C dX0_numbered_27 (gi _) rfl ?_
              refine g_iald C (gup_s _ _ _) (by omega) dX0_numbered_29 ?_
              refine g_top (b := v) (by exact uI_s _ _ _) ?_
              refine g_iconst C dX0_numbered_30 ?_
              refine g_icmp_ne C (tgt := 71) dX0_numbered_31 (by decide) (by omega) (fun c4 => ?_) (fun c4 => ?_)
              · refine g_aload_n C dX0_numbered_71 (gr _) rfl ?_
                refine g_iload C dX0_numbered_72 (gi _) rfl ?_
                refine g_iald C (gup_s _ _ _) (by omega) dX0_numbered_74 ?_
                refine g_top (b := v) (by exact uI_s _ _ _) ?_
                refine g_iconst C dX0_numbered_75 ?_
                refine g_icmp_ne C (tgt := 87) dX0_numbered_76 (by decide) (by omega) (fun c5 => ?_) (fun c5 => ?_)
                · refine g_iinc1004 C dX0_numbered_87 rfl ?_
                  refine g_goto C (tgt := 5) dX0_numbered_90 (by decide) ?_
                  have e1 : numV (S 1) many k = v := by
                    rcases hJ2 with z | z
                    · omega
                    · exact z.1.symm
                  have hold : newB (S 1) k = false := by
                    rcases hJ2 with z | z
                    · omega
                    · exact z.2
                  have hcs := cntN_s2 (u := (S 1)) (k := k) (by omega)
                  refine g_hE (congrArg (fun z => gup h t (gI (dA 0) 12 z)) (show uI (nT (S 1) many G1 (k)) k v = nT (S 1) many G1 (k + 1) by rw [← e1]; exact nT_s _ _ _ (by omega))) ?_
                  refine g_sub (L' := [some _, some _, some _, some _, some _, none]) ⟨rfl, ⟨rfl, ⟨rfl, ⟨rfl, ⟨rfl, trivial⟩⟩⟩⟩⟩ ?_
                  exact ih1 _ _ (⟨by omega, by rw [hcs, hold]; show n = _ + 0; omega, by omega⟩) (by omega)
                · omega
              · have hv : v = -1 ∧ ∀ i : Int, 0 ≤ i → i < j → (S 1) i ≠ (S 1) k := by
                  rcases hJ2 with z | z
                  · exact z
                  · have := numV_rg (S 1) many k (by omega); omega
                have rj := colV_rg (S := S) j hR
                have rk := colV_rg (S := S) k hR
                refine g_aload_n C dX0_numbered_34 (gr _) rfl ?_
                refine g_iload C dX0_numbered_35 (gi _) rfl ?_
                refine g_aload_n C dX0_numbered_37 (gr _) rfl ?_
                refine g_iload C dX0_numbered_38 (gi _) rfl ?_
                refine g_callF1z C (mX9_bits hY (isXr_gup hX hxt hyt) ((gup_n _ _ hat).trans hA) (by omega)) (lw_F q881 q885 q887 q92 q889) ⟨gtok hY C q883 rfl, gtok hY C q882 rfl, gtok hY C q888 rfl, gtok hY C q886 rfl, gtok hY C q884 rfl⟩ ndx_4 ((gup_n _ _ hat).trans hA) rfl ⟨by decide, by decide⟩ ⟨Nat.le_of_ble_eq_true rfl, Nat.le_of_ble_eq_true rfl⟩ rfl (Nat.le_of_ble_eq_true rfl) dX0_numbered_40 ?_
                refine g_aload_n C dX0_numbered_45 (gr _) rfl ?_
                refine g_iload C dX0_numbered_46 (gi _) rfl ?_
                refine g_callF1z C (mX9_bits hY (isXr_gup hX hxt hyt) ((gup_n _ _ hat).trans hA) (by omega)) (lw_F q881 q885 q887 q92 q889) ⟨gtok hY C q883 rfl, gtok hY C q882 rfl, gtok hY C q888 rfl, gtok hY C q886 rfl, gtok hY C q884 rfl⟩ ndx_4 ((gup_n _ _ hat).trans hA) rfl ⟨by decide, by decide⟩ ⟨Nat.le_of_ble_eq_true rfl, Nat.le_of_ble_eq_true rfl⟩ rfl (Nat.le_of_ble_eq_true rfl) dX0_numbered_48 ?_
                refine g_icmp_ne C (tgt := 63) dX0_numbered_53 (by decide) (by exact ⟨hrg j (by omega), hrg k (by omega)⟩) (fun c6 => ?_) (fun c6 => ?_)
                · have hne : (S 1) j ≠ (S 1) k := c6
                  refine g_iconst C dX0_numbered_63 ?_
                  refine g_iast C (gup_s _ _ _) (by omega) dX0_numbered_64 ?_
                  refine g_hE (gup_gup _ _ _ _) ?_
                  refine g_iinc1005 C dX0_numbered_65 rfl ?_
                  refine g_goto C (tgt := 19) dX0_numbered_68 (by decide) ?_
                  refine g_hE (congrArg (fun z => gup h t (gI (dA 0) 12 z)) (show uI (uI (nT (S 1) many G1 (k)) k v) k (-1) = uI (nT (S 1) many G1 (k)) k (-1) by rw [uI_uI])) ?_
                  exact ih2 (j + 1) (-1) (⟨by omega, Or.inl ⟨rfl, fun i i0 i1 => if hij : i = j then by rw [hij]; exact hne else (hv.2 i i0 (by omega))⟩, by omega⟩) (by omega)
                · have heq : (S 1) j = (S 1) k := c6
                  refine g_aload_n C dX0_numbered_56 (gr _) rfl ?_
                  refine g_iload C dX0_numbered_57 (gi _) rfl ?_
                  refine g_iald C (gup_s _ _ _) (by omega) dX0_numbered_59 ?_
                  refine g_top (b := numV (S 1) many j) (by simp only [uI, nT]; rw [if_neg (by omega), if_pos (by omega)]) ?_
                  refine g_goto C (tgt := 64) dX0_numbered_60 (by decide) ?_
                  refine g_iast C (gup_s _ _ _) (by omega) dX0_numbered_64 ?_
                  refine g_hE (gup_gup _ _ _ _) ?_
                  refine g_iinc1005 C dX0_numbered_65 rfl ?_
                  refine g_goto C (tgt := 19) dX0_numbered_68 (by decide) ?_
                  refine g_hE (congrArg (fun z => gup h t (gI (dA 0) 12 z)) (show uI (uI (nT (S 1) many G1 (k)) k v) k (numV (S 1) many j) = uI (nT (S 1) many G1 (k)) k (numV (S 1) many j) by rw [uI_uI])) ?_
                  have hnr := numV_rg (S 1) many j (by omega)
                  exact ih2 (j + 1) (numV (S 1) many j) (⟨by omega, Or.inr ⟨num_same heq, by cases hb : newB (S 1) k with | false => rfl | true => exact absurd heq ((newB_t (by omega)).mp hb j (by omega) (by omega))⟩, by omega⟩) (by omega)
        exact lp19_2 _ 0 (-1) (⟨by omega, Or.inl ⟨rfl, fun i i0 i1 => by omega⟩, by omega⟩) (Nat.lt_succ_self _)
  refine g_hE (congrArg (fun z => gup h t (gI (dA 0) 12 z)) (nT_0 (S 1) many G1).symm) ?_
  refine g_sub (L' := [some _, some _, some _, some _, some _, none]) ⟨rfl, ⟨rfl, ⟨rfl, ⟨rfl, ⟨rfl, trivial⟩⟩⟩⟩⟩ ?_
  exact lp5_1 _ 0 0 (⟨by omega, rfl, by omega⟩) (Nat.lt_succ_self _)
