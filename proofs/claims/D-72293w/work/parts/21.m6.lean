/-! THE REFERENCE: the text -/
set_option maxRecDepth 100000

theorem nd_X5_nextToken : yX5_nextToken.cls ≠ "java/lang/invoke/MethodHandle" ∧ yX5_nextToken.cls ≠ "java/lang/invoke/VarHandle" ∧ (parseMethodDescriptor yX5_nextToken.desc).map (fun d => d.parameters.length) = some 0 := by decide +kernel
theorem mX5_nextToken {l : Launch} {D : va_G} {dA : Nat → ClassId} {N0 : Nat} {Y : State → Prop} (hY : gYok N0 Y) {h : gH} {sz m : Nat} {S : MS} (hX : OkX S) (hb : 0 ≤ S 10 5 ∧ S 10 5 ≤ S 10 3) : gM l D dA N0 Y yX5_nextToken cX5_nextToken 1 none 2 45 0 0 [.ref m] (ovM dA m S h) sz (gP none (ovM dA m (ntS S) h) sz) := by
  refine gM.of hY (by decide +kernel) (Nat.le_of_ble_eq_true rfl) ?_
  intro X hX C hQ
  subst hX
  have C : gC X cX5_nextToken RX5 "nextToken" 1 none D dA N0 Y ({ frames := 2, cells := 0, slots := 0, locals := 45 }) := C
  show G X 0 0 _ _ 0 [some (.ref m)] []
  have hX1 := hX.1
  have hfr := fB_rg hb.2
  have jn46 : ∀ (a : Int), (a = fB S) → G X 0 0 (ovM dA m (us S 10 4 a) h) sz 46 [some (.ref m)] [] := by
    intro a ha
    subst ha
    refine g_aload_n C dX5_nextToken_46 (gr _) rfl ?_
    refine g_aload_n C dX5_nextToken_47 (gr _) rfl ?_
    refine M_g_first C q1201 dX5_nextToken_48 ?_
    refine g_top (b := fB S) (by simp [us_eq]) ?_
    refine g_aload_n C dX5_nextToken_51 (gr _) rfl ?_
    refine M_g_length C q1198 dX5_nextToken_52 ?_
    refine g_top (b := S 10 3) (by simp [us_eq]) ?_
    refine g_icmp_ge C (tgt := 67) dX5_nextToken_55 (by decide) (by omega) (fun c1 => ?_) (fun c1 => ?_)
    · have h55 : ¬ fB S < S 10 3 := by omega
      refine g_aload_n C dX5_nextToken_67 (gr _) rfl ?_
      refine M_g_first C q1201 dX5_nextToken_68 ?_
      refine g_top (b := fB S) (by simp [us_eq]) ?_
      refine M_p_behind C q1202 dX5_nextToken_71 ?_
      refine g_aload_n C dX5_nextToken_74 (gr _) rfl ?_
      refine M_g_first C q1201 dX5_nextToken_75 ?_
      refine g_top (b := fB S) (by simp [us_eq]) ?_
      refine g_aload_n C dX5_nextToken_78 (gr _) rfl ?_
      refine M_g_length C q1198 dX5_nextToken_79 ?_
      refine g_top (b := S 10 3) (by simp [us_eq]) ?_
      refine g_icmp_ge C (tgt := 139) dX5_nextToken_82 (by decide) (by omega) (fun c2 => ?_) (fun c2 => ?_)
      · refine g_aload_n C dX5_nextToken_139 (gr _) rfl ?_
        refine M_g_first C q1201 dX5_nextToken_140 ?_
        refine g_top (b := fB S) (by simp [us_eq]) ?_
        refine g_aload_n C dX5_nextToken_143 (gr _) rfl ?_
        refine M_g_length C q1198 dX5_nextToken_144 ?_
        refine g_top (b := S 10 3) (by simp [us_eq]) ?_
        refine g_icmp_ge C (tgt := 204) dX5_nextToken_147 (by decide) (by omega) (fun c3 => ?_) (fun c3 => ?_)
        · exact g_vret C hQ rfl dX5_nextToken_204 ⟨rfl, gh (by rw [ntS, bB, if_neg h55]), rfl⟩
        · omega
      · omega
    · have h55 : fB S < S 10 3 := by omega
      have htf := hX.2.1 (fB S) (by omega) (by omega)
      refine g_aload_n C dX5_nextToken_58 (gr _) rfl ?_
      refine M_g_first C q1201 dX5_nextToken_59 ?_
      refine g_top (b := fB S) (by simp [us_eq]) ?_
      refine g_iconst C dX5_nextToken_62 ?_
      refine g_iadd C dX5_nextToken_63 ?_
      refine g_goto C (tgt := 71) dX5_nextToken_64 (by decide) ?_
      refine M_p_behind C q1202 dX5_nextToken_71 ?_
      refine g_aload_n C dX5_nextToken_74 (gr _) rfl ?_
      refine M_g_first C q1201 dX5_nextToken_75 ?_
      refine g_top (b := fB S) (by simp [us_eq]) ?_
      refine g_aload_n C dX5_nextToken_78 (gr _) rfl ?_
      refine M_g_length C q1198 dX5_nextToken_79 ?_
      refine g_top (b := S 10 3) (by simp [us_eq]) ?_
      refine g_icmp_ge C (tgt := 139) dX5_nextToken_82 (by decide) (by omega) (fun c4 => ?_) (fun c4 => ?_)
      · omega
      · refine g_aload_n C dX5_nextToken_85 (gr _) rfl ?_
        refine M_g_text C q1197 dX5_nextToken_86 ?_
        refine g_aload_n C dX5_nextToken_89 (gr _) rfl ?_
        refine M_g_first C q1201 dX5_nextToken_90 ?_
        refine g_top (b := fB S) (by simp [us_eq]) ?_
        refine M_ld_text C (by omega) dX5_nextToken_93 ?_
        refine g_top (b := S 3 (fB S)) (by simp [us_eq]) ?_
        refine g_callS1z C (mX5_isSmall hY (by omega)) (lw_S q1271 q1272 q72 q1273) nd_X5_isSmall ⟨by decide, by decide⟩ ⟨Nat.le_of_ble_eq_true rfl, Nat.le_of_ble_eq_true rfl⟩ rfl (Nat.le_of_ble_eq_true rfl) dX5_nextToken_94 ?_
        refine g_ifeq_b C (tgt := 139) dX5_nextToken_97 (by decide) (fun c5 => ?_) (fun c5 => ?_)
        · have hsf : smB_ (S 3 (fB S)) = false := c5
          refine g_aload_n C dX5_nextToken_139 (gr _) rfl ?_
          refine M_g_first C q1201 dX5_nextToken_140 ?_
          refine g_top (b := fB S) (by simp [us_eq]) ?_
          refine g_aload_n C dX5_nextToken_143 (gr _) rfl ?_
          refine M_g_length C q1198 dX5_nextToken_144 ?_
          refine g_top (b := S 10 3) (by simp [us_eq]) ?_
          refine g_icmp_ge C (tgt := 204) dX5_nextToken_147 (by decide) (by omega) (fun c6 => ?_) (fun c6 => ?_)
          · omega
          · refine g_aload_n C dX5_nextToken_150 (gr _) rfl ?_
            refine M_g_text C q1197 dX5_nextToken_151 ?_
            refine g_aload_n C dX5_nextToken_154 (gr _) rfl ?_
            refine M_g_first C q1201 dX5_nextToken_155 ?_
            refine g_top (b := fB S) (by simp [us_eq]) ?_
            refine M_ld_text C (by omega) dX5_nextToken_158 ?_
            refine g_top (b := S 3 (fB S)) (by simp [us_eq]) ?_
            refine g_callS1z C (mX5_isDigit hY (by omega)) (lw_S q1276 q1277 q72 q1278) nd_X5_isDigit ⟨by decide, by decide⟩ ⟨Nat.le_of_ble_eq_true rfl, Nat.le_of_ble_eq_true rfl⟩ rfl (Nat.le_of_ble_eq_true rfl) dX5_nextToken_159 ?_
            refine g_ifeq_b C (tgt := 204) dX5_nextToken_162 (by decide) (fun c7 => ?_) (fun c7 => ?_)
            · have hdf : dgB (S 3 (fB S)) = false := c7
              exact g_vret C hQ rfl dX5_nextToken_204 ⟨rfl, gh (by rw [ntS, bB, if_pos h55, if_neg (by rw [hsf]; decide), if_neg (by rw [hdf]; decide)]), rfl⟩
            · have hdt : dgB (S 3 (fB S)) = true := c7
              have lp165_1 : ∀ (fuel : Nat) (b : Int), ((fB S + 1 ≤ b ∧ b ≤ S 10 3) ∧ firstR (fun i => !(decide (i < S 10 3) && dgB (S 3 i))) (201 - (b - (fB S + 1))).toNat b = gT S dgB (fB S + 1)) → (S 10 3 - b).toNat < fuel → G X 0 0 (ovM dA m (us (us S 10 4 (fB S)) 10 5 b) h) sz 165 [some (.ref m)] [] := by
                intro fuel
                induction fuel with
                | zero => intro b hI hfu; exact absurd hfu (Nat.not_lt_zero _)
                | succ fuel ih =>
                  intro b hI hfu
                  have ih1 := ih
                  obtain ⟨hB1, hB2⟩ := hI
                  refine g_aload_n C dX5_nextToken_165 (gr _) rfl ?_
                  refine M_g_behind C q1202 dX5_nextToken_166 ?_
                  refine g_top (b := b) (by simp [us_eq]) ?_
                  refine g_aload_n C dX5_nextToken_169 (gr _) rfl ?_
                  refine M_g_length C q1198 dX5_nextToken_170 ?_
                  refine g_top (b := S 10 3) (by simp [us_eq]) ?_
                  refine g_icmp_ge C (tgt := 204) dX5_nextToken_173 (by decide) (by omega) (fun c8 => ?_) (fun c8 => ?_)
                  · have hsn : True := trivial
                    exact g_vret C hQ rfl dX5_nextToken_204 ⟨rfl, gh (by rw [ntS, bB, if_pos h55, if_neg (by rw [hsf]; decide), if_pos hdt, ← hB2]; congr 1; exact (firstR_t (by simp; left; omega) (by omega)).symm), rfl⟩
                  · have htb := hX.2.1 b (by omega) (by omega)
                    refine g_aload_n C dX5_nextToken_176 (gr _) rfl ?_
                    refine M_g_text C q1197 dX5_nextToken_177 ?_
                    refine g_aload_n C dX5_nextToken_180 (gr _) rfl ?_
                    refine M_g_behind C q1202 dX5_nextToken_181 ?_
                    refine g_top (b := b) (by simp [us_eq]) ?_
                    refine M_ld_text C (by omega) dX5_nextToken_184 ?_
                    refine g_top (b := S 3 b) (by simp [us_eq]) ?_
                    refine g_callS1z C (mX5_isDigit hY (by omega)) (lw_S q1276 q1277 q72 q1278) nd_X5_isDigit ⟨by decide, by decide⟩ ⟨Nat.le_of_ble_eq_true rfl, Nat.le_of_ble_eq_true rfl⟩ rfl (Nat.le_of_ble_eq_true rfl) dX5_nextToken_185 ?_
                    refine g_ifeq_b C (tgt := 204) dX5_nextToken_188 (by decide) (fun c9 => ?_) (fun c9 => ?_)
                    · have hsn : dgB (S 3 b) = false := c9
                      exact g_vret C hQ rfl dX5_nextToken_204 ⟨rfl, gh (by rw [ntS, bB, if_pos h55, if_neg (by rw [hsf]; decide), if_pos hdt, ← hB2]; congr 1; exact (firstR_t (by simp; right; exact hsn) (by omega)).symm), rfl⟩
                    · have hsm : dgB (S 3 b) = true := c9
                      refine g_aload_n C dX5_nextToken_191 (gr _) rfl ?_
                      refine g_dup C dX5_nextToken_192 rfl ?_
                      refine M_g_behind C q1202 dX5_nextToken_193 ?_
                      refine g_top (b := b) (by simp [us_eq]) ?_
                      refine g_iconst C dX5_nextToken_196 ?_
                      refine g_iadd C dX5_nextToken_197 ?_
                      refine M_p_behind C q1202 dX5_nextToken_198 ?_
                      refine g_goto C (tgt := 165) dX5_nextToken_201 (by decide) ?_
                      refine g_hE (gh (us_us _ _ _ _ _)) ?_
                      exact ih1 (b + 1) (⟨by omega, by rw [show 201 - (b + 1 - (fB S + 1)) = 201 - (b - (fB S + 1)) - 1 by omega, ← firstR_f (by simp; exact ⟨by omega, hsm⟩) (by omega)]; exact hB2⟩) (by omega)
              exact lp165_1 _ (fB S + 1) (⟨by omega, by rw [show 201 - (fB S + 1 - (fB S + 1)) = 201 by omega]; rfl⟩) (Nat.lt_succ_self _)
        · have hst : smB_ (S 3 (fB S)) = true := c5
          have lp100_2 : ∀ (fuel : Nat) (b : Int), ((fB S + 1 ≤ b ∧ b ≤ S 10 3) ∧ firstR (fun i => !(decide (i < S 10 3) && smB_ (S 3 i))) (201 - (b - (fB S + 1))).toNat b = gT S smB_ (fB S + 1)) → (S 10 3 - b).toNat < fuel → G X 0 0 (ovM dA m (us (us S 10 4 (fB S)) 10 5 b) h) sz 100 [some (.ref m)] [] := by
            intro fuel
            induction fuel with
            | zero => intro b hI hfu; exact absurd hfu (Nat.not_lt_zero _)
            | succ fuel ih =>
              intro b hI hfu
              have ih2 := ih
              obtain ⟨hB1, hB2⟩ := hI
              refine g_aload_n C dX5_nextToken_100 (gr _) rfl ?_
              refine M_g_behind C q1202 dX5_nextToken_101 ?_
              refine g_top (b := b) (by simp [us_eq]) ?_
              refine g_aload_n C dX5_nextToken_104 (gr _) rfl ?_
              refine M_g_length C q1198 dX5_nextToken_105 ?_
              refine g_top (b := S 10 3) (by simp [us_eq]) ?_
              refine g_icmp_ge C (tgt := 204) dX5_nextToken_108 (by decide) (by omega) (fun c10 => ?_) (fun c10 => ?_)
              · have hsn : True := trivial
                exact g_vret C hQ rfl dX5_nextToken_204 ⟨rfl, gh (by rw [ntS, bB, if_pos h55, if_pos hst, ← hB2]; congr 1; exact (firstR_t (by simp; left; omega) (by omega)).symm), rfl⟩
              · have htb := hX.2.1 b (by omega) (by omega)
                refine g_aload_n C dX5_nextToken_111 (gr _) rfl ?_
                refine M_g_text C q1197 dX5_nextToken_112 ?_
                refine g_aload_n C dX5_nextToken_115 (gr _) rfl ?_
                refine M_g_behind C q1202 dX5_nextToken_116 ?_
                refine g_top (b := b) (by simp [us_eq]) ?_
                refine M_ld_text C (by omega) dX5_nextToken_119 ?_
                refine g_top (b := S 3 b) (by simp [us_eq]) ?_
                refine g_callS1z C (mX5_isSmall hY (by omega)) (lw_S q1271 q1272 q72 q1273) nd_X5_isSmall ⟨by decide, by decide⟩ ⟨Nat.le_of_ble_eq_true rfl, Nat.le_of_ble_eq_true rfl⟩ rfl (Nat.le_of_ble_eq_true rfl) dX5_nextToken_120 ?_
                refine g_ifeq_b C (tgt := 204) dX5_nextToken_123 (by decide) (fun c11 => ?_) (fun c11 => ?_)
                · have hsn : smB_ (S 3 b) = false := c11
                  exact g_vret C hQ rfl dX5_nextToken_204 ⟨rfl, gh (by rw [ntS, bB, if_pos h55, if_pos hst, ← hB2]; congr 1; exact (firstR_t (by simp; right; exact hsn) (by omega)).symm), rfl⟩
                · have hsm : smB_ (S 3 b) = true := c11
                  refine g_aload_n C dX5_nextToken_126 (gr _) rfl ?_
                  refine g_dup C dX5_nextToken_127 rfl ?_
                  refine M_g_behind C q1202 dX5_nextToken_128 ?_
                  refine g_top (b := b) (by simp [us_eq]) ?_
                  refine g_iconst C dX5_nextToken_131 ?_
                  refine g_iadd C dX5_nextToken_132 ?_
                  refine M_p_behind C q1202 dX5_nextToken_133 ?_
                  refine g_goto C (tgt := 100) dX5_nextToken_136 (by decide) ?_
                  refine g_hE (gh (us_us _ _ _ _ _)) ?_
                  exact ih2 (b + 1) (⟨by omega, by rw [show 201 - (b + 1 - (fB S + 1)) = 201 - (b - (fB S + 1)) - 1 by omega, ← firstR_f (by simp; exact ⟨by omega, hsm⟩) (by omega)]; exact hB2⟩) (by omega)
          exact lp100_2 _ (fB S + 1) (⟨by omega, by rw [show 201 - (fB S + 1 - (fB S + 1)) = 201 by omega]; rfl⟩) (Nat.lt_succ_self _)
  refine g_aload_n C dX5_nextToken_0 (gr _) rfl ?_
  refine g_aload_n C dX5_nextToken_1 (gr _) rfl ?_
  refine M_g_behind C q1202 dX5_nextToken_2 ?_
  refine M_p_first C q1201 dX5_nextToken_5 ?_
  have lp8_3 : ∀ (fuel : Nat) (a : Int), ((S 10 5 ≤ a ∧ a ≤ S 10 3) ∧ firstR (fun i => !decide (i < S 10 3 ∧ S 3 i = 32)) (201 - (a - S 10 5)).toNat a = fB S) → (S 10 3 - a).toNat < fuel → G X 0 0 (ovM dA m (us S 10 4 a) h) sz 8 [some (.ref m)] [] := by
    intro fuel
    induction fuel with
    | zero => intro a hI hfu; exact absurd hfu (Nat.not_lt_zero _)
    | succ fuel ih =>
      intro a hI hfu
      have ih3 := ih
      obtain ⟨hI1, hI2⟩ := hI
      refine g_aload_n C dX5_nextToken_8 (gr _) rfl ?_
      refine M_g_first C q1201 dX5_nextToken_9 ?_
      refine g_top (b := a) (by simp [us_eq]) ?_
      refine g_aload_n C dX5_nextToken_12 (gr _) rfl ?_
      refine M_g_length C q1198 dX5_nextToken_13 ?_
      refine g_top (b := S 10 3) (by simp [us_eq]) ?_
      refine g_icmp_ge C (tgt := 46) dX5_nextToken_16 (by decide) (by omega) (fun c12 => ?_) (fun c12 => ?_)
      · exact jn46 _ (by rw [← hI2]; exact (firstR_t (by simp; omega) (by omega)).symm)
      · have hta := hX.2.1 a (by omega) (by omega)
        refine g_aload_n C dX5_nextToken_19 (gr _) rfl ?_
        refine M_g_text C q1197 dX5_nextToken_20 ?_
        refine g_aload_n C dX5_nextToken_23 (gr _) rfl ?_
        refine M_g_first C q1201 dX5_nextToken_24 ?_
        refine g_top (b := a) (by simp [us_eq]) ?_
        refine M_ld_text C (by omega) dX5_nextToken_27 ?_
        refine g_top (b := S 3 a) (by simp [us_eq]) ?_
        refine g_bipush C dX5_nextToken_28 (by decide +kernel) ?_
        refine g_icmp_ne C (tgt := 46) dX5_nextToken_30 (by decide) (by omega) (fun c13 => ?_) (fun c13 => ?_)
        · exact jn46 _ (by rw [← hI2]; exact (firstR_t (by simp; omega) (by omega)).symm)
        · refine g_aload_n C dX5_nextToken_33 (gr _) rfl ?_
          refine g_dup C dX5_nextToken_34 rfl ?_
          refine M_g_first C q1201 dX5_nextToken_35 ?_
          refine g_top (b := a) (by simp [us_eq]) ?_
          refine g_iconst C dX5_nextToken_38 ?_
          refine g_iadd C dX5_nextToken_39 ?_
          refine M_p_first C q1201 dX5_nextToken_40 ?_
          refine g_goto C (tgt := 8) dX5_nextToken_43 (by decide) ?_
          refine g_hE (gh (us_us _ _ _ _ _)) ?_
          exact ih3 (a + 1) (⟨by omega, by rw [show 201 - (a + 1 - S 10 5) = 201 - (a - S 10 5) - 1 by omega, ← firstR_f (by simp; omega) (by omega)]; exact hI2⟩) (by omega)
  exact lp8_3 _ (S 10 5) (⟨by omega, by rw [show 201 - (S 10 5 - S 10 5) = 201 by omega]; rfl⟩) (Nat.lt_succ_self _)

theorem nd_X5_wordHere : yX5_wordHere.cls ≠ "java/lang/invoke/MethodHandle" ∧ yX5_wordHere.cls ≠ "java/lang/invoke/VarHandle" ∧ (parseMethodDescriptor yX5_wordHere.desc).map (fun d => d.parameters.length) = some 0 := by decide +kernel
theorem mX5_wordHere {l : Launch} {D : va_G} {dA : Nat → ClassId} {N0 : Nat} {Y : State → Prop} (hY : gYok N0 Y) {h : gH} {sz m : Nat} {S : MS} (hX : OkX S) (hP : OkP S) : gM l D dA N0 Y yX5_wordHere cX5_wordHere 4 (some .int) 0 0 0 0 [.ref m] (ovM dA m S h) sz (gP (some (vI (whV S))) (ovM dA m S h) sz) := by
  refine gM.of hY (by decide +kernel) (Nat.le_of_ble_eq_true rfl) ?_
  intro X hX C hQ
  subst hX
  have C : gC X cX5_wordHere RX5 "wordHere" 4 (some .int) D dA N0 Y ({ frames := 0, cells := 0, slots := 0, locals := 0 }) := C
  show G X 0 0 _ _ 0 [some (.ref m), none, none, none] []
  have hX1 := hX.1
  have hP1 := hP
  unfold OkP at hP1
  refine g_iconst C dX5_wordHere_0 ?_
  refine g_istore_n1001 C dX5_wordHere_1 (gi _) rfl ?_
  have lp2_1 : ∀ (fuel : Nat) (w : Int), ((0 ≤ w ∧ w ≤ 8) ∧ fwR (wordB S) (8 - w).toNat w = whV S) → (8 - w).toNat < fuel → G X 0 0 (ovM dA m S h) sz 2 [some (.ref m), some (vI w), none, none] [] := by
    intro fuel
    induction fuel with
    | zero => intro w hI hfu; exact absurd hfu (Nat.not_lt_zero _)
    | succ fuel ih =>
      intro w hI hfu
      have ih1 := ih
      obtain ⟨hI1, hI2⟩ := hI
      refine g_iload_n C dX5_wordHere_2 (gi _) rfl ?_
      refine g_bipush C dX5_wordHere_3 (by decide +kernel) ?_
      refine g_icmp_gt C (tgt := 115) dX5_wordHere_5 (by decide) (by omega) (fun c1 => ?_) (fun c1 => ?_)
      · refine g_iconst C dX5_wordHere_115 ?_
        exact g_iret C hQ rfl dX5_wordHere_116 ⟨gv (by rw [← hI2, show (8 - w).toNat = 0 by omega]; rfl), rfl, rfl⟩
      · have jn38 : ∀ (b0 : Bool), (b0 = wd0 S) → G X 0 0 (ovM dA m S h) sz 38 [some (.ref m), some (vI w), none, none] [vI (bI b0)] := by
          intro b0 hb0
          refine g_istore_n1002 C dX5_wordHere_38 (gi _) rfl ?_
          refine g_iconst C dX5_wordHere_39 ?_
          refine g_istore_n1003 C dX5_wordHere_40 (gi _) rfl ?_
          have lp41_2 : ∀ (fuel : Nat) (x : Bool) (k : Int), ((0 ≤ k ∧ k ≤ 5) ∧ x = fo (wdF S w) (wd0 S) k.toNat) → (5 - k).toNat < fuel → G X 0 0 (ovM dA m S h) sz 41 [some (.ref m), some (vI w), some (vI (bI x)), some (vI k)] [] := by
            intro fuel
            induction fuel with
            | zero => intro x k hI hfu; exact absurd hfu (Nat.not_lt_zero _)
            | succ fuel ih =>
              intro x k hI hfu
              have ih2 := ih
              obtain ⟨hJ1, hJ2⟩ := hI
              refine g_iload_n C dX5_wordHere_41 (gi _) rfl ?_
              refine g_iconst C dX5_wordHere_42 ?_
              refine g_icmp_ge C (tgt := 103) dX5_wordHere_43 (by decide) (by omega) (fun c2 => ?_) (fun c2 => ?_)
              · have hw : wordB S w = x := by rw [wordB, hJ2, show k = 5 by omega]; rfl
                refine g_iload_n C dX5_wordHere_103 (gi _) rfl ?_
                refine g_ifeq_b C (tgt := 109) dX5_wordHere_104 (by decide) (fun c3 => ?_) (fun c3 => ?_)
                · have hx0 : x = false := c3
                  refine g_iinc1001 C dX5_wordHere_109 rfl ?_
                  refine g_goto C (tgt := 2) dX5_wordHere_112 (by decide) ?_
                  refine g_sub (L' := [some _, some _, none, none]) ⟨rfl, ⟨rfl, trivial⟩⟩ ?_
                  exact ih1 _ (⟨by omega, by rw [show 8 - (w + 1) = 8 - w - 1 by omega, ← fwR_f (by rw [hw]; exact hx0) (by omega)]; exact hI2⟩) (by omega)
                · have hx1 : x = true := c3
                  refine g_iload_n C dX5_wordHere_107 (gi _) rfl ?_
                  exact g_iret C hQ rfl dX5_wordHere_108 ⟨gv (by rw [← hI2]; exact (fwR_t (by rw [hw]; exact hx1) (by omega)).symm), rfl, rfl⟩
              · refine g_iload_n C dX5_wordHere_46 (gi _) rfl ?_
                refine g_ifeq_b C (tgt := 103) dX5_wordHere_47 (by decide) (fun c4 => ?_) (fun c4 => ?_)
                · have hw : wordB S w = x := by rw [c4]; exact fo_false (fun _ => rfl) ⟨hJ1.1, by omega⟩ (hJ2.symm.trans c4)
                  refine g_iload_n C dX5_wordHere_103 (gi _) rfl ?_
                  refine g_ifeq_b C (tgt := 109) dX5_wordHere_104 (by decide) (fun c5 => ?_) (fun c5 => ?_)
                  · have hx0 : x = false := c5
                    refine g_iinc1001 C dX5_wordHere_109 rfl ?_
                    refine g_goto C (tgt := 2) dX5_wordHere_112 (by decide) ?_
                    refine g_sub (L' := [some _, some _, none, none]) ⟨rfl, ⟨rfl, trivial⟩⟩ ?_
                    exact ih1 _ (⟨by omega, by rw [show 8 - (w + 1) = 8 - w - 1 by omega, ← fwR_f (by rw [hw]; exact hx0) (by omega)]; exact hI2⟩) (by omega)
                  · have hx1 : x = true := c5
                    refine g_iload_n C dX5_wordHere_107 (gi _) rfl ?_
                    exact g_iret C hQ rfl dX5_wordHere_108 ⟨gv (by rw [← hI2]; exact (fwR_t (by rw [hw]; exact hx1) (by omega)).symm), rfl, rfl⟩
                · have hx1 : x = true := c4
                  have hwd := hX.2.2 (5 * w + k) (by omega) (by omega)
                  have hwr := wdC_rg (5 * w + k) (by omega)
                  refine g_aload_n C dX5_wordHere_50 (gr _) rfl ?_
                  refine M_g_words C q1207 dX5_wordHere_51 ?_
                  refine g_iconst C dX5_wordHere_54 ?_
                  refine g_iload_n C dX5_wordHere_55 (gi _) rfl ?_
                  refine g_imul C dX5_wordHere_56 ?_
                  refine g_iload_n C dX5_wordHere_57 (gi _) rfl ?_
                  refine g_iadd C dX5_wordHere_58 ?_
                  refine M_ld_words C (by omega) dX5_wordHere_59 ?_
                  refine g_aload_n C dX5_wordHere_60 (gr _) rfl ?_
                  refine M_g_first C q1201 dX5_wordHere_61 ?_
                  refine g_iload_n C dX5_wordHere_64 (gi _) rfl ?_
                  refine g_iadd C dX5_wordHere_65 ?_
                  refine g_aload_n C dX5_wordHere_66 (gr _) rfl ?_
                  refine M_g_behind C q1202 dX5_wordHere_67 ?_
                  refine g_icmp_ge C (tgt := 87) dX5_wordHere_70 (by decide) (by omega) (fun c6 => ?_) (fun c6 => ?_)
                  · have hlt : ¬ S 10 4 + k < S 10 5 := by omega
                    refine g_iconst C dX5_wordHere_87 ?_
                    refine g_icmp_ne C (tgt := 95) dX5_wordHere_88 (by decide) (by omega) (fun c7 => ?_) (fun c7 => ?_)
                    · have hcmp := c7
                      refine g_iconst C dX5_wordHere_95 ?_
                      refine g_istore_n1002 C dX5_wordHere_96 (gi _) rfl ?_
                      refine g_iinc1003 C dX5_wordHere_97 rfl ?_
                      refine g_goto C (tgt := 41) dX5_wordHere_100 (by decide) ?_
                      exact ih2 false _ (⟨by omega, by rw [fo_s hJ1.1, ← hJ2]; simp [wdF, hlt, hcmp]⟩) (by omega)
                    · have hcmp := c7
                      refine g_iconst C dX5_wordHere_91 ?_
                      refine g_goto C (tgt := 96) dX5_wordHere_92 (by decide) ?_
                      refine g_istore_n1002 C dX5_wordHere_96 (gi _) rfl ?_
                      refine g_iinc1003 C dX5_wordHere_97 rfl ?_
                      refine g_goto C (tgt := 41) dX5_wordHere_100 (by decide) ?_
                      exact ih2 true _ (⟨by omega, by rw [fo_s hJ1.1, ← hJ2, hx1]; simp [wdF, hlt, hcmp]⟩) (by omega)
                  · have hlt : S 10 4 + k < S 10 5 := by omega
                    have htk := hX.2.1 (S 10 4 + k) (by omega) (by omega)
                    refine g_aload_n C dX5_wordHere_73 (gr _) rfl ?_
                    refine M_g_text C q1197 dX5_wordHere_74 ?_
                    refine g_aload_n C dX5_wordHere_77 (gr _) rfl ?_
                    refine M_g_first C q1201 dX5_wordHere_78 ?_
                    refine g_iload_n C dX5_wordHere_81 (gi _) rfl ?_
                    refine g_iadd C dX5_wordHere_82 ?_
                    refine M_ld_text C (by omega) dX5_wordHere_83 ?_
                    refine g_goto C (tgt := 88) dX5_wordHere_84 (by decide) ?_
                    refine g_icmp_ne C (tgt := 95) dX5_wordHere_88 (by decide) (by omega) (fun c8 => ?_) (fun c8 => ?_)
                    · have hcmp := c8
                      refine g_iconst C dX5_wordHere_95 ?_
                      refine g_istore_n1002 C dX5_wordHere_96 (gi _) rfl ?_
                      refine g_iinc1003 C dX5_wordHere_97 rfl ?_
                      refine g_goto C (tgt := 41) dX5_wordHere_100 (by decide) ?_
                      exact ih2 false _ (⟨by omega, by rw [fo_s hJ1.1, ← hJ2]; simp [wdF, hlt, hcmp]⟩) (by omega)
                    · have hcmp := c8
                      refine g_iconst C dX5_wordHere_91 ?_
                      refine g_goto C (tgt := 96) dX5_wordHere_92 (by decide) ?_
                      refine g_istore_n1002 C dX5_wordHere_96 (gi _) rfl ?_
                      refine g_iinc1003 C dX5_wordHere_97 rfl ?_
                      refine g_goto C (tgt := 41) dX5_wordHere_100 (by decide) ?_
                      exact ih2 true _ (⟨by omega, by rw [fo_s hJ1.1, ← hJ2, hx1]; simp [wdF, hlt, hcmp]⟩) (by omega)
          exact lp41_2 _ _ 0 (⟨by omega, hb0⟩) (Nat.lt_succ_self _)
        refine g_aload_n C dX5_wordHere_8 (gr _) rfl ?_
        refine M_g_behind C q1202 dX5_wordHere_9 ?_
        refine g_aload_n C dX5_wordHere_12 (gr _) rfl ?_
        refine M_g_first C q1201 dX5_wordHere_13 ?_
        refine g_icmp_le C (tgt := 37) dX5_wordHere_16 (by decide) (by omega) (fun c9 => ?_) (fun c9 => ?_)
        · refine g_iconst C dX5_wordHere_37 ?_
          refine g_sub (L' := [some _, some _, none, none]) ⟨rfl, ⟨rfl, trivial⟩⟩ ?_
          exact jn38 false (by simp [wd0]; omega)
        · refine g_aload_n C dX5_wordHere_19 (gr _) rfl ?_
          refine M_g_behind C q1202 dX5_wordHere_20 ?_
          refine g_aload_n C dX5_wordHere_23 (gr _) rfl ?_
          refine M_g_first C q1201 dX5_wordHere_24 ?_
          refine g_isub C dX5_wordHere_27 ?_
          refine g_bipush C dX5_wordHere_28 (by decide +kernel) ?_
          refine g_icmp_ge C (tgt := 37) dX5_wordHere_30 (by decide) (by omega) (fun c10 => ?_) (fun c10 => ?_)
          · refine g_iconst C dX5_wordHere_37 ?_
            refine g_sub (L' := [some _, some _, none, none]) ⟨rfl, ⟨rfl, trivial⟩⟩ ?_
            exact jn38 false (by simp [wd0]; omega)
          · refine g_iconst C dX5_wordHere_33 ?_
            refine g_goto C (tgt := 38) dX5_wordHere_34 (by decide) ?_
            refine g_sub (L' := [some _, some _, none, none]) ⟨rfl, ⟨rfl, trivial⟩⟩ ?_
            exact jn38 true (by simp [wd0]; omega)
  refine g_sub (L' := [some _, some _, none, none]) ⟨rfl, ⟨rfl, trivial⟩⟩ ?_
  exact lp2_1 _ _ (⟨by omega, rfl⟩) (Nat.lt_succ_self _)

theorem nd_X5_number : yX5_number.cls ≠ "java/lang/invoke/MethodHandle" ∧ yX5_number.cls ≠ "java/lang/invoke/VarHandle" ∧ (parseMethodDescriptor yX5_number.desc).map (fun d => d.parameters.length) = some 3 := by decide +kernel
theorem mX5_number {l : Launch} {D : va_G} {dA : Nat → ClassId} {N0 : Nat} {Y : State → Prop} (hY : gYok N0 Y) {h : gH} {sz m : Nat} {S : MS} {k lo hi : Int} (hX : OkX S) (hP : OkP S) (hk : 0 ≤ k ∧ k < 4) (hr : (-2147483648 ≤ lo ∧ lo ≤ 2147483647) ∧ -2147483648 ≤ hi ∧ hi ≤ 2147483647) : gM l D dA N0 Y yX5_number cX5_number 6 (some .boolean) 3 65 0 0 [.ref m, vI k, vI lo, vI hi] (ovM dA m S h) sz (gP (some (vI (bI ((nbP k lo hi S).1)))) (ovM dA m ((nbP k lo hi S).2) h) sz) := by
  refine gM.of hY (by decide +kernel) (Nat.le_of_ble_eq_true rfl) ?_
  intro X hX C hQ
  subst hX
  have C : gC X cX5_number RX5 "number" 6 (some .boolean) D dA N0 Y ({ frames := 3, cells := 0, slots := 0, locals := 65 }) := C
  show G X 0 0 _ _ 0 [some (.ref m), some (vI k), some (vI lo), some (vI hi), none, none] []
  have hX1 := hX.1
  have hP1 := hP
  unfold OkP at hP1
  refine g_aload_n C dX5_number_0 (gr _) rfl ?_
  refine M_g_first C q1201 dX5_number_1 ?_
  refine g_aload_n C dX5_number_4 (gr _) rfl ?_
  refine M_g_length C q1198 dX5_number_5 ?_
  refine g_icmp_eq C (tgt := 39) dX5_number_8 (by decide) (by omega) (fun c1 => ?_) (fun c1 => ?_)
  · refine g_iconst C dX5_number_39 ?_
    refine g_topv (v' := vI (bI false)) rfl ?_
    exact g_zret C hQ rfl dX5_number_40 ⟨gz (by show false = (nb0 S && _); rw [show nb0 S = false by simp [nb0]; first | omega | (intro _ z; first | omega | (rw [hdg] at z; cases z) )]; rfl), gh (by rw [nbP_f (by show (nb0 S && _) = false; rw [show nb0 S = false by simp [nb0]; first | omega | (intro _ z; first | omega | (rw [hdg] at z; cases z))]; rfl)]), rfl⟩
  · have hne : S 10 4 ≠ S 10 3 := c1
    have htf := hX.2.1 (S 10 4) (by omega) (by omega)
    refine g_aload_n C dX5_number_11 (gr _) rfl ?_
    refine M_g_text C q1197 dX5_number_12 ?_
    refine g_aload_n C dX5_number_15 (gr _) rfl ?_
    refine M_g_first C q1201 dX5_number_16 ?_
    refine M_ld_text C (by omega) dX5_number_19 ?_
    refine g_callS1z C (mX5_isDigit hY (by omega)) (lw_S q1276 q1277 q72 q1278) nd_X5_isDigit ⟨by decide, by decide⟩ ⟨Nat.le_of_ble_eq_true rfl, Nat.le_of_ble_eq_true rfl⟩ rfl (Nat.le_of_ble_eq_true rfl) dX5_number_20 ?_
    refine g_ifeq_b C (tgt := 39) dX5_number_23 (by decide) (fun c2 => ?_) (fun c2 => ?_)
    · have hdg : dgB (S 3 (S 10 4)) = false := c2
      refine g_iconst C dX5_number_39 ?_
      refine g_topv (v' := vI (bI false)) rfl ?_
      exact g_zret C hQ rfl dX5_number_40 ⟨gz (by show false = (nb0 S && _); rw [show nb0 S = false by simp [nb0]; first | omega | (intro _ z; first | omega | (rw [hdg] at z; cases z) )]; rfl), gh (by rw [nbP_f (by show (nb0 S && _) = false; rw [show nb0 S = false by simp [nb0]; first | omega | (intro _ z; first | omega | (rw [hdg] at z; cases z))]; rfl)]), rfl⟩
    · have hdg : dgB (S 3 (S 10 4)) = true := c2
      refine g_aload_n C dX5_number_26 (gr _) rfl ?_
      refine M_g_behind C q1202 dX5_number_27 ?_
      refine g_aload_n C dX5_number_30 (gr _) rfl ?_
      refine M_g_first C q1201 dX5_number_31 ?_
      refine g_isub C dX5_number_34 ?_
      refine g_iconst C dX5_number_35 ?_
      refine g_icmp_le C (tgt := 41) dX5_number_36 (by decide) (by omega) (fun c3 => ?_) (fun c3 => ?_)
      · have h0 : nb0 S = true := by simp [nb0, hdg]; omega
        refine g_iconst C dX5_number_41 ?_
        refine g_istore1004 C dX5_number_42 (gi _) rfl ?_
        refine g_aload_n C dX5_number_44 (gr _) rfl ?_
        refine M_g_first C q1201 dX5_number_45 ?_
        refine g_istore1005 C dX5_number_48 (gi _) rfl ?_
        have lp50_1 : ∀ (fuel : Nat) (v i : Int), ((S 10 4 ≤ i ∧ i ≤ S 10 5) ∧ v = fo (digF S) 0 (i - S 10 4).toNat ∧ (i = S 10 4 → v = 0) ∧ (i = S 10 4 + 1 → -48 ≤ v ∧ v ≤ 207) ∧ (-1000 ≤ v ∧ v ≤ 3000)) → (S 10 5 - i).toNat < fuel → G X 0 0 (ovM dA m S h) sz 50 [some (.ref m), some (vI k), some (vI lo), some (vI hi), some (vI v), some (vI i)] [] := by
          intro fuel
          induction fuel with
          | zero => intro v i hI hfu; exact absurd hfu (Nat.not_lt_zero _)
          | succ fuel ih =>
            intro v i hI hfu
            have ih1 := ih
            obtain ⟨hI1, hI2, hI3, hI4, hI5⟩ := hI
            refine g_iload C dX5_number_50 (gi _) rfl ?_
            refine g_aload_n C dX5_number_52 (gr _) rfl ?_
            refine M_g_behind C q1202 dX5_number_53 ?_
            refine g_icmp_ge C (tgt := 83) dX5_number_56 (by decide) (by omega) (fun c4 => ?_) (fun c4 => ?_)
            · have hdv : digV S = v := by rw [digV, hI2, show i = S 10 5 by omega]
              refine g_iload C dX5_number_83 (gi _) rfl ?_
              refine g_i2lz C dX5_number_85 (by omega) ?_
              refine g_iload_n C dX5_number_86 (gi _) rfl ?_
              refine g_i2lz C dX5_number_87 (by omega) ?_
              refine g_iload_n C dX5_number_88 (gi _) rfl ?_
              refine g_i2lz C dX5_number_89 (by omega) ?_
              refine g_callS1z C (mX5_in hY (by omega)) (lw_S q1252 q1253 q72 q1254) nd_X5_in ⟨by decide, by decide⟩ ⟨Nat.le_of_ble_eq_true rfl, Nat.le_of_ble_eq_true rfl⟩ rfl (Nat.le_of_ble_eq_true rfl) dX5_number_90 ?_
              refine g_istore1005 C dX5_number_93 (gi _) rfl ?_
              refine g_iload C dX5_number_95 (gi _) rfl ?_
              refine g_ifeq_b C (tgt := 112) dX5_number_97 (by decide) (fun c5 => ?_) (fun c5 => ?_)
              · have hno : (nbP k lo hi S).1 = false := by show (nb0 S && inB (digV S) lo hi) = false; rw [h0, hdv, c5]; rfl
                have hin := c5
                refine g_iload C dX5_number_112 (gi _) rfl ?_
                exact g_zret C hQ rfl dX5_number_114 ⟨gz (by rw [hno]; exact hin), gh (by first | (rw [nbP_f hno]; done) | (rw [nbP_t hno, hdv])), rfl⟩
              · have hno : (nbP k lo hi S).1 = true := by show (nb0 S && inB (digV S) lo hi) = true; rw [h0, hdv, c5]; rfl
                have hin := c5
                refine g_aload_n C dX5_number_100 (gr _) rfl ?_
                refine M_g_numbers C q1206 dX5_number_101 ?_
                refine g_iload_n C dX5_number_104 (gi _) rfl ?_
                refine g_iload C dX5_number_105 (gi _) rfl ?_
                refine M_st_numbers C (by omega) dX5_number_107 ?_
                refine g_aload_n C dX5_number_108 (gr _) rfl ?_
                refine g_callV0z C (mX5_nextToken hY (us7_X hX) (by rw [us_n _ _ _ (by omega)]; omega)) (lw_V q1267 q1269 qs29 q72 q1270) ⟨rfl, nd_X5_nextToken⟩ (ovM_0 _ _ _ _) rfl ⟨by decide, by decide⟩ ⟨Nat.le_of_ble_eq_true rfl, Nat.le_of_ble_eq_true rfl⟩ rfl (Nat.le_of_ble_eq_true rfl) dX5_number_109 ?_
                refine g_iload C dX5_number_112 (gi _) rfl ?_
                exact g_zret C hQ rfl dX5_number_114 ⟨gz (by rw [hno]; exact hin), gh (by first | (rw [nbP_f hno]; done) | (rw [nbP_t hno, hdv])), rfl⟩
            · have hti := hX.2.1 i (by omega) (by omega)
              refine g_bipush C dX5_number_59 (by decide +kernel) ?_
              refine g_iload C dX5_number_61 (gi _) rfl ?_
              refine g_imul C dX5_number_63 ?_
              refine g_aload_n C dX5_number_64 (gr _) rfl ?_
              refine M_g_text C q1197 dX5_number_65 ?_
              refine g_iload C dX5_number_68 (gi _) rfl ?_
              refine M_ld_text C (by omega) dX5_number_70 ?_
              refine g_iadd C dX5_number_71 ?_
              refine g_bipush C dX5_number_72 (by decide +kernel) ?_
              refine g_isub C dX5_number_74 ?_
              refine g_istore1004 C dX5_number_75 (gi _) rfl ?_
              refine g_iinc1005 C dX5_number_77 rfl ?_
              refine g_goto C (tgt := 50) dX5_number_80 (by decide) ?_
              exact ih1 _ _ (⟨by omega, by rw [show i + 1 - S 10 4 = (i - S 10 4) + 1 by omega, fo_s (by omega), ← hI2, digF, show S 10 4 + (i - S 10 4) = i by omega], by omega, by omega, by omega⟩) (by omega)
        exact lp50_1 _ 0 (S 10 4) (⟨by omega, by rw [show S 10 4 - S 10 4 = 0 by omega]; rfl, fun _ => rfl, by omega, by omega⟩) (Nat.lt_succ_self _)
      · refine g_iconst C dX5_number_39 ?_
        refine g_topv (v' := vI (bI false)) rfl ?_
        exact g_zret C hQ rfl dX5_number_40 ⟨gz (by show false = (nb0 S && _); rw [show nb0 S = false by simp [nb0]; first | omega | (intro _ z; first | omega | (rw [hdg] at z; cases z) )]; rfl), gh (by rw [nbP_f (by show (nb0 S && _) = false; rw [show nb0 S = false by simp [nb0]; first | omega | (intro _ z; first | omega | (rw [hdg] at z; cases z))]; rfl)]), rfl⟩

theorem nd_X5_crossesHere : yX5_crossesHere.cls ≠ "java/lang/invoke/MethodHandle" ∧ yX5_crossesHere.cls ≠ "java/lang/invoke/VarHandle" ∧ (parseMethodDescriptor yX5_crossesHere.desc).map (fun d => d.parameters.length) = some 0 := by decide +kernel
theorem mX5_crossesHere {l : Launch} {D : va_G} {dA : Nat → ClassId} {N0 : Nat} {Y : State → Prop} (hY : gYok N0 Y) {h : gH} {sz m : Nat} {S : MS} (hX : OkX S) (hP : OkP S) (hQ0 : OkQ S) : gM l D dA N0 Y yX5_crossesHere cX5_crossesHere 5 (some .boolean) 3 65 0 0 [.ref m] (ovM dA m S h) sz (gP (some (vI (bI ((crP S).1)))) (ovM dA m ((crP S).2) h) sz) := by
  refine gM.of hY (by decide +kernel) (Nat.le_of_ble_eq_true rfl) ?_
  intro X hX C hQ
  subst hX
  have C : gC X cX5_crossesHere RX5 "crossesHere" 5 (some .boolean) D dA N0 Y ({ frames := 3, cells := 0, slots := 0, locals := 65 }) := C
  show G X 0 0 _ _ 0 [some (.ref m), none, none, none, none] []
  have hX1 := hX.1
  have hP1 := hP
  unfold OkP at hP1
  have hQ1 := hQ0
  unfold OkQ at hQ1
  have jn51 : ∀ (b0 : Bool), (b0 = cr0 S) → G X 0 0 (ovM dA m S h) sz 51 [some (.ref m), some (vI (S 10 5 - S 10 4)), none, none, none] [vI (bI b0)] := by
    intro b0 hb0
    refine g_istore_n1002 C dX5_crossesHere_51 (gi _) rfl ?_
    refine g_iconst C dX5_crossesHere_52 ?_
    refine g_istore_n1003 C dX5_crossesHere_53 (gi _) rfl ?_
    refine g_iconst C dX5_crossesHere_54 ?_
    refine g_istore1004 C dX5_crossesHere_55 (gi _) rfl ?_
    have lp57_1 : ∀ (fuel : Nat) (x : Bool) (set i : Int), ((0 ≤ i ∧ i ≤ S 10 5 - S 10 4) ∧ (x, set) = fo (crF S) (cr0 S, 0) i.toNat ∧ (0 ≤ set ∧ set < 4096) ∧ (x = true → S 10 5 - S 10 4 ≤ 12)) → (S 10 5 - S 10 4 - i).toNat < fuel → G X 0 0 (ovM dA m S h) sz 57 [some (.ref m), some (vI (S 10 5 - S 10 4)), some (vI (bI x)), some (vI set), some (vI i)] [] := by
      intro fuel
      induction fuel with
      | zero => intro x set i hI hfu; exact absurd hfu (Nat.not_lt_zero _)
      | succ fuel ih =>
        intro x set i hI hfu
        have ih1 := ih
        obtain ⟨hI1, hI2, hI3, hI4⟩ := hI
        refine g_iload C dX5_crossesHere_57 (gi _) rfl ?_
        refine g_iload_n C dX5_crossesHere_59 (gi _) rfl ?_
        refine g_icmp_ge C (tgt := 141) dX5_crossesHere_60 (by decide) (by omega) (fun c1 => ?_) (fun c1 => ?_)
        · have hcv : crV S = (x, set) := by rw [crV, hI2, show i = S 10 5 - S 10 4 by omega]
          refine g_iload_n C dX5_crossesHere_141 (gi _) rfl ?_
          refine g_ifeq_b C (tgt := 163) dX5_crossesHere_142 (by decide) (fun c2 => ?_) (fun c2 => ?_)
          · have hno : (crP S).1 = false := by show (crV S).1 = false; rw [hcv]; exact c2
            have hin := c2
            refine g_iload_n C dX5_crossesHere_163 (gi _) rfl ?_
            exact g_zret C hQ rfl dX5_crossesHere_164 ⟨gz (by rw [hno]; exact hin), gh (by first | (rw [crP_f hno]; done) | (rw [crP_t hno, hcv])), rfl⟩
          · have hno : (crP S).1 = true := by show (crV S).1 = true; rw [hcv]; exact c2
            have hin := c2
            refine g_aload_n C dX5_crossesHere_145 (gr _) rfl ?_
            refine M_g_numbers C q1206 dX5_crossesHere_146 ?_
            refine g_iconst C dX5_crossesHere_149 ?_
            refine g_iload_n C dX5_crossesHere_150 (gi _) rfl ?_
            refine M_st_numbers C (by omega) dX5_crossesHere_151 ?_
            refine g_aload_n C dX5_crossesHere_152 (gr _) rfl ?_
            refine M_g_numbers C q1206 dX5_crossesHere_153 ?_
            refine g_iconst C dX5_crossesHere_156 ?_
            refine g_iload_n C dX5_crossesHere_157 (gi _) rfl ?_
            refine M_st_numbers C (by omega) dX5_crossesHere_158 ?_
            refine g_aload_n C dX5_crossesHere_159 (gr _) rfl ?_
            refine g_callV0z C (mX5_nextToken hY (us7_X (us7_X hX)) (by rw [us_n _ _ _ (by omega), us_n _ _ _ (by omega)]; omega)) (lw_V q1267 q1269 qs29 q72 q1270) ⟨rfl, nd_X5_nextToken⟩ (ovM_0 _ _ _ _) rfl ⟨by decide, by decide⟩ ⟨Nat.le_of_ble_eq_true rfl, Nat.le_of_ble_eq_true rfl⟩ rfl (Nat.le_of_ble_eq_true rfl) dX5_crossesHere_160 ?_
            refine g_iload_n C dX5_crossesHere_163 (gi _) rfl ?_
            exact g_zret C hQ rfl dX5_crossesHere_164 ⟨gz (by rw [hno]; exact hin), gh (by first | (rw [crP_f hno]; done) | (rw [crP_t hno, hcv])), rfl⟩
        · refine g_iload_n C dX5_crossesHere_63 (gi _) rfl ?_
          refine g_ifeq_b C (tgt := 141) dX5_crossesHere_64 (by decide) (fun c3 => ?_) (fun c3 => ?_)
          · have hcv : crV S = (x, set) := by rw [crV, crF_st (i := i.toNat) (by rw [← hI2]; exact c3) (by omega), hI2]
            refine g_iload_n C dX5_crossesHere_141 (gi _) rfl ?_
            refine g_ifeq_b C (tgt := 163) dX5_crossesHere_142 (by decide) (fun c4 => ?_) (fun c4 => ?_)
            · have hno : (crP S).1 = false := by show (crV S).1 = false; rw [hcv]; exact c4
              have hin := c4
              refine g_iload_n C dX5_crossesHere_163 (gi _) rfl ?_
              exact g_zret C hQ rfl dX5_crossesHere_164 ⟨gz (by rw [hno]; exact hin), gh (by first | (rw [crP_f hno]; done) | (rw [crP_t hno, hcv])), rfl⟩
            · have hno : (crP S).1 = true := by show (crV S).1 = true; rw [hcv]; exact c4
              have hin := c4
              refine g_aload_n C dX5_crossesHere_145 (gr _) rfl ?_
              refine M_g_numbers C q1206 dX5_crossesHere_146 ?_
              refine g_iconst C dX5_crossesHere_149 ?_
              refine g_iload_n C dX5_crossesHere_150 (gi _) rfl ?_
              refine M_st_numbers C (by omega) dX5_crossesHere_151 ?_
              refine g_aload_n C dX5_crossesHere_152 (gr _) rfl ?_
              refine M_g_numbers C q1206 dX5_crossesHere_153 ?_
              refine g_iconst C dX5_crossesHere_156 ?_
              refine g_iload_n C dX5_crossesHere_157 (gi _) rfl ?_
              refine M_st_numbers C (by omega) dX5_crossesHere_158 ?_
              refine g_aload_n C dX5_crossesHere_159 (gr _) rfl ?_
              refine g_callV0z C (mX5_nextToken hY (us7_X (us7_X hX)) (by rw [us_n _ _ _ (by omega), us_n _ _ _ (by omega)]; omega)) (lw_V q1267 q1269 qs29 q72 q1270) ⟨rfl, nd_X5_nextToken⟩ (ovM_0 _ _ _ _) rfl ⟨by decide, by decide⟩ ⟨Nat.le_of_ble_eq_true rfl, Nat.le_of_ble_eq_true rfl⟩ rfl (Nat.le_of_ble_eq_true rfl) dX5_crossesHere_160 ?_
              refine g_iload_n C dX5_crossesHere_163 (gi _) rfl ?_
              exact g_zret C hQ rfl dX5_crossesHere_164 ⟨gz (by rw [hno]; exact hin), gh (by first | (rw [crP_f hno]; done) | (rw [crP_t hno, hcv])), rfl⟩
          · have hxt : x = true := c3
            have h12 := hI4 hxt
            have hti := hX.2.1 (S 10 4 + i) (by omega) (by omega)
            have hsh := sh12 (i := i) (by omega)
            refine g_aload_n C dX5_crossesHere_67 (gr _) rfl ?_
            refine M_g_text C q1197 dX5_crossesHere_68 ?_
            refine g_aload_n C dX5_crossesHere_71 (gr _) rfl ?_
            refine M_g_first C q1201 dX5_crossesHere_72 ?_
            refine g_iload C dX5_crossesHere_75 (gi _) rfl ?_
            refine g_iadd C dX5_crossesHere_77 ?_
            refine M_ld_text C (by omega) dX5_crossesHere_78 ?_
            refine g_bipush C dX5_crossesHere_79 (by decide +kernel) ?_
            refine g_icmp_eq C (tgt := 101) dX5_crossesHere_81 (by decide) (by omega) (fun c5 => ?_) (fun c5 => ?_)
            · have h120 : S 3 (S 10 4 + i) = 120 := c5
              refine g_iconst C dX5_crossesHere_101 ?_
              refine g_goto C (tgt := 106) dX5_crossesHere_102 (by decide) ?_
              refine g_istore_n1002 C dX5_crossesHere_106 (gi _) rfl ?_
              refine g_iload_n C dX5_crossesHere_107 (gi _) rfl ?_
              refine g_aload_n C dX5_crossesHere_108 (gr _) rfl ?_
              refine M_g_text C q1197 dX5_crossesHere_109 ?_
              refine g_aload_n C dX5_crossesHere_112 (gr _) rfl ?_
              refine M_g_first C q1201 dX5_crossesHere_113 ?_
              refine g_iload C dX5_crossesHere_116 (gi _) rfl ?_
              refine g_iadd C dX5_crossesHere_118 ?_
              refine M_ld_text C (by omega) dX5_crossesHere_119 ?_
              refine g_bipush C dX5_crossesHere_120 (by decide +kernel) ?_
              refine g_icmp_ne C (tgt := 132) dX5_crossesHere_122 (by decide) (by omega) (fun c6 => ?_) (fun c6 => ?_)
              · omega
              · refine g_iconst C dX5_crossesHere_125 ?_
                refine g_iload C dX5_crossesHere_126 (gi _) rfl ?_
                refine g_ishl C dX5_crossesHere_128 (zI_shl (by omega)) ?_
                refine g_goto C (tgt := 133) dX5_crossesHere_129 (by decide) ?_
                refine g_ior C dX5_crossesHere_133 (zI_or (by omega)) ?_
                refine g_istore_n1003 C dX5_crossesHere_134 (gi _) rfl ?_
                refine g_iinc1004 C dX5_crossesHere_135 rfl ?_
                refine g_goto C (tgt := 57) dX5_crossesHere_138 (by decide) ?_
                exact ih1 true _ _ (⟨by omega, by rw [fo_s hI1.1, ← hI2]; simp [crF, hxt, h120], or12 (by omega), fun _ => h12⟩) (by omega)
            · have h120 : ¬ S 3 (S 10 4 + i) = 120 := c5
              refine g_aload_n C dX5_crossesHere_84 (gr _) rfl ?_
              refine M_g_text C q1197 dX5_crossesHere_85 ?_
              refine g_aload_n C dX5_crossesHere_88 (gr _) rfl ?_
              refine M_g_first C q1201 dX5_crossesHere_89 ?_
              refine g_iload C dX5_crossesHere_92 (gi _) rfl ?_
              refine g_iadd C dX5_crossesHere_94 ?_
              refine M_ld_text C (by omega) dX5_crossesHere_95 ?_
              refine g_bipush C dX5_crossesHere_96 (by decide +kernel) ?_
              refine g_icmp_ne C (tgt := 105) dX5_crossesHere_98 (by decide) (by omega) (fun c7 => ?_) (fun c7 => ?_)
              · have h111 : ¬ S 3 (S 10 4 + i) = 111 := c7
                refine g_iconst C dX5_crossesHere_105 ?_
                refine g_istore_n1002 C dX5_crossesHere_106 (gi _) rfl ?_
                refine g_iload_n C dX5_crossesHere_107 (gi _) rfl ?_
                refine g_aload_n C dX5_crossesHere_108 (gr _) rfl ?_
                refine M_g_text C q1197 dX5_crossesHere_109 ?_
                refine g_aload_n C dX5_crossesHere_112 (gr _) rfl ?_
                refine M_g_first C q1201 dX5_crossesHere_113 ?_
                refine g_iload C dX5_crossesHere_116 (gi _) rfl ?_
                refine g_iadd C dX5_crossesHere_118 ?_
                refine M_ld_text C (by omega) dX5_crossesHere_119 ?_
                refine g_bipush C dX5_crossesHere_120 (by decide +kernel) ?_
                refine g_icmp_ne C (tgt := 132) dX5_crossesHere_122 (by decide) (by omega) (fun c8 => ?_) (fun c8 => ?_)
                · refine g_iconst C dX5_crossesHere_132 ?_
                  refine g_ior C dX5_crossesHere_133 (zI_or (by omega)) ?_
                  refine g_istore_n1003 C dX5_crossesHere_134 (gi _) rfl ?_
                  refine g_iinc1004 C dX5_crossesHere_135 rfl ?_
                  refine g_goto C (tgt := 57) dX5_crossesHere_138 (by decide) ?_
                  exact ih1 false _ _ (⟨by omega, by rw [fo_s hI1.1, ← hI2]; simp [crF, hxt, h120, h111], or12 (by omega), fun _ => h12⟩) (by omega)
                · omega
              · have h111 : S 3 (S 10 4 + i) = 111 := c7
                refine g_iconst C dX5_crossesHere_101 ?_
                refine g_goto C (tgt := 106) dX5_crossesHere_102 (by decide) ?_
                refine g_istore_n1002 C dX5_crossesHere_106 (gi _) rfl ?_
                refine g_iload_n C dX5_crossesHere_107 (gi _) rfl ?_
                refine g_aload_n C dX5_crossesHere_108 (gr _) rfl ?_
                refine M_g_text C q1197 dX5_crossesHere_109 ?_
                refine g_aload_n C dX5_crossesHere_112 (gr _) rfl ?_
                refine M_g_first C q1201 dX5_crossesHere_113 ?_
                refine g_iload C dX5_crossesHere_116 (gi _) rfl ?_
                refine g_iadd C dX5_crossesHere_118 ?_
                refine M_ld_text C (by omega) dX5_crossesHere_119 ?_
                refine g_bipush C dX5_crossesHere_120 (by decide +kernel) ?_
                refine g_icmp_ne C (tgt := 132) dX5_crossesHere_122 (by decide) (by omega) (fun c9 => ?_) (fun c9 => ?_)
                · refine g_iconst C dX5_crossesHere_132 ?_
                  refine g_ior C dX5_crossesHere_133 (zI_or (by omega)) ?_
                  refine g_istore_n1003 C dX5_crossesHere_134 (gi _) rfl ?_
                  refine g_iinc1004 C dX5_crossesHere_135 rfl ?_
                  refine g_goto C (tgt := 57) dX5_crossesHere_138 (by decide) ?_
                  exact ih1 true _ _ (⟨by omega, by rw [fo_s hI1.1, ← hI2]; simp [crF, hxt, h120, h111], or12 (by omega), fun _ => h12⟩) (by omega)
                · omega
    exact lp57_1 _ _ 0 0 (⟨by omega, by rw [hb0]; rfl, by omega, fun z => by rw [hb0] at z; unfold cr0 at z; exact (of_decide_eq_true z).2.1⟩) (Nat.lt_succ_self _)
  refine g_aload_n C dX5_crossesHere_0 (gr _) rfl ?_
  refine M_g_behind C q1202 dX5_crossesHere_1 ?_
  refine g_aload_n C dX5_crossesHere_4 (gr _) rfl ?_
  refine M_g_first C q1201 dX5_crossesHere_5 ?_
  refine g_isub C dX5_crossesHere_8 ?_
  refine g_istore_n1001 C dX5_crossesHere_9 (gi _) rfl ?_
  refine g_aload_n C dX5_crossesHere_10 (gr _) rfl ?_
  refine M_g_first C q1201 dX5_crossesHere_11 ?_
  refine g_aload_n C dX5_crossesHere_14 (gr _) rfl ?_
  refine M_g_length C q1198 dX5_crossesHere_15 ?_
  refine g_icmp_ge C (tgt := 50) dX5_crossesHere_18 (by decide) (by omega) (fun c10 => ?_) (fun c10 => ?_)
  · refine g_iconst C dX5_crossesHere_50 ?_
    refine g_sub (L' := [some _, some _, none, none, none]) ⟨rfl, ⟨rfl, trivial⟩⟩ ?_
    exact jn51 false (by simp [cr0]; omega)
  · refine g_iload_n C dX5_crossesHere_21 (gi _) rfl ?_
    refine g_bipush C dX5_crossesHere_22 (by decide +kernel) ?_
    refine g_icmp_gt C (tgt := 50) dX5_crossesHere_24 (by decide) (by omega) (fun c11 => ?_) (fun c11 => ?_)
    · refine g_iconst C dX5_crossesHere_50 ?_
      refine g_sub (L' := [some _, some _, none, none, none]) ⟨rfl, ⟨rfl, trivial⟩⟩ ?_
      exact jn51 false (by simp [cr0]; omega)
    · refine g_aload_n C dX5_crossesHere_27 (gr _) rfl ?_
      refine M_g_read C q1203 dX5_crossesHere_28 ?_
      refine g_iconst C dX5_crossesHere_31 ?_
      refine M_ld_read C (by omega) dX5_crossesHere_32 ?_
      refine g_if_eq C (tgt := 46) dX5_crossesHere_33 (by decide) (by omega) (fun c12 => ?_) (fun c12 => ?_)
      · refine g_iconst C dX5_crossesHere_46 ?_
        refine g_goto C (tgt := 51) dX5_crossesHere_47 (by decide) ?_
        refine g_sub (L' := [some _, some _, none, none, none]) ⟨rfl, ⟨rfl, trivial⟩⟩ ?_
        exact jn51 true (by simp [cr0]; omega)
      · refine g_iload_n C dX5_crossesHere_36 (gi _) rfl ?_
        refine g_aload_n C dX5_crossesHere_37 (gr _) rfl ?_
        refine M_g_read C q1203 dX5_crossesHere_38 ?_
        refine g_iconst C dX5_crossesHere_41 ?_
        refine M_ld_read C (by omega) dX5_crossesHere_42 ?_
        refine g_icmp_ne C (tgt := 50) dX5_crossesHere_43 (by decide) (by omega) (fun c13 => ?_) (fun c13 => ?_)
        · refine g_iconst C dX5_crossesHere_50 ?_
          refine g_sub (L' := [some _, some _, none, none, none]) ⟨rfl, ⟨rfl, trivial⟩⟩ ?_
          exact jn51 false (by simp [cr0]; omega)
        · refine g_iconst C dX5_crossesHere_46 ?_
          refine g_goto C (tgt := 51) dX5_crossesHere_47 (by decide) ?_
          refine g_sub (L' := [some _, some _, none, none, none]) ⟨rfl, ⟨rfl, trivial⟩⟩ ?_
          exact jn51 true (by simp [cr0]; omega)

theorem nd_X5_readsRest : yX5_readsRest.cls ≠ "java/lang/invoke/MethodHandle" ∧ yX5_readsRest.cls ≠ "java/lang/invoke/VarHandle" ∧ (parseMethodDescriptor yX5_readsRest.desc).map (fun d => d.parameters.length) = some 1 := by decide +kernel
theorem mX5_readsRest {l : Launch} {D : va_G} {dA : Nat → ClassId} {N0 : Nat} {Y : State → Prop} (hY : gYok N0 Y) {h : gH} {sz m : Nat} {S : MS} {w : Int} (hX : OkX S) (hP : OkP S) (hQ0 : OkQ S) (hw : 0 ≤ w ∧ w ≤ 7) : gM l D dA N0 Y yX5_readsRest cX5_readsRest 2 (some .boolean) 4 90 0 0 [.ref m, vI w] (ovM dA m S h) sz (gP (some (vI (bI ((rrP S w).1)))) (ovM dA m ((rrP S w).2) h) sz) := by
  refine gM.of hY (by decide +kernel) (Nat.le_of_ble_eq_true rfl) ?_
  intro X hX C hQ
  subst hX
  have C : gC X cX5_readsRest RX5 "readsRest" 2 (some .boolean) D dA N0 Y ({ frames := 4, cells := 0, slots := 0, locals := 90 }) := C
  show G X 0 0 _ _ 0 [some (.ref m), some (vI w)] []
  have hQ1 := hQ0
  unfold OkQ at hQ1
  refine g_iload_n C dX5_readsRest_0 (gi _) rfl ?_
  rcases (show w = 0 ∨ w = 1 ∨ w = 2 ∨ w = 3 ∨ w = 4 ∨ w = 5 ∨ w = 6 ∨ (w < 0 ∨ 6 < w) by omega) with rfl | rfl | rfl | rfl | rfl | rfl | rfl | w1
  · refine g_tabIn C (off := 43) (tgt := 44) dX5_readsRest_1 (by omega) (by omega) rfl (by decide) ?_
    refine g_aload_n C dX5_readsRest_44 (gr _) rfl ?_
    refine g_iconst C dX5_readsRest_45 ?_
    refine g_iconst C dX5_readsRest_46 ?_
    refine g_bipush C dX5_readsRest_47 (by decide +kernel) ?_
    refine g_callV1z C (mX5_number hY (hX) (hP) (by omega) (by omega)) (lw_V q1293 q1295 qs33 q72 q1296) ⟨rfl, nd_X5_number⟩ (ovM_0 _ _ _ _) rfl ⟨by decide, by decide⟩ ⟨Nat.le_of_ble_eq_true rfl, Nat.le_of_ble_eq_true rfl⟩ rfl (Nat.le_of_ble_eq_true rfl) dX5_readsRest_49 ?_
    refine g_ifeq_b C (tgt := 92) dX5_readsRest_52 (by decide) (fun c2 => ?_) (fun c2 => ?_)
    · refine g_iconst C dX5_readsRest_92 ?_
      refine g_topv (v' := vI (bI false)) rfl ?_
      exact g_zret C hQ rfl dX5_readsRest_93 ⟨gz (by simp [rrP, andP, *]), gh (by simp [rrP, andP, *]), rfl⟩
    · refine g_aload_n C dX5_readsRest_55 (gr _) rfl ?_
      refine g_iconst C dX5_readsRest_56 ?_
      refine g_iconst C dX5_readsRest_57 ?_
      refine g_bipush C dX5_readsRest_58 (by decide +kernel) ?_
      refine g_callV1z C (mX5_number hY (nbP_X hX) (nbP_P hP) (by omega) (by first | omega | (rw [nbP_n (x := 6) (by omega) (by omega)]; omega))) (lw_V q1293 q1295 qs33 q72 q1296) ⟨rfl, nd_X5_number⟩ (ovM_0 _ _ _ _) rfl ⟨by decide, by decide⟩ ⟨Nat.le_of_ble_eq_true rfl, Nat.le_of_ble_eq_true rfl⟩ rfl (Nat.le_of_ble_eq_true rfl) dX5_readsRest_60 ?_
      refine g_ifeq_b C (tgt := 92) dX5_readsRest_63 (by decide) (fun c3 => ?_) (fun c3 => ?_)
      · refine g_iconst C dX5_readsRest_92 ?_
        refine g_topv (v' := vI (bI false)) rfl ?_
        exact g_zret C hQ rfl dX5_readsRest_93 ⟨gz (by simp [rrP, andP, *]), gh (by simp [rrP, andP, *]), rfl⟩
      · refine g_aload_n C dX5_readsRest_66 (gr _) rfl ?_
        refine g_iconst C dX5_readsRest_67 ?_
        refine g_iconst C dX5_readsRest_68 ?_
        refine g_bipush C dX5_readsRest_69 (by decide +kernel) ?_
        refine g_callV1z C (mX5_number hY (nbP_X (nbP_X hX)) (nbP_P (nbP_P hP)) (by omega) (by omega)) (lw_V q1293 q1295 qs33 q72 q1296) ⟨rfl, nd_X5_number⟩ (ovM_0 _ _ _ _) rfl ⟨by decide, by decide⟩ ⟨Nat.le_of_ble_eq_true rfl, Nat.le_of_ble_eq_true rfl⟩ rfl (Nat.le_of_ble_eq_true rfl) dX5_readsRest_71 ?_
        refine g_ifeq_b C (tgt := 92) dX5_readsRest_74 (by decide) (fun c4 => ?_) (fun c4 => ?_)
        · refine g_iconst C dX5_readsRest_92 ?_
          refine g_topv (v' := vI (bI false)) rfl ?_
          exact g_zret C hQ rfl dX5_readsRest_93 ⟨gz (by simp [rrP, andP, *]), gh (by simp [rrP, andP, *]), rfl⟩
        · refine g_aload_n C dX5_readsRest_77 (gr _) rfl ?_
          refine g_iconst C dX5_readsRest_78 ?_
          refine g_iconst C dX5_readsRest_79 ?_
          refine g_bipush C dX5_readsRest_80 (by decide +kernel) ?_
          refine g_callV1z C (mX5_number hY (nbP_X (nbP_X (nbP_X hX))) (nbP_P (nbP_P (nbP_P hP))) (by omega) (by omega)) (lw_V q1293 q1295 qs33 q72 q1296) ⟨rfl, nd_X5_number⟩ (ovM_0 _ _ _ _) rfl ⟨by decide, by decide⟩ ⟨Nat.le_of_ble_eq_true rfl, Nat.le_of_ble_eq_true rfl⟩ rfl (Nat.le_of_ble_eq_true rfl) dX5_readsRest_82 ?_
          refine g_ifeq_b C (tgt := 92) dX5_readsRest_85 (by decide) (fun c5 => ?_) (fun c5 => ?_)
          · refine g_iconst C dX5_readsRest_92 ?_
            refine g_topv (v' := vI (bI false)) rfl ?_
            exact g_zret C hQ rfl dX5_readsRest_93 ⟨gz (by simp [rrP, andP, *]), gh (by simp [rrP, andP, *]), rfl⟩
          · refine g_iconst C dX5_readsRest_88 ?_
            refine g_goto C (tgt := 93) dX5_readsRest_89 (by decide) ?_
            refine g_topv (v' := vI (bI true)) rfl ?_
            exact g_zret C hQ rfl dX5_readsRest_93 ⟨gz (by simp [rrP, andP, *]), gh (by simp [rrP, andP, *]), rfl⟩
  · refine g_tabIn C (off := 93) (tgt := 94) dX5_readsRest_1 (by omega) (by omega) rfl (by decide) ?_
    refine g_aload_n C dX5_readsRest_94 (gr _) rfl ?_
    refine g_iconst C dX5_readsRest_95 ?_
    refine g_iconst C dX5_readsRest_96 ?_
    refine g_aload_n C dX5_readsRest_97 (gr _) rfl ?_
    refine M_g_read C q1203 dX5_readsRest_98 ?_
    refine g_iconst C dX5_readsRest_101 ?_
    refine M_ld_read C (by omega) dX5_readsRest_102 ?_
    refine g_iconst C dX5_readsRest_103 ?_
    refine g_isub C dX5_readsRest_104 ?_
    refine g_callV1z C (mX5_number hY (hX) (hP) (by omega) (by omega)) (lw_V q1293 q1295 qs33 q72 q1296) ⟨rfl, nd_X5_number⟩ (ovM_0 _ _ _ _) rfl ⟨by decide, by decide⟩ ⟨Nat.le_of_ble_eq_true rfl, Nat.le_of_ble_eq_true rfl⟩ rfl (Nat.le_of_ble_eq_true rfl) dX5_readsRest_105 ?_
    refine g_ifeq_b C (tgt := 132) dX5_readsRest_108 (by decide) (fun c6 => ?_) (fun c6 => ?_)
    · refine g_iconst C dX5_readsRest_132 ?_
      refine g_topv (v' := vI (bI false)) rfl ?_
      exact g_zret C hQ rfl dX5_readsRest_133 ⟨gz (by simp [rrP, andP, *]), gh (by simp [rrP, andP, *]), rfl⟩
    · refine g_aload_n C dX5_readsRest_111 (gr _) rfl ?_
      refine g_iconst C dX5_readsRest_112 ?_
      refine g_iconst C dX5_readsRest_113 ?_
      refine g_aload_n C dX5_readsRest_114 (gr _) rfl ?_
      refine M_g_read C q1203 dX5_readsRest_115 ?_
      refine g_iconst C dX5_readsRest_118 ?_
      refine M_ld_read C (by omega) dX5_readsRest_119 ?_
      refine g_iconst C dX5_readsRest_120 ?_
      refine g_isub C dX5_readsRest_121 ?_
      refine g_callV1z C (mX5_number hY (nbP_X hX) (nbP_P hP) (by omega) (by first | omega | (rw [nbP_n (x := 6) (by omega) (by omega)]; omega))) (lw_V q1293 q1295 qs33 q72 q1296) ⟨rfl, nd_X5_number⟩ (ovM_0 _ _ _ _) rfl ⟨by decide, by decide⟩ ⟨Nat.le_of_ble_eq_true rfl, Nat.le_of_ble_eq_true rfl⟩ rfl (Nat.le_of_ble_eq_true rfl) dX5_readsRest_122 ?_
      refine g_ifeq_b C (tgt := 132) dX5_readsRest_125 (by decide) (fun c7 => ?_) (fun c7 => ?_)
      · refine g_iconst C dX5_readsRest_132 ?_
        refine g_topv (v' := vI (bI false)) rfl ?_
        exact g_zret C hQ rfl dX5_readsRest_133 ⟨gz (by simp [rrP, andP, *]), gh (by simp [rrP, andP, *]), rfl⟩
      · refine g_iconst C dX5_readsRest_128 ?_
        refine g_goto C (tgt := 133) dX5_readsRest_129 (by decide) ?_
        refine g_topv (v' := vI (bI true)) rfl ?_
        exact g_zret C hQ rfl dX5_readsRest_133 ⟨gz (by simp [rrP, andP, *]), gh (by simp [rrP, andP, *]), rfl⟩
  · refine g_tabIn C (off := 133) (tgt := 134) dX5_readsRest_1 (by omega) (by omega) rfl (by decide) ?_
    refine g_aload_n C dX5_readsRest_134 (gr _) rfl ?_
    refine g_iconst C dX5_readsRest_135 ?_
    refine g_iconst C dX5_readsRest_136 ?_
    refine g_aload_n C dX5_readsRest_137 (gr _) rfl ?_
    refine M_g_read C q1203 dX5_readsRest_138 ?_
    refine g_iconst C dX5_readsRest_141 ?_
    refine M_ld_read C (by omega) dX5_readsRest_142 ?_
    refine g_iconst C dX5_readsRest_143 ?_
    refine g_isub C dX5_readsRest_144 ?_
    refine g_callV1z C (mX5_number hY (hX) (hP) (by omega) (by omega)) (lw_V q1293 q1295 qs33 q72 q1296) ⟨rfl, nd_X5_number⟩ (ovM_0 _ _ _ _) rfl ⟨by decide, by decide⟩ ⟨Nat.le_of_ble_eq_true rfl, Nat.le_of_ble_eq_true rfl⟩ rfl (Nat.le_of_ble_eq_true rfl) dX5_readsRest_145 ?_
    refine g_ifeq_b C (tgt := 172) dX5_readsRest_148 (by decide) (fun c8 => ?_) (fun c8 => ?_)
    · refine g_iconst C dX5_readsRest_172 ?_
      refine g_topv (v' := vI (bI false)) rfl ?_
      exact g_zret C hQ rfl dX5_readsRest_173 ⟨gz (by simp [rrP, andP, *]), gh (by simp [rrP, andP, *]), rfl⟩
    · refine g_aload_n C dX5_readsRest_151 (gr _) rfl ?_
      refine g_iconst C dX5_readsRest_152 ?_
      refine g_iconst C dX5_readsRest_153 ?_
      refine g_aload_n C dX5_readsRest_154 (gr _) rfl ?_
      refine M_g_read C q1203 dX5_readsRest_155 ?_
      refine g_iconst C dX5_readsRest_158 ?_
      refine M_ld_read C (by omega) dX5_readsRest_159 ?_
      refine g_iconst C dX5_readsRest_160 ?_
      refine g_isub C dX5_readsRest_161 ?_
      refine g_callV1z C (mX5_number hY (nbP_X hX) (nbP_P hP) (by omega) (by first | omega | (rw [nbP_n (x := 6) (by omega) (by omega)]; omega))) (lw_V q1293 q1295 qs33 q72 q1296) ⟨rfl, nd_X5_number⟩ (ovM_0 _ _ _ _) rfl ⟨by decide, by decide⟩ ⟨Nat.le_of_ble_eq_true rfl, Nat.le_of_ble_eq_true rfl⟩ rfl (Nat.le_of_ble_eq_true rfl) dX5_readsRest_162 ?_
      refine g_ifeq_b C (tgt := 172) dX5_readsRest_165 (by decide) (fun c9 => ?_) (fun c9 => ?_)
      · refine g_iconst C dX5_readsRest_172 ?_
        refine g_topv (v' := vI (bI false)) rfl ?_
        exact g_zret C hQ rfl dX5_readsRest_173 ⟨gz (by simp [rrP, andP, *]), gh (by simp [rrP, andP, *]), rfl⟩
      · refine g_iconst C dX5_readsRest_168 ?_
        refine g_goto C (tgt := 173) dX5_readsRest_169 (by decide) ?_
        refine g_topv (v' := vI (bI true)) rfl ?_
        exact g_zret C hQ rfl dX5_readsRest_173 ⟨gz (by simp [rrP, andP, *]), gh (by simp [rrP, andP, *]), rfl⟩
  · refine g_tabIn C (off := 173) (tgt := 174) dX5_readsRest_1 (by omega) (by omega) rfl (by decide) ?_
    refine g_aload_n C dX5_readsRest_174 (gr _) rfl ?_
    refine g_iconst C dX5_readsRest_175 ?_
    refine g_iconst C dX5_readsRest_176 ?_
    refine g_aload_n C dX5_readsRest_177 (gr _) rfl ?_
    refine M_g_read C q1203 dX5_readsRest_178 ?_
    refine g_iconst C dX5_readsRest_181 ?_
    refine M_ld_read C (by omega) dX5_readsRest_182 ?_
    refine g_iconst C dX5_readsRest_183 ?_
    refine g_isub C dX5_readsRest_184 ?_
    refine g_callV1z C (mX5_number hY (hX) (hP) (by omega) (by omega)) (lw_V q1293 q1295 qs33 q72 q1296) ⟨rfl, nd_X5_number⟩ (ovM_0 _ _ _ _) rfl ⟨by decide, by decide⟩ ⟨Nat.le_of_ble_eq_true rfl, Nat.le_of_ble_eq_true rfl⟩ rfl (Nat.le_of_ble_eq_true rfl) dX5_readsRest_185 ?_
    refine g_ifeq_b C (tgt := 212) dX5_readsRest_188 (by decide) (fun c10 => ?_) (fun c10 => ?_)
    · refine g_iconst C dX5_readsRest_212 ?_
      refine g_topv (v' := vI (bI false)) rfl ?_
      exact g_zret C hQ rfl dX5_readsRest_213 ⟨gz (by simp [rrP, andP, *]), gh (by simp [rrP, andP, *]), rfl⟩
    · refine g_aload_n C dX5_readsRest_191 (gr _) rfl ?_
      refine g_iconst C dX5_readsRest_192 ?_
      refine g_iconst C dX5_readsRest_193 ?_
      refine g_aload_n C dX5_readsRest_194 (gr _) rfl ?_
      refine M_g_read C q1203 dX5_readsRest_195 ?_
      refine g_iconst C dX5_readsRest_198 ?_
      refine M_ld_read C (by omega) dX5_readsRest_199 ?_
      refine g_iconst C dX5_readsRest_200 ?_
      refine g_isub C dX5_readsRest_201 ?_
      refine g_callV1z C (mX5_number hY (nbP_X hX) (nbP_P hP) (by omega) (by first | omega | (rw [nbP_n (x := 6) (by omega) (by omega)]; omega))) (lw_V q1293 q1295 qs33 q72 q1296) ⟨rfl, nd_X5_number⟩ (ovM_0 _ _ _ _) rfl ⟨by decide, by decide⟩ ⟨Nat.le_of_ble_eq_true rfl, Nat.le_of_ble_eq_true rfl⟩ rfl (Nat.le_of_ble_eq_true rfl) dX5_readsRest_202 ?_
      refine g_ifeq_b C (tgt := 212) dX5_readsRest_205 (by decide) (fun c11 => ?_) (fun c11 => ?_)
      · refine g_iconst C dX5_readsRest_212 ?_
        refine g_topv (v' := vI (bI false)) rfl ?_
        exact g_zret C hQ rfl dX5_readsRest_213 ⟨gz (by simp [rrP, andP, *]), gh (by simp [rrP, andP, *]), rfl⟩
      · refine g_iconst C dX5_readsRest_208 ?_
        refine g_goto C (tgt := 213) dX5_readsRest_209 (by decide) ?_
        refine g_topv (v' := vI (bI true)) rfl ?_
        exact g_zret C hQ rfl dX5_readsRest_213 ⟨gz (by simp [rrP, andP, *]), gh (by simp [rrP, andP, *]), rfl⟩
  · refine g_tabIn C (off := 213) (tgt := 214) dX5_readsRest_1 (by omega) (by omega) rfl (by decide) ?_
    refine g_aload_n C dX5_readsRest_214 (gr _) rfl ?_
    refine g_iconst C dX5_readsRest_215 ?_
    refine g_iconst C dX5_readsRest_216 ?_
    refine g_aload_n C dX5_readsRest_217 (gr _) rfl ?_
    refine M_g_read C q1203 dX5_readsRest_218 ?_
    refine g_iconst C dX5_readsRest_221 ?_
    refine M_ld_read C (by omega) dX5_readsRest_222 ?_
    refine g_iconst C dX5_readsRest_223 ?_
    refine g_isub C dX5_readsRest_224 ?_
    refine g_callV1z C (mX5_number hY (hX) (hP) (by omega) (by omega)) (lw_V q1293 q1295 qs33 q72 q1296) ⟨rfl, nd_X5_number⟩ (ovM_0 _ _ _ _) rfl ⟨by decide, by decide⟩ ⟨Nat.le_of_ble_eq_true rfl, Nat.le_of_ble_eq_true rfl⟩ rfl (Nat.le_of_ble_eq_true rfl) dX5_readsRest_225 ?_
    refine g_ifeq_b C (tgt := 246) dX5_readsRest_228 (by decide) (fun c12 => ?_) (fun c12 => ?_)
    · refine g_iconst C dX5_readsRest_246 ?_
      refine g_topv (v' := vI (bI false)) rfl ?_
      exact g_zret C hQ rfl dX5_readsRest_247 ⟨gz (by simp [rrP, andP, *]), gh (by simp [rrP, andP, *]), rfl⟩
    · refine g_aload_n C dX5_readsRest_231 (gr _) rfl ?_
      refine g_iconst C dX5_readsRest_232 ?_
      refine g_iconst C dX5_readsRest_233 ?_
      refine g_bipush C dX5_readsRest_234 (by decide +kernel) ?_
      refine g_callV1z C (mX5_number hY (nbP_X hX) (nbP_P hP) (by omega) (by first | omega | (rw [nbP_n (x := 6) (by omega) (by omega)]; omega))) (lw_V q1293 q1295 qs33 q72 q1296) ⟨rfl, nd_X5_number⟩ (ovM_0 _ _ _ _) rfl ⟨by decide, by decide⟩ ⟨Nat.le_of_ble_eq_true rfl, Nat.le_of_ble_eq_true rfl⟩ rfl (Nat.le_of_ble_eq_true rfl) dX5_readsRest_236 ?_
      refine g_ifeq_b C (tgt := 246) dX5_readsRest_239 (by decide) (fun c13 => ?_) (fun c13 => ?_)
      · refine g_iconst C dX5_readsRest_246 ?_
        refine g_topv (v' := vI (bI false)) rfl ?_
        exact g_zret C hQ rfl dX5_readsRest_247 ⟨gz (by simp [rrP, andP, *]), gh (by simp [rrP, andP, *]), rfl⟩
      · refine g_iconst C dX5_readsRest_242 ?_
        refine g_goto C (tgt := 247) dX5_readsRest_243 (by decide) ?_
        refine g_topv (v' := vI (bI true)) rfl ?_
        exact g_zret C hQ rfl dX5_readsRest_247 ⟨gz (by simp [rrP, andP, *]), gh (by simp [rrP, andP, *]), rfl⟩
  · refine g_tabIn C (off := 247) (tgt := 248) dX5_readsRest_1 (by omega) (by omega) rfl (by decide) ?_
    refine g_aload_n C dX5_readsRest_248 (gr _) rfl ?_
    refine g_iconst C dX5_readsRest_249 ?_
    refine g_iconst C dX5_readsRest_250 ?_
    refine g_aload_n C dX5_readsRest_251 (gr _) rfl ?_
    refine M_g_read C q1203 dX5_readsRest_252 ?_
    refine g_iconst C dX5_readsRest_255 ?_
    refine M_ld_read C (by omega) dX5_readsRest_256 ?_
    refine g_iconst C dX5_readsRest_257 ?_
    refine g_isub C dX5_readsRest_258 ?_
    refine g_callV1z C (mX5_number hY (hX) (hP) (by omega) (by omega)) (lw_V q1293 q1295 qs33 q72 q1296) ⟨rfl, nd_X5_number⟩ (ovM_0 _ _ _ _) rfl ⟨by decide, by decide⟩ ⟨Nat.le_of_ble_eq_true rfl, Nat.le_of_ble_eq_true rfl⟩ rfl (Nat.le_of_ble_eq_true rfl) dX5_readsRest_259 ?_
    refine g_ifeq_b C (tgt := 280) dX5_readsRest_262 (by decide) (fun c14 => ?_) (fun c14 => ?_)
    · refine g_iconst C dX5_readsRest_280 ?_
      refine g_topv (v' := vI (bI false)) rfl ?_
      exact g_zret C hQ rfl dX5_readsRest_281 ⟨gz (by simp [rrP, andP, *]), gh (by simp [rrP, andP, *]), rfl⟩
    · refine g_aload_n C dX5_readsRest_265 (gr _) rfl ?_
      refine g_iconst C dX5_readsRest_266 ?_
      refine g_iconst C dX5_readsRest_267 ?_
      refine g_bipush C dX5_readsRest_268 (by decide +kernel) ?_
      refine g_callV1z C (mX5_number hY (nbP_X hX) (nbP_P hP) (by omega) (by first | omega | (rw [nbP_n (x := 6) (by omega) (by omega)]; omega))) (lw_V q1293 q1295 qs33 q72 q1296) ⟨rfl, nd_X5_number⟩ (ovM_0 _ _ _ _) rfl ⟨by decide, by decide⟩ ⟨Nat.le_of_ble_eq_true rfl, Nat.le_of_ble_eq_true rfl⟩ rfl (Nat.le_of_ble_eq_true rfl) dX5_readsRest_270 ?_
      refine g_ifeq_b C (tgt := 280) dX5_readsRest_273 (by decide) (fun c15 => ?_) (fun c15 => ?_)
      · refine g_iconst C dX5_readsRest_280 ?_
        refine g_topv (v' := vI (bI false)) rfl ?_
        exact g_zret C hQ rfl dX5_readsRest_281 ⟨gz (by simp [rrP, andP, *]), gh (by simp [rrP, andP, *]), rfl⟩
      · refine g_iconst C dX5_readsRest_276 ?_
        refine g_goto C (tgt := 281) dX5_readsRest_277 (by decide) ?_
        refine g_topv (v' := vI (bI true)) rfl ?_
        exact g_zret C hQ rfl dX5_readsRest_281 ⟨gz (by simp [rrP, andP, *]), gh (by simp [rrP, andP, *]), rfl⟩
  · refine g_tabIn C (off := 281) (tgt := 282) dX5_readsRest_1 (by omega) (by omega) rfl (by decide) ?_
    refine g_iconst C dX5_readsRest_282 ?_
    refine g_topv (v' := vI (bI true)) rfl ?_
    exact g_zret C hQ rfl dX5_readsRest_283 ⟨gz (by simp [rrP, andP, *]), gh (by simp [rrP, andP, *]), rfl⟩
  · refine g_tabOut C (tgt := 284) dX5_readsRest_1 (by omega) (by omega) (by decide) ?_
    have w7 : w = 7 := by omega
    subst w7
    refine g_aload_n C dX5_readsRest_284 (gr _) rfl ?_
    refine g_callV1z C (mX5_crossesHere hY (hX) (hP) (hQ0)) (lw_V q1297 q1299 qs34 q72 q1300) ⟨rfl, nd_X5_crossesHere⟩ (ovM_0 _ _ _ _) rfl ⟨by decide, by decide⟩ ⟨Nat.le_of_ble_eq_true rfl, Nat.le_of_ble_eq_true rfl⟩ rfl (Nat.le_of_ble_eq_true rfl) dX5_readsRest_285 ?_
    exact g_zret C hQ rfl dX5_readsRest_288 ⟨gz (by simp [rrP, andP, *]), gh (by simp [rrP, andP, *]), rfl⟩

theorem nd_X5_does : yX5_does.cls ≠ "java/lang/invoke/MethodHandle" ∧ yX5_does.cls ≠ "java/lang/invoke/VarHandle" ∧ (parseMethodDescriptor yX5_does.desc).map (fun d => d.parameters.length) = some 1 := by decide +kernel
theorem mX5_does {l : Launch} {D : va_G} {dA : Nat → ClassId} {N0 : Nat} {Y : State → Prop} (hY : gYok N0 Y) {h : gH} {sz m : Nat} {S : MS} {w : Int} (hw : 0 ≤ w ∧ w ≤ 7) (hd : (w = 0 → (1 ≤ S 7 2 ∧ S 7 2 ≤ 6) ∧ 1 ≤ S 7 3 ∧ S 7 3 ≤ 6) ∧ (w = 1 ∨ w = 3 ∨ w = 4 ∨ w = 5 → 0 ≤ S 7 0 ∧ S 7 0 < 12) ∧ (w = 2 → (0 ≤ S 7 0 ∧ S 7 0 < 6) ∧ (0 ≤ S 7 1 ∧ S 7 1 < 6) ∧ 0 ≤ S 0 (16 + S 7 0) ∧ S 0 (16 + S 7 0) < 4096) ∧ (w = 7 → 0 ≤ S 10 0 ∧ S 10 0 < 12)) : gM l D dA N0 Y yX5_does cX5_does 2 none 1 25 0 0 [.ref m, vI w] (ovM dA m S h) sz (gP none (ovM dA m (dsS S w) h) sz) := by
  refine gM.of hY (by decide +kernel) (Nat.le_of_ble_eq_true rfl) ?_
  intro X hX C hQ
  subst hX
  have C : gC X cX5_does RX5 "does" 2 none D dA N0 Y ({ frames := 1, cells := 0, slots := 0, locals := 25 }) := C
  show G X 0 0 _ _ 0 [some (.ref m), some (vI w)] []
  obtain ⟨hd0, hd1, hd2, hd7⟩ := hd
  refine g_iload_n C dX5_does_0 (gi _) rfl ?_
  rcases (show w = 0 ∨ w = 1 ∨ w = 2 ∨ w = 3 ∨ w = 4 ∨ w = 5 ∨ w = 6 ∨ (w < 0 ∨ 6 < w) by omega) with rfl | rfl | rfl | rfl | rfl | rfl | rfl | w1
  · refine g_tabIn C (off := 43) (tgt := 44) dX5_does_1 (by omega) (by omega) rfl (by decide) ?_
    have hd0 := hd0 rfl
    refine g_aload_n C dX5_does_44 (gr _) rfl ?_
    refine g_aload_n C dX5_does_45 (gr _) rfl ?_
    refine M_g_numbers C q1206 dX5_does_46 ?_
    refine g_iconst C dX5_does_49 ?_
    refine M_ld_numbers C (by omega) dX5_does_50 ?_
    refine g_aload_n C dX5_does_51 (gr _) rfl ?_
    refine M_g_numbers C q1206 dX5_does_52 ?_
    refine g_iconst C dX5_does_55 ?_
    refine M_ld_numbers C (by omega) dX5_does_56 ?_
    refine g_aload_n C dX5_does_57 (gr _) rfl ?_
    refine M_g_numbers C q1206 dX5_does_58 ?_
    refine g_iconst C dX5_does_61 ?_
    refine M_ld_numbers C (by omega) dX5_does_62 ?_
    refine g_aload_n C dX5_does_63 (gr _) rfl ?_
    refine M_g_numbers C q1206 dX5_does_64 ?_
    refine g_iconst C dX5_does_67 ?_
    refine M_ld_numbers C (by omega) dX5_does_68 ?_
    refine g_callV0z C (mX5_anew hY (by omega)) (lw_V q1187 q1189 qs27 q72 q1190) ⟨rfl, nd_X5_anew⟩ (ovM_0 _ _ _ _) rfl ⟨by decide, by decide⟩ ⟨Nat.le_of_ble_eq_true rfl, Nat.le_of_ble_eq_true rfl⟩ rfl (Nat.le_of_ble_eq_true rfl) dX5_does_69 ?_
    refine g_goto C (tgt := 242) dX5_does_72 (by decide) ?_
    exact g_vret C hQ rfl dX5_does_242 ⟨rfl, rfl, rfl⟩
  · refine g_tabIn C (off := 74) (tgt := 75) dX5_does_1 (by omega) (by omega) rfl (by decide) ?_
    have hd1 := hd1 (by omega)
    refine g_aload_n C dX5_does_75 (gr _) rfl ?_
    refine M_g_row C q1191 dX5_does_76 ?_
    refine g_iconst C dX5_does_79 ?_
    refine g_aload_n C dX5_does_80 (gr _) rfl ?_
    refine M_g_numbers C q1206 dX5_does_81 ?_
    refine g_iconst C dX5_does_84 ?_
    refine M_ld_numbers C (by omega) dX5_does_85 ?_
    refine g_iadd C dX5_does_86 ?_
    refine g_aload_n C dX5_does_87 (gr _) rfl ?_
    refine M_g_numbers C q1206 dX5_does_88 ?_
    refine g_iconst C dX5_does_91 ?_
    refine M_ld_numbers C (by omega) dX5_does_92 ?_
    refine M_st_row C (by omega) dX5_does_93 ?_
    refine g_goto C (tgt := 242) dX5_does_94 (by decide) ?_
    exact g_vret C hQ rfl dX5_does_242 ⟨rfl, rfl, rfl⟩
  · refine g_tabIn C (off := 96) (tgt := 97) dX5_does_1 (by omega) (by omega) rfl (by decide) ?_
    have hd2 := hd2 rfl
    have hsh := sh6 (i := S 7 1) (by omega)
    refine g_aload_n C dX5_does_97 (gr _) rfl ?_
    refine M_g_row C q1191 dX5_does_98 ?_
    refine g_bipush C dX5_does_101 (by decide +kernel) ?_
    refine g_aload_n C dX5_does_103 (gr _) rfl ?_
    refine M_g_numbers C q1206 dX5_does_104 ?_
    refine g_iconst C dX5_does_107 ?_
    refine M_ld_numbers C (by omega) dX5_does_108 ?_
    refine g_iadd C dX5_does_109 ?_
    refine g_dup2 C dX5_does_110 rfl rfl ?_
    refine M_ld_row C (by omega) dX5_does_111 ?_
    refine g_iconst C dX5_does_112 ?_
    refine g_aload_n C dX5_does_113 (gr _) rfl ?_
    refine M_g_numbers C q1206 dX5_does_114 ?_
    refine g_iconst C dX5_does_117 ?_
    refine M_ld_numbers C (by omega) dX5_does_118 ?_
    refine g_ishl C dX5_does_119 (zI_shl (by omega)) ?_
    refine g_ixor C dX5_does_120 (zI_xor (by omega)) ?_
    refine M_st_row C (by omega) dX5_does_121 ?_
    refine g_goto C (tgt := 242) dX5_does_122 (by decide) ?_
    exact g_vret C hQ rfl dX5_does_242 ⟨rfl, rfl, rfl⟩
  · refine g_tabIn C (off := 124) (tgt := 125) dX5_does_1 (by omega) (by omega) rfl (by decide) ?_
    have hd1 := hd1 (by omega)
    refine g_aload_n C dX5_does_125 (gr _) rfl ?_
    refine M_g_row C q1191 dX5_does_126 ?_
    refine g_bipush C dX5_does_129 (by decide +kernel) ?_
    refine g_aload_n C dX5_does_131 (gr _) rfl ?_
    refine M_g_numbers C q1206 dX5_does_132 ?_
    refine g_iconst C dX5_does_135 ?_
    refine M_ld_numbers C (by omega) dX5_does_136 ?_
    refine g_iadd C dX5_does_137 ?_
    refine g_aload_n C dX5_does_138 (gr _) rfl ?_
    refine M_g_numbers C q1206 dX5_does_139 ?_
    refine g_iconst C dX5_does_142 ?_
    refine M_ld_numbers C (by omega) dX5_does_143 ?_
    refine M_st_row C (by omega) dX5_does_144 ?_
    refine g_goto C (tgt := 242) dX5_does_145 (by decide) ?_
    exact g_vret C hQ rfl dX5_does_242 ⟨rfl, rfl, rfl⟩
  · refine g_tabIn C (off := 147) (tgt := 148) dX5_does_1 (by omega) (by omega) rfl (by decide) ?_
    have hd1 := hd1 (by omega)
    refine g_aload_n C dX5_does_148 (gr _) rfl ?_
    refine M_g_row C q1191 dX5_does_149 ?_
    refine g_bipush C dX5_does_152 (by decide +kernel) ?_
    refine g_aload_n C dX5_does_154 (gr _) rfl ?_
    refine M_g_numbers C q1206 dX5_does_155 ?_
    refine g_iconst C dX5_does_158 ?_
    refine M_ld_numbers C (by omega) dX5_does_159 ?_
    refine g_iadd C dX5_does_160 ?_
    refine g_aload_n C dX5_does_161 (gr _) rfl ?_
    refine M_g_numbers C q1206 dX5_does_162 ?_
    refine g_iconst C dX5_does_165 ?_
    refine M_ld_numbers C (by omega) dX5_does_166 ?_
    refine M_st_row C (by omega) dX5_does_167 ?_
    refine g_goto C (tgt := 242) dX5_does_168 (by decide) ?_
    exact g_vret C hQ rfl dX5_does_242 ⟨rfl, rfl, rfl⟩
  · refine g_tabIn C (off := 170) (tgt := 171) dX5_does_1 (by omega) (by omega) rfl (by decide) ?_
    have hd1 := hd1 (by omega)
    refine g_aload_n C dX5_does_171 (gr _) rfl ?_
    refine M_g_row C q1191 dX5_does_172 ?_
    refine g_bipush C dX5_does_175 (by decide +kernel) ?_
    refine g_aload_n C dX5_does_177 (gr _) rfl ?_
    refine M_g_numbers C q1206 dX5_does_178 ?_
    refine g_iconst C dX5_does_181 ?_
    refine M_ld_numbers C (by omega) dX5_does_182 ?_
    refine g_iadd C dX5_does_183 ?_
    refine g_aload_n C dX5_does_184 (gr _) rfl ?_
    refine M_g_numbers C q1206 dX5_does_185 ?_
    refine g_iconst C dX5_does_188 ?_
    refine M_ld_numbers C (by omega) dX5_does_189 ?_
    refine M_st_row C (by omega) dX5_does_190 ?_
    refine g_goto C (tgt := 242) dX5_does_191 (by decide) ?_
    exact g_vret C hQ rfl dX5_does_242 ⟨rfl, rfl, rfl⟩
  · refine g_tabIn C (off := 193) (tgt := 194) dX5_does_1 (by omega) (by omega) rfl (by decide) ?_
    refine g_aload_n C dX5_does_194 (gr _) rfl ?_
    refine g_iconst C dX5_does_195 ?_
    refine M_p_rows C q1193 dX5_does_196 ?_
    refine g_aload_n C dX5_does_199 (gr _) rfl ?_
    refine g_iconst C dX5_does_200 ?_
    refine M_p_columns C q1194 dX5_does_201 ?_
    refine g_goto C (tgt := 242) dX5_does_204 (by decide) ?_
    exact g_vret C hQ rfl dX5_does_242 ⟨rfl, rfl, rfl⟩
  · refine g_tabOut C (tgt := 207) dX5_does_1 (by omega) (by omega) (by decide) ?_
    have w7 : w = 7 := by omega
    subst w7
    have hd7 := hd7 rfl
    refine g_aload_n C dX5_does_207 (gr _) rfl ?_
    refine M_g_crosses C q1192 dX5_does_208 ?_
    refine g_aload_n C dX5_does_211 (gr _) rfl ?_
    refine M_g_rows C q1193 dX5_does_212 ?_
    refine g_aload_n C dX5_does_215 (gr _) rfl ?_
    refine M_g_numbers C q1206 dX5_does_216 ?_
    refine g_iconst C dX5_does_219 ?_
    refine M_ld_numbers C (by omega) dX5_does_220 ?_
    refine g_top (b := S 7 0) (by simp [us_eq]) ?_
    refine M_st_crosses C (by omega) dX5_does_221 ?_
    refine g_aload_n C dX5_does_222 (gr _) rfl ?_
    refine g_aload_n C dX5_does_223 (gr _) rfl ?_
    refine M_g_numbers C q1206 dX5_does_224 ?_
    refine g_iconst C dX5_does_227 ?_
    refine M_ld_numbers C (by omega) dX5_does_228 ?_
    refine g_top (b := S 7 1) (by simp [us_eq]) ?_
    refine M_p_columns C q1194 dX5_does_229 ?_
    refine g_aload_n C dX5_does_232 (gr _) rfl ?_
    refine g_dup C dX5_does_233 rfl ?_
    refine M_g_rows C q1193 dX5_does_234 ?_
    refine g_top (b := S 10 0) (by simp [us_eq]) ?_
    refine g_iconst C dX5_does_237 ?_
    refine g_iadd C dX5_does_238 ?_
    refine M_p_rows C q1193 dX5_does_239 ?_
    exact g_vret C hQ rfl dX5_does_242 ⟨rfl, rfl, rfl⟩

theorem nd_X5_notes : yX5_notes.cls ≠ "java/lang/invoke/MethodHandle" ∧ yX5_notes.cls ≠ "java/lang/invoke/VarHandle" ∧ (parseMethodDescriptor yX5_notes.desc).map (fun d => d.parameters.length) = some 1 := by decide +kernel
theorem mX5_notes {l : Launch} {D : va_G} {dA : Nat → ClassId} {N0 : Nat} {Y : State → Prop} (hY : gYok N0 Y) {h : gH} {sz m : Nat} {S : MS} {w : Int} (hw : 0 ≤ w ∧ w ≤ 7) : gM l D dA N0 Y yX5_notes cX5_notes 3 none 0 0 0 0 [.ref m, vI w] (ovM dA m S h) sz (gP none (ovM dA m (noS S w) h) sz) := by
  refine gM.of hY (by decide +kernel) (Nat.le_of_ble_eq_true rfl) ?_
  intro X hX C hQ
  subst hX
  have C : gC X cX5_notes RX5 "notes" 3 none D dA N0 Y ({ frames := 0, cells := 0, slots := 0, locals := 0 }) := C
  show G X 0 0 _ _ 0 [some (.ref m), some (vI w), none] []
  refine g_iload_n C dX5_notes_0 (gi _) rfl ?_
  refine g_if_ne C (tgt := 32) dX5_notes_1 (by decide) (by omega) (fun c1 => ?_) (fun c1 => ?_)
  · refine g_iload_n C dX5_notes_32 (gi _) rfl ?_
    refine g_bipush C dX5_notes_33 (by decide +kernel) ?_
    refine g_icmp_ne C (tgt := 55) dX5_notes_35 (by decide) (by omega) (fun c2 => ?_) (fun c2 => ?_)
    · refine g_iload_n C dX5_notes_55 (gi _) rfl ?_
      refine g_bipush C dX5_notes_56 (by decide +kernel) ?_
      refine g_icmp_ne C (tgt := 83) dX5_notes_58 (by decide) (by omega) (fun c3 => ?_) (fun c3 => ?_)
      · exact g_vret C hQ rfl dX5_notes_83 ⟨rfl, gh (by simp [noS, *]), rfl⟩
      · refine g_aload_n C dX5_notes_61 (gr _) rfl ?_
        refine M_g_read C q1203 dX5_notes_62 ?_
        refine g_iconst C dX5_notes_65 ?_
        refine g_dup2 C dX5_notes_66 rfl rfl ?_
        refine M_ld_read C (by omega) dX5_notes_67 ?_
        refine g_top (b := S 6 4) (by rfl) ?_
        refine g_iconst C dX5_notes_68 ?_
        refine g_iadd C dX5_notes_69 ?_
        refine M_st_read C (by omega) dX5_notes_70 ?_
        refine g_aload_n C dX5_notes_71 (gr _) rfl ?_
        refine M_g_read C q1203 dX5_notes_72 ?_
        refine g_iconst C dX5_notes_75 ?_
        refine g_aload_n C dX5_notes_76 (gr _) rfl ?_
        refine M_g_numbers C q1206 dX5_notes_77 ?_
        refine g_iconst C dX5_notes_80 ?_
        refine M_ld_numbers C (by omega) dX5_notes_81 ?_
        refine g_top (b := S 7 1) (by simp [us_eq]) ?_
        refine M_st_read C (by omega) dX5_notes_82 ?_
        exact g_vret C hQ rfl dX5_notes_83 ⟨rfl, gh (by simp [noS, *]), rfl⟩
    · refine g_aload_n C dX5_notes_38 (gr _) rfl ?_
      refine M_g_read C q1203 dX5_notes_39 ?_
      refine g_iconst C dX5_notes_42 ?_
      refine g_iconst C dX5_notes_43 ?_
      refine M_st_read C (by omega) dX5_notes_44 ?_
      refine g_aload_n C dX5_notes_45 (gr _) rfl ?_
      refine M_g_read C q1203 dX5_notes_46 ?_
      refine g_iconst C dX5_notes_49 ?_
      refine g_iconst C dX5_notes_50 ?_
      refine M_st_read C (by omega) dX5_notes_51 ?_
      refine g_goto C (tgt := 83) dX5_notes_52 (by decide) ?_
      exact g_vret C hQ rfl dX5_notes_83 ⟨rfl, gh (by simp [noS, *]), rfl⟩
  · refine g_iconst C dX5_notes_4 ?_
    refine g_istore_n1002 C dX5_notes_5 (gi _) rfl ?_
    have lp6_1 : ∀ (fuel : Nat) (k : Int), (0 ≤ k ∧ k ≤ 4) → (4 - k).toNat < fuel → G X 0 0 (ovM dA m (noK S k) h) sz 6 [some (.ref m), some (vI w), some (vI k)] [] := by
      intro fuel
      induction fuel with
      | zero => intro k hI hfu; exact absurd hfu (Nat.not_lt_zero _)
      | succ fuel ih =>
        intro k hI hfu
        have ih1 := ih
        refine g_iload_n C dX5_notes_6 (gi _) rfl ?_
        refine g_iconst C dX5_notes_7 ?_
        refine g_icmp_ge C (tgt := 29) dX5_notes_8 (by decide) (by omega) (fun c4 => ?_) (fun c4 => ?_)
        · refine g_goto C (tgt := 83) dX5_notes_29 (by decide) ?_
          exact g_vret C hQ rfl dX5_notes_83 ⟨rfl, gh (by rw [noS, if_pos (by omega), show k = 4 by omega]), rfl⟩
        · refine g_aload_n C dX5_notes_11 (gr _) rfl ?_
          refine M_g_read C q1203 dX5_notes_12 ?_
          refine g_iload_n C dX5_notes_15 (gi _) rfl ?_
          refine g_aload_n C dX5_notes_16 (gr _) rfl ?_
          refine M_g_numbers C q1206 dX5_notes_17 ?_
          refine g_iload_n C dX5_notes_20 (gi _) rfl ?_
          refine M_ld_numbers C (by omega) dX5_notes_21 ?_
          refine g_top (b := S 7 k) (by simp [noK]) ?_
          refine M_st_read C (by omega) dX5_notes_22 ?_
          refine g_iinc1002 C dX5_notes_23 rfl ?_
          refine g_goto C (tgt := 6) dX5_notes_26 (by decide) ?_
          refine g_hE (gh (noK_s S k (by omega))) ?_
          exact ih1 _ (by omega) (by omega)
    refine g_hE (gh ((noK_0 S).symm)) ?_
    exact lp6_1 _ _ (by omega) (Nat.lt_succ_self _)

theorem nd_X5_readsClause : yX5_readsClause.cls ≠ "java/lang/invoke/MethodHandle" ∧ yX5_readsClause.cls ≠ "java/lang/invoke/VarHandle" ∧ (parseMethodDescriptor yX5_readsClause.desc).map (fun d => d.parameters.length) = some 0 := by decide +kernel
theorem mX5_readsClause {l : Launch} {D : va_G} {dA : Nat → ClassId} {N0 : Nat} {Y : State → Prop} (hY : gYok N0 Y) {h : gH} {sz m : Nat} {S : MS} (hX : OkX S) (hP : OkP S) (hQ0 : OkQ S) (hE : OkE S) (hdo : 0 ≤ S 10 7 ∧ S 10 7 ≤ 1) : gM l D dA N0 Y yX5_readsClause cX5_readsClause 2 (some .boolean) 5 111 0 0 [.ref m] (ovM dA m S h) sz (gP (some (vI (bI ((rcP S).1)))) (ovM dA m ((rcP S).2) h) sz) := by
  refine gM.of hY (by decide +kernel) (Nat.le_of_ble_eq_true rfl) ?_
  intro X hX C hQ
  subst hX
  have C : gC X cX5_readsClause RX5 "readsClause" 2 (some .boolean) D dA N0 Y ({ frames := 5, cells := 0, slots := 0, locals := 111 }) := C
  show G X 0 0 _ _ 0 [some (.ref m), none] []
  have hQ1 := hQ0
  unfold OkQ at hQ1
  have hwr := whV_rg S
  refine g_aload_n C dX5_readsClause_0 (gr _) rfl ?_
  refine g_callV1z C (mX5_wordHere hY (hX) (hP)) (lw_V q1285 q1287 qs31 q72 q1288) ⟨rfl, nd_X5_wordHere⟩ (ovM_0 _ _ _ _) rfl ⟨by decide, by decide⟩ ⟨Nat.le_of_ble_eq_true rfl, Nat.le_of_ble_eq_true rfl⟩ rfl (Nat.le_of_ble_eq_true rfl) dX5_readsClause_1 ?_
  refine g_istore_n1001 C dX5_readsClause_4 (gi _) rfl ?_
  have jn29 : (¬ (whV S = -1 ∨ (whV S = 7 ∧ S 6 4 = 12))) → G X 0 0 (ovM dA m S h) sz 29 [some (.ref m), some (vI (whV S))] [] := by
    intro hj
    refine g_aload_n C dX5_readsClause_29 (gr _) rfl ?_
    refine g_callV0z C (mX5_nextToken hY (hX) (okP_b hP)) (lw_V q1267 q1269 qs29 q72 q1270) ⟨rfl, nd_X5_nextToken⟩ (ovM_0 _ _ _ _) rfl ⟨by decide, by decide⟩ ⟨Nat.le_of_ble_eq_true rfl, Nat.le_of_ble_eq_true rfl⟩ rfl (Nat.le_of_ble_eq_true rfl) dX5_readsClause_30 ?_
    refine g_aload_n C dX5_readsClause_33 (gr _) rfl ?_
    refine g_iload_n C dX5_readsClause_34 (gi _) rfl ?_
    refine g_callV1z C (mX5_readsRest hY (ntS_X hX) (ntS_P (okP_b hP)) (ntS_Q hQ0) (by omega)) (lw_V q1289 q1291 qs32 q72 q1292) ⟨rfl, nd_X5_readsRest⟩ (ovM_0 _ _ _ _) rfl ⟨by decide, by decide⟩ ⟨Nat.le_of_ble_eq_true rfl, Nat.le_of_ble_eq_true rfl⟩ rfl (Nat.le_of_ble_eq_true rfl) dX5_readsClause_35 ?_
    refine g_ifne_b C (tgt := 43) dX5_readsClause_38 (by decide) (fun c1 => ?_) (fun c1 => ?_)
    · have hok : (rrP (ntS S) (whV S)).1 = true := c1
      have hX4 := rrP_X (w := whV S) (ntS_X hX)
      have hP4 := rrP_P (w := whV S) (ntS_P (okP_b hP))
      have hnm := rrP_num (ntS_X hX) (ntS_P (okP_b hP)) hok
      have hQ4 := rrP_Q (w := whV S) (ntS_Q hQ0)
      have hnm2 := hnm
      rw [← rrP_n (S := ntS S) (w := whV S) (x := 6) (by omega) (by omega)] at hnm2
      have hQ5 := noS_Q hQ4 hnm2 (fun z z2 => hj (Or.inr ⟨z, by rw [rrP_n (by omega) (by omega), ntS_n (by omega)] at z2; exact z2⟩))
      have hE4 := rrP_E (w := whV S) (ntS_E hE)
      have hrc : rcP S = rcT S (whV S) (rrP (ntS S) (whV S)) := by rw [rcP, if_neg hj]
      have h412 : whV S = 7 → (rrP (ntS S) (whV S)).2 6 4 ≠ 12 := fun z z2 => hj (Or.inr ⟨z, by rw [rrP_n (by omega) (by omega), ntS_n (by omega)] at z2; exact z2⟩)
      have hd7 : noS (rrP (ntS S) (whV S)).2 (whV S) 10 7 = S 10 7 := by rw [noS_n (by omega), rrP_10 (by omega) (by omega), ntS_10, if_neg (by omega), if_neg (by omega)]
      have hok2 : ¬ (rrP (ntS S) (whV S)).1 = false := by rw [hok]; decide
      refine g_aload_n C dX5_readsClause_43 (gr _) rfl ?_
      refine g_iload_n C dX5_readsClause_44 (gi _) rfl ?_
      refine g_callV0z C (mX5_notes hY (by omega)) (lw_V q1301 q1303 qs35 q72 q1304) ⟨rfl, nd_X5_notes⟩ (ovM_0 _ _ _ _) rfl ⟨by decide, by decide⟩ ⟨Nat.le_of_ble_eq_true rfl, Nat.le_of_ble_eq_true rfl⟩ rfl (Nat.le_of_ble_eq_true rfl) dX5_readsClause_45 ?_
      refine g_aload_n C dX5_readsClause_48 (gr _) rfl ?_
      refine M_g_doing C q1205 dX5_readsClause_49 ?_
      refine g_if_eq C (tgt := 60) dX5_readsClause_52 (by decide) (by rw [hd7]; omega) (fun c2 => ?_) (fun c2 => ?_)
      · have hd1 : ¬ noS (rrP (ntS S) (whV S)).2 (whV S) 10 7 = 1 := by omega
        refine g_iconst C dX5_readsClause_60 ?_
        refine g_topv (v' := vI (bI true)) rfl ?_
        exact g_zret C hQ rfl dX5_readsClause_61 ⟨gz (by rw [hrc, rcT, if_neg hok2]), gh (by rw [hrc, rcT, if_neg hok2, if_neg hd1]), rfl⟩
      · have hd1 : noS (rrP (ntS S) (whV S)).2 (whV S) 10 7 = 1 := by omega
        refine g_aload_n C dX5_readsClause_55 (gr _) rfl ?_
        refine g_iload_n C dX5_readsClause_56 (gi _) rfl ?_
        refine g_callV0z C (mX5_does hY (by omega) (dsH_of hE4 hQ4 hnm2 h412 hd1)) (lw_V q1305 q1307 qs36 q72 q1308) ⟨rfl, nd_X5_does⟩ (ovM_0 _ _ _ _) rfl ⟨by decide, by decide⟩ ⟨Nat.le_of_ble_eq_true rfl, Nat.le_of_ble_eq_true rfl⟩ rfl (Nat.le_of_ble_eq_true rfl) dX5_readsClause_57 ?_
        refine g_iconst C dX5_readsClause_60 ?_
        refine g_topv (v' := vI (bI true)) rfl ?_
        exact g_zret C hQ rfl dX5_readsClause_61 ⟨gz (by rw [hrc, rcT, if_neg hok2]), gh (by rw [hrc, rcT, if_neg hok2, if_pos hd1]), rfl⟩
    · have hok : (rrP (ntS S) (whV S)).1 = false := c1
      have hrc : rcP S = rcT S (whV S) (rrP (ntS S) (whV S)) := by rw [rcP, if_neg hj]
      refine g_iconst C dX5_readsClause_41 ?_
      refine g_topv (v' := vI (bI false)) rfl ?_
      exact g_zret C hQ rfl dX5_readsClause_42 ⟨gz (by rw [hrc, rcT, if_pos hok]), gh (by rw [hrc, rcT, if_pos hok]), rfl⟩
  refine g_iload_n C dX5_readsClause_5 (gi _) rfl ?_
  refine g_iconst C dX5_readsClause_6 ?_
  refine g_icmp_eq C (tgt := 27) dX5_readsClause_7 (by decide) (by omega) (fun c3 => ?_) (fun c3 => ?_)
  · refine g_iconst C dX5_readsClause_27 ?_
    refine g_topv (v' := vI (bI false)) rfl ?_
    exact g_zret C hQ rfl dX5_readsClause_28 ⟨gz (by rw [rcP, if_pos (by omega)]), gh (by rw [rcP, if_pos (by omega)]), rfl⟩
  · refine g_iload_n C dX5_readsClause_10 (gi _) rfl ?_
    refine g_bipush C dX5_readsClause_11 (by decide +kernel) ?_
    refine g_icmp_ne C (tgt := 29) dX5_readsClause_13 (by decide) (by omega) (fun c4 => ?_) (fun c4 => ?_)
    · exact jn29  (by omega)
    · refine g_aload_n C dX5_readsClause_16 (gr _) rfl ?_
      refine M_g_read C q1203 dX5_readsClause_17 ?_
      refine g_iconst C dX5_readsClause_20 ?_
      refine M_ld_read C (by omega) dX5_readsClause_21 ?_
      refine g_bipush C dX5_readsClause_22 (by decide +kernel) ?_
      refine g_icmp_ne C (tgt := 29) dX5_readsClause_24 (by decide) (by omega) (fun c5 => ?_) (fun c5 => ?_)
      · exact jn29  (by omega)
      · refine g_iconst C dX5_readsClause_27 ?_
        refine g_topv (v' := vI (bI false)) rfl ?_
        exact g_zret C hQ rfl dX5_readsClause_28 ⟨gz (by rw [rcP, if_pos (by omega)]), gh (by rw [rcP, if_pos (by omega)]), rfl⟩

theorem nd_X5_reads : yX5_reads.cls ≠ "java/lang/invoke/MethodHandle" ∧ yX5_reads.cls ≠ "java/lang/invoke/VarHandle" ∧ (parseMethodDescriptor yX5_reads.desc).map (fun d => d.parameters.length) = some 1 := by decide +kernel
theorem mX5_reads {l : Launch} {D : va_G} {dA : Nat → ClassId} {N0 : Nat} {Y : State → Prop} (hY : gYok N0 Y) {h : gH} {sz m : Nat} {S : MS} {d : Int} (hX : OkX S) (hD : OkD (S 0)) (hC : OkC S) (hd : d = 0 ∨ d = 1) (h4 : 0 ≤ S 10 4) : gM l D dA N0 Y yX5_reads cX5_reads 3 (some .boolean) 6 132 0 0 [.ref m, vI d] (ovM dA m S h) sz (gP (some (vI (bI ((rdP S d).1)))) (ovM dA m ((rdP S d).2) h) sz) := by
  refine gM.of hY (by decide +kernel) (Nat.le_of_ble_eq_true rfl) ?_
  intro X hX C hQ
  subst hX
  have C : gC X cX5_reads RX5 "reads" 3 (some .boolean) D dA N0 Y ({ frames := 6, cells := 0, slots := 0, locals := 132 }) := C
  show G X 0 0 _ _ 0 [some (.ref m), some (vI d), none] []
  have hT0 := rd0_ok hX hD hC hd h4
  have hXl := hX.1
  have hD0 := hD.1
  have hC0 := hC.1
  unfold OkR at hC0
  refine g_aload_n C dX5_reads_0 (gr _) rfl ?_
  refine g_iload_n C dX5_reads_1 (gi _) rfl ?_
  refine M_p_doing C (by omega) q1205 dX5_reads_2 ?_
  refine g_aload_n C dX5_reads_5 (gr _) rfl ?_
  refine g_iconst C dX5_reads_6 ?_
  refine M_p_behind C q1202 dX5_reads_7 ?_
  refine g_aload_n C dX5_reads_10 (gr _) rfl ?_
  refine g_iconst C dX5_reads_11 ?_
  refine M_p_clauses C q1204 dX5_reads_12 ?_
  refine g_iconst C dX5_reads_15 ?_
  refine g_istore_n1002 C dX5_reads_16 (gi _) rfl ?_
  have lp17_1 : ∀ (fuel : Nat) (k : Int), (0 ≤ k ∧ k ≤ 4) → (4 - k).toNat < fuel → G X 0 0 (ovM dA m (rdS (us (us (us S 10 7 d) 10 5 0) 10 6 1) k) h) sz 17 [some (.ref m), some (vI d), some (vI k)] [] := by
    intro fuel
    induction fuel with
    | zero => intro k hI hfu; exact absurd hfu (Nat.not_lt_zero _)
    | succ fuel ih =>
      intro k hI hfu
      have ih1 := ih
      refine g_iload_n C dX5_reads_17 (gi _) rfl ?_
      refine g_iconst C dX5_reads_18 ?_
      refine g_icmp_ge C (tgt := 40) dX5_reads_19 (by decide) (by omega) (fun c1 => ?_) (fun c1 => ?_)
      · refine g_aload_n C dX5_reads_40 (gr _) rfl ?_
        refine M_g_read C q1203 dX5_reads_41 ?_
        refine g_iconst C dX5_reads_44 ?_
        refine g_aload_n C dX5_reads_45 (gr _) rfl ?_
        refine M_g_rows C q1193 dX5_reads_46 ?_
        refine g_top (b := S 10 0) (by simp [us_eq, rdS]) ?_
        refine M_st_read C (by omega) dX5_reads_49 ?_
        refine g_aload_n C dX5_reads_50 (gr _) rfl ?_
        refine M_g_read C q1203 dX5_reads_51 ?_
        refine g_iconst C dX5_reads_54 ?_
        refine g_aload_n C dX5_reads_55 (gr _) rfl ?_
        refine M_g_columns C q1194 dX5_reads_56 ?_
        refine g_top (b := S 10 1) (by simp [us_eq, rdS]) ?_
        refine M_st_read C (by omega) dX5_reads_59 ?_
        refine g_hE (gh (T := rd0 S d) (by rw [show k = 4 by omega]; rfl)) ?_
        refine g_aload_n C dX5_reads_60 (gr _) rfl ?_
        refine g_callV0z C (mX5_nextToken hY (hT0.2.2.1) (by rw [hT0.2.2.2]; have := hT0.2.2.1.1; omega)) (lw_V q1267 q1269 qs29 q72 q1270) ⟨rfl, nd_X5_nextToken⟩ (ovM_0 _ _ _ _) rfl ⟨by decide, by decide⟩ ⟨Nat.le_of_ble_eq_true rfl, Nat.le_of_ble_eq_true rfl⟩ rfl (Nat.le_of_ble_eq_true rfl) dX5_reads_61 ?_
        refine g_aload_n C dX5_reads_64 (gr _) rfl ?_
        refine g_callV1z C (mX5_readsClause hY (hT0.1.1) (hT0.1.2.1) (hT0.1.2.2.1) (hT0.1.2.2.2.1) (hT0.1.2.2.2.2.1)) (lw_V q1281 q1283 qs30 q72 q1284) ⟨rfl, nd_X5_readsClause⟩ (ovM_0 _ _ _ _) rfl ⟨by decide, by decide⟩ ⟨Nat.le_of_ble_eq_true rfl, Nat.le_of_ble_eq_true rfl⟩ rfl (Nat.le_of_ble_eq_true rfl) dX5_reads_65 ?_
        refine g_istore_n1002 C dX5_reads_68 (gi _) rfl ?_
        have lp69_2 : ∀ (fuel : Nat) (x : Bool) (T : MS) (F : Nat), (rdI S T ∧ (1 ≤ T 10 6 ∧ T 10 6 ≤ 24) ∧ (x = true → 25 - T 10 6 < F) ∧ rdL F (x, T) = rdP S d) → ((if x = true then 26 - T 10 6 else 0)).toNat < fuel → G X 0 0 (ovM dA m T h) sz 69 [some (.ref m), some (vI d), some (vI (bI x))] [] := by
          intro fuel
          induction fuel with
          | zero => intro x T F hI hfu; exact absurd hfu (Nat.not_lt_zero _)
          | succ fuel ih =>
            intro x T F hI hfu
            have ih2 := ih
            obtain ⟨hI1, hI2, hI3, hI4⟩ := hI
            refine g_iload_n C dX5_reads_69 (gi _) rfl ?_
            refine g_ifeq_b C (tgt := 139) dX5_reads_70 (by decide) (fun c2 => ?_) (fun c2 => ?_)
            · have hx1 : x = false := c2
              refine g_iload_n C dX5_reads_139 (gi _) rfl ?_
              exact g_zret C hQ rfl dX5_reads_140 ⟨gz (by rw [← hI4, rdL_end (by first | exact Or.inl hx1 | exact Or.inr (by omega))]), gh (by rw [← hI4, rdL_end (by first | exact Or.inl hx1 | exact Or.inr (by omega))]), rfl⟩
            · have hx1 : x = true := c2
              have hI3 := hI3 hx1
              obtain ⟨hY1, hY2, hY3, hY4, hY5⟩ := hI1
              have hI1 : rdI S T := ⟨hY1, hY2, hY3, hY4, hY5⟩
              have hY1l := hY1.1
              have hY2l := hY2
              unfold OkP at hY2l
              refine g_aload_n C dX5_reads_73 (gr _) rfl ?_
              refine M_g_first C q1201 dX5_reads_74 ?_
              refine g_aload_n C dX5_reads_77 (gr _) rfl ?_
              refine M_g_length C q1198 dX5_reads_78 ?_
              refine g_icmp_ge C (tgt := 139) dX5_reads_81 (by decide) (by omega) (fun c3 => ?_) (fun c3 => ?_)
              · refine g_iload_n C dX5_reads_139 (gi _) rfl ?_
                exact g_zret C hQ rfl dX5_reads_140 ⟨gz (by rw [← hI4, rdL_end (by first | exact Or.inl hx1 | exact Or.inr (by omega))]), gh (by rw [← hI4, rdL_end (by first | exact Or.inl hx1 | exact Or.inr (by omega))]), rfl⟩
              · have hfl : T 10 4 < T 10 3 := c3
                have htf := hY1.2.1 (T 10 4) (by omega) (by omega)
                refine g_aload_n C dX5_reads_84 (gr _) rfl ?_
                refine M_g_clauses C q1204 dX5_reads_85 ?_
                refine g_bipush C dX5_reads_88 (by decide +kernel) ?_
                refine g_icmp_ge C (tgt := 111) dX5_reads_90 (by decide) (by omega) (fun c4 => ?_) (fun c4 => ?_)
                · have hno : rdOk T = false := by simp [rdOk]; omega
                  refine g_iconst C dX5_reads_111 ?_
                  refine g_istore_n1002 C dX5_reads_112 (gi _) rfl ?_
                  refine g_iload_n C dX5_reads_113 (gi _) rfl ?_
                  refine g_if_eq C (tgt := 69) dX5_reads_114 (by decide) (by omega) (fun c5 => ?_) (fun c5 => ?_)
                  · exact ih2 false T (F - 1) (⟨hI1, hI2, by simp, by rw [← hI4, rdL_no hx1 hfl hno (by omega)]⟩) (by rw [if_neg (by decide)]; rw [if_pos hx1] at hfu; omega)
                  · omega
                · refine g_aload_n C dX5_reads_93 (gr _) rfl ?_
                  refine M_g_text C q1197 dX5_reads_94 ?_
                  refine g_aload_n C dX5_reads_97 (gr _) rfl ?_
                  refine M_g_first C q1201 dX5_reads_98 ?_
                  refine M_ld_text C (by omega) dX5_reads_101 ?_
                  refine g_bipush C dX5_reads_102 (by decide +kernel) ?_
                  refine g_icmp_ne C (tgt := 111) dX5_reads_104 (by decide) (by omega) (fun c6 => ?_) (fun c6 => ?_)
                  · have hno : rdOk T = false := by simp [rdOk]; omega
                    refine g_iconst C dX5_reads_111 ?_
                    refine g_istore_n1002 C dX5_reads_112 (gi _) rfl ?_
                    refine g_iload_n C dX5_reads_113 (gi _) rfl ?_
                    refine g_if_eq C (tgt := 69) dX5_reads_114 (by decide) (by omega) (fun c7 => ?_) (fun c7 => ?_)
                    · exact ih2 false T (F - 1) (⟨hI1, hI2, by simp, by rw [← hI4, rdL_no hx1 hfl hno (by omega)]⟩) (by rw [if_neg (by decide)]; rw [if_pos hx1] at hfu; omega)
                    · omega
                  · have hok : rdOk T = true := by simp [rdOk]; omega
                    refine g_iconst C dX5_reads_107 ?_
                    refine g_goto C (tgt := 112) dX5_reads_108 (by decide) ?_
                    refine g_istore_n1002 C dX5_reads_112 (gi _) rfl ?_
                    refine g_iload_n C dX5_reads_113 (gi _) rfl ?_
                    refine g_if_eq C (tgt := 69) dX5_reads_114 (by decide) (by omega) (fun c8 => ?_) (fun c8 => ?_)
                    · omega
                    · refine g_aload_n C dX5_reads_117 (gr _) rfl ?_
                      refine g_callV0z C (mX5_nextToken hY (hY1) (okP_b hY2)) (lw_V q1267 q1269 qs29 q72 q1270) ⟨rfl, nd_X5_nextToken⟩ (ovM_0 _ _ _ _) rfl ⟨by decide, by decide⟩ ⟨Nat.le_of_ble_eq_true rfl, Nat.le_of_ble_eq_true rfl⟩ rfl (Nat.le_of_ble_eq_true rfl) dX5_reads_118 ?_
                      refine g_aload_n C dX5_reads_121 (gr _) rfl ?_
                      refine g_callV1z C (mX5_readsClause hY ((ntS_I hI1).1) ((ntS_I hI1).2.1) ((ntS_I hI1).2.2.1) ((ntS_I hI1).2.2.2.1) ((ntS_I hI1).2.2.2.2.1)) (lw_V q1281 q1283 qs30 q72 q1284) ⟨rfl, nd_X5_readsClause⟩ (ovM_0 _ _ _ _) rfl ⟨by decide, by decide⟩ ⟨Nat.le_of_ble_eq_true rfl, Nat.le_of_ble_eq_true rfl⟩ rfl (Nat.le_of_ble_eq_true rfl) dX5_reads_122 ?_
                      refine g_istore_n1002 C dX5_reads_125 (gi _) rfl ?_
                      refine g_aload_n C dX5_reads_126 (gr _) rfl ?_
                      refine g_dup C dX5_reads_127 rfl ?_
                      refine M_g_clauses C q1204 dX5_reads_128 ?_
                      refine g_iconst C dX5_reads_131 ?_
                      refine g_iadd C dX5_reads_132 ?_
                      refine M_p_clauses C q1204 dX5_reads_133 ?_
                      refine g_goto C (tgt := 69) dX5_reads_136 (by decide) ?_
                      have h6 : (rcP (ntS T)).2 10 6 = T 10 6 := by rw [rcP_106, ntS_10, if_neg (by omega), if_neg (by omega)]
                      have h6b : us (rcP (ntS T)).2 10 6 ((rcP (ntS T)).2 10 6 + 1) 10 6 = T 10 6 + 1 := by rw [us_eq, if_pos ⟨rfl, rfl⟩, h6]
                      exact ih2 _ _ (F - 1) (⟨rdI_6 (rcP_I (ntS_I hI1)), by rw [h6b]; omega, fun _ => by rw [h6b]; omega, by rw [← hI4, rdL_yes hx1 hfl hok (by omega)]; rfl⟩) (by rw [if_pos hx1] at hfu; split <;> omega)
        exact lp69_2 _ _ _ 25 (⟨rcP_I hT0.1, by rw [rcP_106, ntS_10, if_neg (by omega), if_neg (by omega)]; have := hT0.2.1; omega, fun _ => by rw [rcP_106, ntS_10, if_neg (by omega), if_neg (by omega)]; have := hT0.2.1; omega, rfl⟩) (Nat.lt_succ_self _)
      · refine g_aload_n C dX5_reads_22 (gr _) rfl ?_
        refine M_g_read C q1203 dX5_reads_23 ?_
        refine g_iload_n C dX5_reads_26 (gi _) rfl ?_
        refine g_aload_n C dX5_reads_27 (gr _) rfl ?_
        refine M_g_row C q1191 dX5_reads_28 ?_
        refine g_iload_n C dX5_reads_31 (gi _) rfl ?_
        refine M_ld_row C (by omega) dX5_reads_32 ?_
        refine M_st_read C (by omega) dX5_reads_33 ?_
        refine g_iinc1002 C dX5_reads_34 rfl ?_
        refine g_goto C (tgt := 17) dX5_reads_37 (by decide) ?_
        refine g_hE (gh (rdS_s _ k (by omega))) ?_
        exact ih1 _ (by omega) (by omega)
  refine g_hE (gh ((rdS_0 _).symm)) ?_
  exact lp17_1 _ _ (by omega) (Nat.lt_succ_self _)

theorem nd_X5_fault : yX5_fault.cls ≠ "java/lang/invoke/MethodHandle" ∧ yX5_fault.cls ≠ "java/lang/invoke/VarHandle" ∧ (parseMethodDescriptor yX5_fault.desc).map (fun d => d.parameters.length) = some 0 := by decide +kernel
theorem mX5_fault {l : Launch} {D : va_G} {dA : Nat → ClassId} {N0 : Nat} {Y : State → Prop} (hY : gYok N0 Y) {h : gH} {sz m : Nat} {S : MS} (hX : OkX S) (hD : OkD (S 0)) (hC : OkC S) (h4 : 0 ≤ S 10 4) : gM l D dA N0 Y yX5_fault cX5_fault 1 (some .int) 7 154 0 0 [.ref m] (ovM dA m S h) sz (gP (some (vI (faultV S))) (ovM dA m (faultS S) h) sz) := by
  refine gM.of hY (by decide +kernel) (Nat.le_of_ble_eq_true rfl) ?_
  intro X hX C hQ
  subst hX
  have C : gC X cX5_fault RX5 "fault" 1 (some .int) D dA N0 Y ({ frames := 7, cells := 0, slots := 0, locals := 154 }) := C
  show G X 0 0 _ _ 0 [some (.ref m)] []
  have hIn := rdP_I hX hD hC (Or.inl rfl) h4
  have hX1 := hIn.1.1
  have hP1 := hIn.2.1
  unfold OkP at hP1
  refine g_aload_n C dX5_fault_0 (gr _) rfl ?_
  refine g_iconst C dX5_fault_1 ?_
  refine g_callV1z C (mX5_reads hY (hX) (hD) (hC) (Or.inl rfl) (h4)) (lw_V q1263 q1265 qs28 q72 q1266) ⟨rfl, nd_X5_reads⟩ (ovM_0 _ _ _ _) rfl ⟨by decide, by decide⟩ ⟨Nat.le_of_ble_eq_true rfl, Nat.le_of_ble_eq_true rfl⟩ rfl (Nat.le_of_ble_eq_true rfl) dX5_fault_2 ?_
  refine g_ifeq_b C (tgt := 12) dX5_fault_5 (by decide) (fun c1 => ?_) (fun c1 => ?_)
  · have hb := c1
    refine g_aload_n C dX5_fault_12 (gr _) rfl ?_
    refine M_g_first C q1201 dX5_fault_13 ?_
    exact g_iret C hQ rfl dX5_fault_16 ⟨gv (by rw [faultV, if_neg (by rw [hb]; decide)]), rfl, rfl⟩
  · have hb := c1
    refine g_iconst C dX5_fault_8 ?_
    refine g_goto C (tgt := 16) dX5_fault_9 (by decide) ?_
    exact g_iret C hQ rfl dX5_fault_16 ⟨gv (by rw [faultV, if_pos hb]), rfl, rfl⟩

theorem nd_X5_draft : yX5_draft.cls ≠ "java/lang/invoke/MethodHandle" ∧ yX5_draft.cls ≠ "java/lang/invoke/VarHandle" ∧ (parseMethodDescriptor yX5_draft.desc).map (fun d => d.parameters.length) = some 0 := by decide +kernel
theorem mX5_draft {l : Launch} {D : va_G} {dA : Nat → ClassId} {N0 : Nat} {Y : State → Prop} (hY : gYok N0 Y) {h : gH} {sz m : Nat} {S : MS} (hX : OkX S) (hD : OkD (S 0)) (hC : OkC S) (h4 : 0 ≤ S 10 4) : gM l D dA N0 Y yX5_draft cX5_draft 2 (some .int) 7 154 0 0 [.ref m] (ovM dA m S h) sz (gP (some (vI (draftV S))) (ovM dA m (draftS S) h) sz) := by
  refine gM.of hY (by decide +kernel) (Nat.le_of_ble_eq_true rfl) ?_
  intro X hX C hQ
  subst hX
  have C : gC X cX5_draft RX5 "draft" 2 (some .int) D dA N0 Y ({ frames := 7, cells := 0, slots := 0, locals := 154 }) := C
  show G X 0 0 _ _ 0 [some (.ref m), none] []
  have hIn := rdP_I hX hD hC (Or.inl rfl) h4
  refine g_aload_n C dX5_draft_0 (gr _) rfl ?_
  refine g_iconst C dX5_draft_1 ?_
  refine g_callV1z C (mX5_reads hY (hX) (hD) (hC) (Or.inl rfl) (h4)) (lw_V q1263 q1265 qs28 q72 q1266) ⟨rfl, nd_X5_reads⟩ (ovM_0 _ _ _ _) rfl ⟨by decide, by decide⟩ ⟨Nat.le_of_ble_eq_true rfl, Nat.le_of_ble_eq_true rfl⟩ rfl (Nat.le_of_ble_eq_true rfl) dX5_draft_2 ?_
  refine g_ifne_b C (tgt := 11) dX5_draft_5 (by decide) (fun c1 => ?_) (fun c1 => ?_)
  · have hb := c1
    refine g_aload_n C dX5_draft_11 (gr _) rfl ?_
    refine g_iconst C dX5_draft_12 ?_
    refine g_callV1z C (mX5_reads hY (hIn.1) (hIn.2.2.2.1.1) (hIn.2.2.2.1.2.1) (Or.inr rfl) (rdI_4 hIn)) (lw_V q1263 q1265 qs28 q72 q1266) ⟨rfl, nd_X5_reads⟩ (ovM_0 _ _ _ _) rfl ⟨by decide, by decide⟩ ⟨Nat.le_of_ble_eq_true rfl, Nat.le_of_ble_eq_true rfl⟩ rfl (Nat.le_of_ble_eq_true rfl) dX5_draft_13 ?_
    refine g_pop C dX5_draft_16 rfl ?_
    refine g_aload_n C dX5_draft_17 (gr _) rfl ?_
    refine g_iconst C dX5_draft_18 ?_
    refine M_p_length C q1198 dX5_draft_19 ?_
    refine g_aload_n C dX5_draft_22 (gr _) rfl ?_
    refine g_iconst C dX5_draft_23 ?_
    refine M_p_undos C q1195 dX5_draft_24 ?_
    refine g_aload_n C dX5_draft_27 (gr _) rfl ?_
    refine M_g_isKept C q1196 dX5_draft_28 ?_
    refine g_iconst C dX5_draft_31 ?_
    refine g_iconst C dX5_draft_32 ?_
    refine M_st_isKept C (by omega) (by omega) dX5_draft_33 ?_
    refine g_aload_n C dX5_draft_34 (gr _) rfl ?_
    refine M_g_isKept C q1196 dX5_draft_35 ?_
    refine g_iconst C dX5_draft_38 ?_
    refine g_iconst C dX5_draft_39 ?_
    refine M_st_isKept C (by omega) (by omega) dX5_draft_40 ?_
    refine g_iconst C dX5_draft_41 ?_
    refine g_istore_n1001 C dX5_draft_42 (gi _) rfl ?_
    have lp43_1 : ∀ (fuel : Nat) (k : Int), (0 ≤ k ∧ k ≤ 3) → (3 - k).toNat < fuel → G X 0 0 (ovM dA m (drK (rdP (rdP S 0).2 1).2 k) h) sz 43 [some (.ref m), some (vI k)] [] := by
      intro fuel
      induction fuel with
      | zero => intro k hI hfu; exact absurd hfu (Nat.not_lt_zero _)
      | succ fuel ih =>
        intro k hI hfu
        have ih1 := ih
        refine g_iload_n C dX5_draft_43 (gi _) rfl ?_
        refine g_iconst C dX5_draft_44 ?_
        refine g_icmp_ge C (tgt := 61) dX5_draft_45 (by decide) (by omega) (fun c2 => ?_) (fun c2 => ?_)
        · refine g_aload_n C dX5_draft_61 (gr _) rfl ?_
          refine M_g_clauses C q1204 dX5_draft_62 ?_
          exact g_iret C hQ rfl dX5_draft_65 ⟨gv (by rw [draftV, if_pos hb]; simp [drK, us_eq]), gh (by rw [draftS, if_pos hb, show k = 3 by omega, drK_3]), rfl⟩
        · refine g_aload_n C dX5_draft_48 (gr _) rfl ?_
          refine M_g_sizes C q1199 dX5_draft_49 ?_
          refine g_iload_n C dX5_draft_52 (gi _) rfl ?_
          refine g_iconst C dX5_draft_53 ?_
          refine M_st_sizes C (by omega) dX5_draft_54 ?_
          refine g_iinc1001 C dX5_draft_55 rfl ?_
          refine g_goto C (tgt := 43) dX5_draft_58 (by decide) ?_
          refine g_hE (gh (drK_s _ k (by omega))) ?_
          exact ih1 _ (by omega) (by omega)
    refine g_hE (gh ((drK_0 _).symm)) ?_
    exact lp43_1 _ _ (by omega) (Nat.lt_succ_self _)
  · have hb := c1
    refine g_bipush C dX5_draft_8 (by decide +kernel) ?_
    exact g_iret C hQ rfl dX5_draft_10 ⟨gv (by rw [draftV, if_neg (by rw [hb]; decide)]), gh (by rw [draftS, if_neg (by rw [hb]; decide)]), rfl⟩
