/-! THE REFERENCE: what is done -/
set_option maxRecDepth 100000
theorem g_hE {X : gX} {k n : Nat} {h h' : gH} {sz pc : Nat} {L : List (Option Value)} {st : List Value} (e : h = h') (kk : G X k n h' sz pc L st) : G X k n h sz pc L st := by rw [e]; exact kk
theorem kp0_10 (S : MS) : (if S 10 2 = 8 then shK S 406 else S) 10 = S 10 := by
  split
  · exact shK_n _ _ (by omega)
  · rfl
theorem allV_dn {T : MS} {t : Int} (h : 1 ≤ T 4 t) : allV (us T 4 t (T 4 t - 1)) t = allV T t - T 5 (8 * t + T 4 t - 1) := by
  have e : ∀ n : Nat, fo (allF (us T 4 t (T 4 t - 1)) t) 0 n = fo (allF T t) 0 n := by
    intro n
    induction n with
    | zero => rfl
    | succ n ih =>
      show allF _ t n (fo _ 0 n) = allF T t n (fo _ 0 n)
      rw [ih]
      simp [allF, us_eq]
  unfold allV
  rw [e, us_eq, if_pos ⟨rfl, rfl⟩]
  obtain ⟨q, hq⟩ : ∃ q : Nat, T 4 t = q + 1 := ⟨(T 4 t - 1).toNat, by omega⟩
  rw [hq, show ((q : Int) + 1 - 1).toNat = q by omega, show ((q : Int) + 1).toNat = q + 1 by omega]
  show fo (allF T t) 0 q = allF T t q (fo (allF T t) 0 q) - _
  unfold allF
  rw [show 8 * t + ((q : Int) + 1) - 1 = 8 * t + q by omega]
  omega
theorem OkT_dn {T : MS} {t : Int} (h : OkT T) (h1 : 1 ≤ T 4 t) : OkT (us T 4 t (T 4 t - 1)) := by
  intro q q0 q1
  have hq := h q q0 q1
  by_cases e : q = t
  · subst e
    rw [us_eq, if_pos ⟨rfl, rfl⟩]
    refine ⟨by omega, fun k k0 k1 => ?_⟩
    rw [us_eq, if_neg (by omega)]
    exact hq.2 k k0 (by omega)
  · rw [us_eq, if_neg (by omega)]
    refine ⟨hq.1, fun k k0 k1 => ?_⟩
    rw [us_eq, if_neg (by omega)]
    exact hq.2 k k0 k1
theorem OkT_set {T : MS} {t k v : Int} (h : OkT T) (hv : 1 ≤ v ∧ v ≤ 99) : OkT (us T 5 (8 * t + k) v) := by
  intro q q0 q1
  have hq := h q q0 q1
  rw [us_eq, if_neg (by omega)]
  refine ⟨hq.1, fun j j0 j1 => ?_⟩
  rw [us_eq]
  split
  · exact hv
  · exact hq.2 j j0 j1
theorem allV_pos {T : MS} {t : Int} (hT : OkT T) (ht : 0 ≤ t ∧ t < 3) (h0 : 0 ≤ T 4 t) (h : 0 < allV T t) : 1 ≤ T 4 t := by
  rcases Int.lt_or_le 0 (T 4 t) with z | z
  · exact z
  · unfold allV at h
    rw [show T 4 t = 0 by omega] at h
    exact absurd h (by show ¬ (0 : Int) < 0; omega)

theorem nd_X5_copyRow : yX5_copyRow.cls ≠ "java/lang/invoke/MethodHandle" ∧ yX5_copyRow.cls ≠ "java/lang/invoke/VarHandle" ∧ (parseMethodDescriptor yX5_copyRow.desc).map (fun d => d.parameters.length) = some 2 := by decide +kernel
theorem mX5_copyRow {l : Launch} {D : va_G} {dA : Nat → ClassId} {N0 : Nat} {Y : State → Prop} (hY : gYok N0 Y) {h : gH} {sz m : Nat} {S : MS} {a b : Int} (hs : (0 ≤ a ∧ a ≤ 580) ∧ (0 ≤ b ∧ b ≤ 580) ∧ (a + 58 ≤ b ∨ b + 58 ≤ a)) : gM l D dA N0 Y yX5_copyRow cX5_copyRow 4 none 0 0 0 0 [.ref m, vI a, vI b] (ovM dA m S h) sz (gP none (ovM dA m (cpR S a b) h) sz) := by
  refine gM.of hY (by decide +kernel) (Nat.le_of_ble_eq_true rfl) ?_
  intro X hX C hQ
  subst hX
  have C : gC X cX5_copyRow RX5 "copyRow" 4 none D dA N0 Y ({ frames := 0, cells := 0, slots := 0, locals := 0 }) := C
  show G X 0 0 _ _ 0 [some (.ref m), some (vI a), some (vI b), none] []
  refine g_iconst C dX5_copyRow_0 ?_
  refine g_istore_n1003 C dX5_copyRow_1 (gi _) rfl ?_
  have lp2_1 : ∀ (fuel : Nat) (k : Int), (0 ≤ k ∧ k ≤ 58) → (58 - k).toNat < fuel → G X 0 0 (ovM dA m (cpK S a b k) h) sz 2 [some (.ref m), some (vI a), some (vI b), some (vI k)] [] := by
    intro fuel
    induction fuel with
    | zero => intro k hI hfu; exact absurd hfu (Nat.not_lt_zero _)
    | succ fuel ih =>
      intro k hI hfu
      have ih1 := ih
      refine g_iload_n C dX5_copyRow_2 (gi _) rfl ?_
      refine g_bipush C dX5_copyRow_3 (by decide +kernel) ?_
      refine g_icmp_ge C (tgt := 30) dX5_copyRow_5 (by decide) (by omega) (fun c1 => ?_) (fun c1 => ?_)
      · exact g_vret C hQ rfl dX5_copyRow_30 ⟨rfl, gh (by rw [show k = 58 by omega]; rfl), rfl⟩
      · refine g_aload_n C dX5_copyRow_8 (gr _) rfl ?_
        refine M_g_row C q1191 dX5_copyRow_9 ?_
        refine g_iload_n C dX5_copyRow_12 (gi _) rfl ?_
        refine g_iload_n C dX5_copyRow_13 (gi _) rfl ?_
        refine g_iadd C dX5_copyRow_14 ?_
        refine g_aload_n C dX5_copyRow_15 (gr _) rfl ?_
        refine M_g_row C q1191 dX5_copyRow_16 ?_
        refine g_iload_n C dX5_copyRow_19 (gi _) rfl ?_
        refine g_iload_n C dX5_copyRow_20 (gi _) rfl ?_
        refine g_iadd C dX5_copyRow_21 ?_
        refine M_ld_row C (by omega) dX5_copyRow_22 ?_
        refine M_st_row C (by omega) dX5_copyRow_23 ?_
        refine g_iinc1003 C dX5_copyRow_24 rfl ?_
        refine g_goto C (tgt := 2) dX5_copyRow_27 (by decide) ?_
        refine g_hE (gh (cpK_s (S := S) (a := a) (b := b) (k := k) (by omega) hs.2.2)) ?_
        exact ih1 _ (by omega) (by omega)
  refine g_hE (gh ((cpK_0 S a b).symm)) ?_
  exact lp2_1 _ _ (by omega) (Nat.lt_succ_self _)

theorem nd_X5_anew : yX5_anew.cls ≠ "java/lang/invoke/MethodHandle" ∧ yX5_anew.cls ≠ "java/lang/invoke/VarHandle" ∧ (parseMethodDescriptor yX5_anew.desc).map (fun d => d.parameters.length) = some 4 := by decide +kernel
theorem mX5_anew {l : Launch} {D : va_G} {dA : Nat → ClassId} {N0 : Nat} {Y : State → Prop} (hY : gYok N0 Y) {h : gH} {sz m : Nat} {S : MS} {e p s t : Int} (hs : (1 ≤ s ∧ s ≤ 12) ∧ 1 ≤ t ∧ t ≤ 12) : gM l D dA N0 Y yX5_anew cX5_anew 6 none 0 0 0 0 [.ref m, vI e, vI p, vI s, vI t] (ovM dA m S h) sz (gP none (ovM dA m (anewS S e p s t) h) sz) := by
  refine gM.of hY (by decide +kernel) (Nat.le_of_ble_eq_true rfl) ?_
  intro X hX C hQ
  subst hX
  have C : gC X cX5_anew RX5 "anew" 6 none D dA N0 Y ({ frames := 0, cells := 0, slots := 0, locals := 0 }) := C
  show G X 0 0 _ _ 0 [some (.ref m), some (vI e), some (vI p), some (vI s), some (vI t), none] []
  refine g_aload_n C dX5_anew_0 (gr _) rfl ?_
  refine M_g_row C q1191 dX5_anew_1 ?_
  refine g_iconst C dX5_anew_4 ?_
  refine g_iload_n C dX5_anew_5 (gi _) rfl ?_
  refine M_st_row C (by omega) dX5_anew_6 ?_
  refine g_aload_n C dX5_anew_7 (gr _) rfl ?_
  refine M_g_row C q1191 dX5_anew_8 ?_
  refine g_iconst C dX5_anew_11 ?_
  refine g_iload_n C dX5_anew_12 (gi _) rfl ?_
  refine M_st_row C (by omega) dX5_anew_13 ?_
  refine g_aload_n C dX5_anew_14 (gr _) rfl ?_
  refine M_g_row C q1191 dX5_anew_15 ?_
  refine g_iconst C dX5_anew_18 ?_
  refine g_iload_n C dX5_anew_19 (gi _) rfl ?_
  refine M_st_row C (by omega) dX5_anew_20 ?_
  refine g_aload_n C dX5_anew_21 (gr _) rfl ?_
  refine M_g_row C q1191 dX5_anew_22 ?_
  refine g_iconst C dX5_anew_25 ?_
  refine g_iload C dX5_anew_26 (gi _) rfl ?_
  refine M_st_row C (by omega) dX5_anew_28 ?_
  refine g_iconst C dX5_anew_29 ?_
  refine g_istore1005 C dX5_anew_30 (gi _) rfl ?_
  have lp32_1 : ∀ (fuel : Nat) (k : Int), (0 ≤ k ∧ k ≤ 12) → (12 - k).toNat < fuel → G X 0 0 (ovM dA m (anA (anH S e p s t) s t k) h) sz 32 [some (.ref m), some (vI e), some (vI p), some (vI s), some (vI t), some (vI k)] [] := by
    intro fuel
    induction fuel with
    | zero => intro k hI hfu; exact absurd hfu (Nat.not_lt_zero _)
    | succ fuel ih =>
      intro k hI hfu
      have ih1 := ih
      refine g_iload C dX5_anew_32 (gi _) rfl ?_
      refine g_bipush C dX5_anew_34 (by decide +kernel) ?_
      refine g_icmp_ge C (tgt := 95) dX5_anew_36 (by decide) (by omega) (fun c1 => ?_) (fun c1 => ?_)
      · refine g_iconst C dX5_anew_95 ?_
        refine g_istore1005 C dX5_anew_96 (gi _) rfl ?_
        have lp98_2 : ∀ (fuel : Nat) (j : Int), (0 ≤ j ∧ j ≤ 6) → (6 - j).toNat < fuel → G X 0 0 (ovM dA m (anB (anA (anH S e p s t) s t 12) s t j) h) sz 98 [some (.ref m), some (vI e), some (vI p), some (vI s), some (vI t), some (vI j)] [] := by
          intro fuel
          induction fuel with
          | zero => intro j hI hfu; exact absurd hfu (Nat.not_lt_zero _)
          | succ fuel ih =>
            intro j hI hfu
            have ih2 := ih
            refine g_iload C dX5_anew_98 (gi _) rfl ?_
            refine g_bipush C dX5_anew_100 (by decide +kernel) ?_
            refine g_icmp_ge C (tgt := 138) dX5_anew_102 (by decide) (by omega) (fun c2 => ?_) (fun c2 => ?_)
            · exact g_vret C hQ rfl dX5_anew_138 ⟨rfl, gh (by rw [show j = 6 by omega]; rfl), rfl⟩
            · refine g_aload_n C dX5_anew_105 (gr _) rfl ?_
              refine M_g_row C q1191 dX5_anew_106 ?_
              refine g_bipush C dX5_anew_109 (by decide +kernel) ?_
              refine g_iload C dX5_anew_111 (gi _) rfl ?_
              refine g_iadd C dX5_anew_113 ?_
              refine g_iload C dX5_anew_114 (gi _) rfl ?_
              refine g_iload C dX5_anew_116 (gi _) rfl ?_
              refine g_icmp_ge C (tgt := 130) dX5_anew_118 (by decide) (by omega) (fun c3 => ?_) (fun c3 => ?_)
              · refine g_iconst C dX5_anew_130 ?_
                refine M_st_row C (by omega) dX5_anew_131 ?_
                refine g_iinc1005 C dX5_anew_132 rfl ?_
                refine g_goto C (tgt := 98) dX5_anew_135 (by decide) ?_
                have e1 := anB_s (S := anA (anH S e p s t) s t 12) (s := s) (t := t) (k := j) (by omega)
                rw [if_neg (by omega)] at e1
                refine g_hE (gh (e1)) ?_
                exact ih2 _ (by omega) (by omega)
              · have hm1 := Int.emod_nonneg j (show s ≠ 0 by omega)
                have hm3 := Int.emod_lt_of_pos j (show 0 < s by omega)
                refine g_iconst C dX5_anew_121 ?_
                refine g_iload C dX5_anew_122 (gi _) rfl ?_
                refine g_iload_n C dX5_anew_124 (gi _) rfl ?_
                refine g_irem C (by omega) dX5_anew_125 ?_
                refine g_ishl C dX5_anew_126 (zI_shl (by omega)) ?_
                refine g_goto C (tgt := 131) dX5_anew_127 (by decide) ?_
                refine M_st_row C (by omega) dX5_anew_131 ?_
                refine g_iinc1005 C dX5_anew_132 rfl ?_
                refine g_goto C (tgt := 98) dX5_anew_135 (by decide) ?_
                have e1 := anB_s (S := anA (anH S e p s t) s t 12) (s := s) (t := t) (k := j) (by omega)
                rw [if_pos (by omega)] at e1
                refine g_hE (gh (e1)) ?_
                exact ih2 _ (by omega) (by omega)
        refine g_hE (gh (T := anB (anA (anH S e p s t) s t 12) s t 0) (by rw [show k = 12 by omega]; exact (anB_0 (anA (anH S e p s t) s t 12) s t).symm)) ?_
        exact lp98_2 _ _ (by omega) (Nat.lt_succ_self _)
      · have hm1 := Int.emod_nonneg k (show s ≠ 0 by omega)
        have hm2 := Int.emod_nonneg k (show t ≠ 0 by omega)
        refine g_aload_n C dX5_anew_39 (gr _) rfl ?_
        refine M_g_row C q1191 dX5_anew_40 ?_
        refine g_iconst C dX5_anew_43 ?_
        refine g_iload C dX5_anew_44 (gi _) rfl ?_
        refine g_iadd C dX5_anew_46 ?_
        refine g_iload C dX5_anew_47 (gi _) rfl ?_
        refine g_iload_n C dX5_anew_49 (gi _) rfl ?_
        refine g_irem C (by omega) dX5_anew_50 ?_
        refine M_st_row C (by omega) dX5_anew_51 ?_
        refine g_aload_n C dX5_anew_52 (gr _) rfl ?_
        refine M_g_row C q1191 dX5_anew_53 ?_
        refine g_bipush C dX5_anew_56 (by decide +kernel) ?_
        refine g_iload C dX5_anew_58 (gi _) rfl ?_
        refine g_iadd C dX5_anew_60 ?_
        refine g_iload C dX5_anew_61 (gi _) rfl ?_
        refine g_iload C dX5_anew_63 (gi _) rfl ?_
        refine g_irem C (by omega) dX5_anew_65 ?_
        refine M_st_row C (by omega) dX5_anew_66 ?_
        refine g_aload_n C dX5_anew_67 (gr _) rfl ?_
        refine M_g_row C q1191 dX5_anew_68 ?_
        refine g_bipush C dX5_anew_71 (by decide +kernel) ?_
        refine g_iload C dX5_anew_73 (gi _) rfl ?_
        refine g_iadd C dX5_anew_75 ?_
        refine g_iconst C dX5_anew_76 ?_
        refine M_st_row C (by omega) dX5_anew_77 ?_
        refine g_aload_n C dX5_anew_78 (gr _) rfl ?_
        refine M_g_row C q1191 dX5_anew_79 ?_
        refine g_bipush C dX5_anew_82 (by decide +kernel) ?_
        refine g_iload C dX5_anew_84 (gi _) rfl ?_
        refine g_iadd C dX5_anew_86 ?_
        refine g_iconst C dX5_anew_87 ?_
        refine M_st_row C (by omega) dX5_anew_88 ?_
        refine g_iinc1005 C dX5_anew_89 rfl ?_
        refine g_goto C (tgt := 32) dX5_anew_92 (by decide) ?_
        refine g_hE (gh (anA_s (S := anH S e p s t) (s := s) (t := t) (k := k) (by omega))) ?_
        exact ih1 _ (by omega) (by omega)
  refine g_hE (gh ((anA_0 (anH S e p s t) s t).symm)) ?_
  exact lp32_1 _ _ (by omega) (Nat.lt_succ_self _)

theorem nd_X5_write : yX5_write.cls ≠ "java/lang/invoke/MethodHandle" ∧ yX5_write.cls ≠ "java/lang/invoke/VarHandle" ∧ (parseMethodDescriptor yX5_write.desc).map (fun d => d.parameters.length) = some 1 := by decide +kernel
theorem mX5_write {l : Launch} {D : va_G} {dA : Nat → ClassId} {N0 : Nat} {Y : State → Prop} (hY : gYok N0 Y) {h : gH} {sz m : Nat} {S : MS} {c : Int} (hX : 0 ≤ S 10 3 ∧ S 10 3 ≤ 200) (hrc : -2147483648 ≤ c ∧ c ≤ 2147483647) : gM l D dA N0 Y yX5_write cX5_write 2 (some .int) 1 25 0 0 [.ref m, vI c] (ovM dA m S h) sz (gP (some (vI (writeV S c))) (ovM dA m (writeS S c) h) sz) := by
  refine gM.of hY (by decide +kernel) (Nat.le_of_ble_eq_true rfl) ?_
  intro X hX C hQ
  subst hX
  have C : gC X cX5_write RX5 "write" 2 (some .int) D dA N0 Y ({ frames := 1, cells := 0, slots := 0, locals := 25 }) := C
  show G X 0 0 _ _ 0 [some (.ref m), some (vI c)] []
  refine g_iload_n C dX5_write_0 (gi _) rfl ?_
  refine g_i2lz C dX5_write_1 (by omega) ?_
  refine g_lconstz C 0 rfl dX5_write_2 ?_
  refine g_ldc2z C 255 (by decide +kernel) q1251 dX5_write_3 ?_
  refine g_callS1z C (mX5_in hY (by omega)) (lw_S q1252 q1253 q72 q1254) nd_X5_in ⟨by decide, by decide⟩ ⟨Nat.le_of_ble_eq_true rfl, Nat.le_of_ble_eq_true rfl⟩ rfl (Nat.le_of_ble_eq_true rfl) dX5_write_6 ?_
  refine g_ifne_b C (tgt := 15) dX5_write_9 (by decide) (fun c1 => ?_) (fun c1 => ?_)
  · refine g_aload_n C dX5_write_15 (gr _) rfl ?_
    refine M_g_length C q1198 dX5_write_16 ?_
    refine g_sipush C dX5_write_19 (by decide +kernel) ?_
    refine g_icmp_ne C (tgt := 28) dX5_write_22 (by decide) (by omega) (fun c2 => ?_) (fun c2 => ?_)
    · refine g_aload_n C dX5_write_28 (gr _) rfl ?_
      refine M_g_text C q1197 dX5_write_29 ?_
      refine g_aload_n C dX5_write_32 (gr _) rfl ?_
      refine M_g_length C q1198 dX5_write_33 ?_
      refine g_iload_n C dX5_write_36 (gi _) rfl ?_
      refine M_st_text C (by omega) dX5_write_37 ?_
      refine g_aload_n C dX5_write_38 (gr _) rfl ?_
      refine g_dup C dX5_write_39 rfl ?_
      refine M_g_length C q1198 dX5_write_40 ?_
      refine g_top (b := S 10 3) (by simp [us_eq]) ?_
      refine g_iconst C dX5_write_43 ?_
      refine g_iadd C dX5_write_44 ?_
      refine M_p_length C q1198 dX5_write_45 ?_
      refine g_aload_n C dX5_write_48 (gr _) rfl ?_
      refine M_g_length C q1198 dX5_write_49 ?_
      refine g_top (b := S 10 3 + 1) (by simp [us_eq]) ?_
      exact g_iret C hQ rfl dX5_write_52 ⟨gv (by simp [writeV, *]), gh (by simp [writeS, *]), rfl⟩
    · refine g_bipush C dX5_write_25 (by decide +kernel) ?_
      exact g_iret C hQ rfl dX5_write_27 ⟨gv (by simp [writeV, *]), gh (by simp [writeS, *]), rfl⟩
  · refine g_bipush C dX5_write_12 (by decide +kernel) ?_
    exact g_iret C hQ rfl dX5_write_14 ⟨gv (by simp [writeV, *]), gh (by simp [writeS, *]), rfl⟩

theorem nd_X5_erase : yX5_erase.cls ≠ "java/lang/invoke/MethodHandle" ∧ yX5_erase.cls ≠ "java/lang/invoke/VarHandle" ∧ (parseMethodDescriptor yX5_erase.desc).map (fun d => d.parameters.length) = some 0 := by decide +kernel
theorem mX5_erase {l : Launch} {D : va_G} {dA : Nat → ClassId} {N0 : Nat} {Y : State → Prop} (hY : gYok N0 Y) {h : gH} {sz m : Nat} {S : MS}  : gM l D dA N0 Y yX5_erase cX5_erase 2 (some .int) 0 0 0 0 [.ref m] (ovM dA m S h) sz (gP (some (vI (S 10 3))) (ovM dA m (us S 10 3 0) h) sz) := by
  refine gM.of hY (by decide +kernel) (Nat.le_of_ble_eq_true rfl) ?_
  intro X hX C hQ
  subst hX
  have C : gC X cX5_erase RX5 "erase" 2 (some .int) D dA N0 Y ({ frames := 0, cells := 0, slots := 0, locals := 0 }) := C
  show G X 0 0 _ _ 0 [some (.ref m), none] []
  refine g_aload_n C dX5_erase_0 (gr _) rfl ?_
  refine M_g_length C q1198 dX5_erase_1 ?_
  refine g_istore_n1001 C dX5_erase_4 (gi _) rfl ?_
  refine g_aload_n C dX5_erase_5 (gr _) rfl ?_
  refine g_iconst C dX5_erase_6 ?_
  refine M_p_length C q1198 dX5_erase_7 ?_
  refine g_iload_n C dX5_erase_10 (gi _) rfl ?_
  exact g_iret C hQ rfl dX5_erase_11 ⟨rfl, rfl, rfl⟩

theorem nd_X5_keepPast : yX5_keepPast.cls ≠ "java/lang/invoke/MethodHandle" ∧ yX5_keepPast.cls ≠ "java/lang/invoke/VarHandle" ∧ (parseMethodDescriptor yX5_keepPast.desc).map (fun d => d.parameters.length) = some 0 := by decide +kernel
theorem mX5_keepPast {l : Launch} {D : va_G} {dA : Nat → ClassId} {N0 : Nat} {Y : State → Prop} (hY : gYok N0 Y) {h : gH} {sz m : Nat} {S : MS} (hU : 0 ≤ S 10 2 ∧ S 10 2 ≤ 8) : gM l D dA N0 Y yX5_keepPast cX5_keepPast 2 none 1 23 0 0 [.ref m] (ovM dA m S h) sz (gP none (ovM dA m (kpS S) h) sz) := by
  refine gM.of hY (by decide +kernel) (Nat.le_of_ble_eq_true rfl) ?_
  intro X hX C hQ
  subst hX
  have C : gC X cX5_keepPast RX5 "keepPast" 2 none D dA N0 Y ({ frames := 1, cells := 0, slots := 0, locals := 23 }) := C
  show G X 0 0 _ _ 0 [some (.ref m), none] []
  have hk : 0 ≤ kpU S ∧ kpU S ≤ 7 := by unfold kpU; split <;> omega
  refine g_iconst C dX5_keepPast_0 ?_
  refine g_istore_n1001 C dX5_keepPast_1 (gi _) rfl ?_
  have lp2_1 : ∀ (fuel : Nat) (k : Int), ((0 ≤ k ∧ k ≤ 406) ∧ (S 10 2 = 8 ∨ k = 0)) → (406 - k).toNat < fuel → G X 0 0 (ovM dA m (shK S k) h) sz 2 [some (.ref m), some (vI k)] [] := by
    intro fuel
    induction fuel with
    | zero => intro k hI hfu; exact absurd hfu (Nat.not_lt_zero _)
    | succ fuel ih =>
      intro k hI hfu
      have ih1 := ih
      refine g_iload_n C dX5_keepPast_2 (gi _) rfl ?_
      refine g_sipush C dX5_keepPast_3 (by decide +kernel) ?_
      refine g_icmp_ge C (tgt := 42) dX5_keepPast_6 (by decide) (by omega) (fun c1 => ?_) (fun c1 => ?_)
      · refine g_hE (gh (T := if S 10 2 = 8 then shK S 406 else S) (by by_cases h8 : S 10 2 = 8; (rw [if_pos h8, show k = 406 by omega]); (rw [if_neg h8, show k = 0 by omega, shK_0]))) ?_
        refine g_aload_n C dX5_keepPast_42 (gr _) rfl ?_
        refine g_dup C dX5_keepPast_43 rfl ?_
        refine M_g_undos C q1195 dX5_keepPast_44 ?_
        refine g_top (b := S 10 2) (by rw [kp0_10]) ?_
        refine g_aload_n C dX5_keepPast_47 (gr _) rfl ?_
        refine M_g_undos C q1195 dX5_keepPast_48 ?_
        refine g_top (b := S 10 2) (by rw [kp0_10]) ?_
        refine g_bipush C dX5_keepPast_51 (by decide +kernel) ?_
        refine g_icmp_ne C (tgt := 60) dX5_keepPast_53 (by decide) (by omega) (fun c2 => ?_) (fun c2 => ?_)
        · refine g_iconst C dX5_keepPast_60 ?_
          refine g_isub C dX5_keepPast_61 ?_
          refine g_top (b := kpU S) (by unfold kpU; split <;> omega) ?_
          refine M_p_undos C q1195 dX5_keepPast_62 ?_
          refine g_aload_n C dX5_keepPast_65 (gr _) rfl ?_
          refine g_iconst C dX5_keepPast_66 ?_
          refine g_bipush C dX5_keepPast_67 (by decide +kernel) ?_
          refine g_bipush C dX5_keepPast_69 (by decide +kernel) ?_
          refine g_aload_n C dX5_keepPast_71 (gr _) rfl ?_
          refine M_g_undos C q1195 dX5_keepPast_72 ?_
          refine g_top (b := kpU S) (by simp [us_eq]) ?_
          refine g_imul C dX5_keepPast_75 ?_
          refine g_iadd C dX5_keepPast_76 ?_
          refine g_callV0z C (mX5_copyRow hY (by omega)) (lw_V q1379 q1381 qs47 q72 q1382) ⟨rfl, nd_X5_copyRow⟩ (ovM_0 _ _ _ _) rfl ⟨by decide, by decide⟩ ⟨Nat.le_of_ble_eq_true rfl, Nat.le_of_ble_eq_true rfl⟩ rfl (Nat.le_of_ble_eq_true rfl) dX5_keepPast_77 ?_
          refine g_aload_n C dX5_keepPast_80 (gr _) rfl ?_
          refine g_dup C dX5_keepPast_81 rfl ?_
          refine M_g_undos C q1195 dX5_keepPast_82 ?_
          refine g_top (b := kpU S) (by rw [cpR_n (by omega), us_eq, if_pos ⟨rfl, rfl⟩]) ?_
          refine g_iconst C dX5_keepPast_85 ?_
          refine g_iadd C dX5_keepPast_86 ?_
          refine M_p_undos C q1195 dX5_keepPast_87 ?_
          exact g_vret C hQ rfl dX5_keepPast_90 ⟨rfl, rfl, rfl⟩
        · refine g_iconst C dX5_keepPast_56 ?_
          refine g_goto C (tgt := 61) dX5_keepPast_57 (by decide) ?_
          refine g_isub C dX5_keepPast_61 ?_
          refine g_top (b := kpU S) (by unfold kpU; split <;> omega) ?_
          refine M_p_undos C q1195 dX5_keepPast_62 ?_
          refine g_aload_n C dX5_keepPast_65 (gr _) rfl ?_
          refine g_iconst C dX5_keepPast_66 ?_
          refine g_bipush C dX5_keepPast_67 (by decide +kernel) ?_
          refine g_bipush C dX5_keepPast_69 (by decide +kernel) ?_
          refine g_aload_n C dX5_keepPast_71 (gr _) rfl ?_
          refine M_g_undos C q1195 dX5_keepPast_72 ?_
          refine g_top (b := kpU S) (by simp [us_eq]) ?_
          refine g_imul C dX5_keepPast_75 ?_
          refine g_iadd C dX5_keepPast_76 ?_
          refine g_callV0z C (mX5_copyRow hY (by omega)) (lw_V q1379 q1381 qs47 q72 q1382) ⟨rfl, nd_X5_copyRow⟩ (ovM_0 _ _ _ _) rfl ⟨by decide, by decide⟩ ⟨Nat.le_of_ble_eq_true rfl, Nat.le_of_ble_eq_true rfl⟩ rfl (Nat.le_of_ble_eq_true rfl) dX5_keepPast_77 ?_
          refine g_aload_n C dX5_keepPast_80 (gr _) rfl ?_
          refine g_dup C dX5_keepPast_81 rfl ?_
          refine M_g_undos C q1195 dX5_keepPast_82 ?_
          refine g_top (b := kpU S) (by rw [cpR_n (by omega), us_eq, if_pos ⟨rfl, rfl⟩]) ?_
          refine g_iconst C dX5_keepPast_85 ?_
          refine g_iadd C dX5_keepPast_86 ?_
          refine M_p_undos C q1195 dX5_keepPast_87 ?_
          exact g_vret C hQ rfl dX5_keepPast_90 ⟨rfl, rfl, rfl⟩
      · refine g_aload_n C dX5_keepPast_9 (gr _) rfl ?_
        refine M_g_undos C q1195 dX5_keepPast_10 ?_
        refine g_top (b := S 10 2) (by rw [shK_n _ _ (by omega)]) ?_
        refine g_bipush C dX5_keepPast_13 (by decide +kernel) ?_
        refine g_icmp_ne C (tgt := 42) dX5_keepPast_15 (by decide) (by omega) (fun c3 => ?_) (fun c3 => ?_)
        · refine g_hE (gh (T := if S 10 2 = 8 then shK S 406 else S) (by by_cases h8 : S 10 2 = 8; (rw [if_pos h8, show k = 406 by omega]); (rw [if_neg h8, show k = 0 by omega, shK_0]))) ?_
          refine g_aload_n C dX5_keepPast_42 (gr _) rfl ?_
          refine g_dup C dX5_keepPast_43 rfl ?_
          refine M_g_undos C q1195 dX5_keepPast_44 ?_
          refine g_top (b := S 10 2) (by rw [kp0_10]) ?_
          refine g_aload_n C dX5_keepPast_47 (gr _) rfl ?_
          refine M_g_undos C q1195 dX5_keepPast_48 ?_
          refine g_top (b := S 10 2) (by rw [kp0_10]) ?_
          refine g_bipush C dX5_keepPast_51 (by decide +kernel) ?_
          refine g_icmp_ne C (tgt := 60) dX5_keepPast_53 (by decide) (by omega) (fun c4 => ?_) (fun c4 => ?_)
          · refine g_iconst C dX5_keepPast_60 ?_
            refine g_isub C dX5_keepPast_61 ?_
            refine g_top (b := kpU S) (by unfold kpU; split <;> omega) ?_
            refine M_p_undos C q1195 dX5_keepPast_62 ?_
            refine g_aload_n C dX5_keepPast_65 (gr _) rfl ?_
            refine g_iconst C dX5_keepPast_66 ?_
            refine g_bipush C dX5_keepPast_67 (by decide +kernel) ?_
            refine g_bipush C dX5_keepPast_69 (by decide +kernel) ?_
            refine g_aload_n C dX5_keepPast_71 (gr _) rfl ?_
            refine M_g_undos C q1195 dX5_keepPast_72 ?_
            refine g_top (b := kpU S) (by simp [us_eq]) ?_
            refine g_imul C dX5_keepPast_75 ?_
            refine g_iadd C dX5_keepPast_76 ?_
            refine g_callV0z C (mX5_copyRow hY (by omega)) (lw_V q1379 q1381 qs47 q72 q1382) ⟨rfl, nd_X5_copyRow⟩ (ovM_0 _ _ _ _) rfl ⟨by decide, by decide⟩ ⟨Nat.le_of_ble_eq_true rfl, Nat.le_of_ble_eq_true rfl⟩ rfl (Nat.le_of_ble_eq_true rfl) dX5_keepPast_77 ?_
            refine g_aload_n C dX5_keepPast_80 (gr _) rfl ?_
            refine g_dup C dX5_keepPast_81 rfl ?_
            refine M_g_undos C q1195 dX5_keepPast_82 ?_
            refine g_top (b := kpU S) (by rw [cpR_n (by omega), us_eq, if_pos ⟨rfl, rfl⟩]) ?_
            refine g_iconst C dX5_keepPast_85 ?_
            refine g_iadd C dX5_keepPast_86 ?_
            refine M_p_undos C q1195 dX5_keepPast_87 ?_
            exact g_vret C hQ rfl dX5_keepPast_90 ⟨rfl, rfl, rfl⟩
          · refine g_iconst C dX5_keepPast_56 ?_
            refine g_goto C (tgt := 61) dX5_keepPast_57 (by decide) ?_
            refine g_isub C dX5_keepPast_61 ?_
            refine g_top (b := kpU S) (by unfold kpU; split <;> omega) ?_
            refine M_p_undos C q1195 dX5_keepPast_62 ?_
            refine g_aload_n C dX5_keepPast_65 (gr _) rfl ?_
            refine g_iconst C dX5_keepPast_66 ?_
            refine g_bipush C dX5_keepPast_67 (by decide +kernel) ?_
            refine g_bipush C dX5_keepPast_69 (by decide +kernel) ?_
            refine g_aload_n C dX5_keepPast_71 (gr _) rfl ?_
            refine M_g_undos C q1195 dX5_keepPast_72 ?_
            refine g_top (b := kpU S) (by simp [us_eq]) ?_
            refine g_imul C dX5_keepPast_75 ?_
            refine g_iadd C dX5_keepPast_76 ?_
            refine g_callV0z C (mX5_copyRow hY (by omega)) (lw_V q1379 q1381 qs47 q72 q1382) ⟨rfl, nd_X5_copyRow⟩ (ovM_0 _ _ _ _) rfl ⟨by decide, by decide⟩ ⟨Nat.le_of_ble_eq_true rfl, Nat.le_of_ble_eq_true rfl⟩ rfl (Nat.le_of_ble_eq_true rfl) dX5_keepPast_77 ?_
            refine g_aload_n C dX5_keepPast_80 (gr _) rfl ?_
            refine g_dup C dX5_keepPast_81 rfl ?_
            refine M_g_undos C q1195 dX5_keepPast_82 ?_
            refine g_top (b := kpU S) (by rw [cpR_n (by omega), us_eq, if_pos ⟨rfl, rfl⟩]) ?_
            refine g_iconst C dX5_keepPast_85 ?_
            refine g_iadd C dX5_keepPast_86 ?_
            refine M_p_undos C q1195 dX5_keepPast_87 ?_
            exact g_vret C hQ rfl dX5_keepPast_90 ⟨rfl, rfl, rfl⟩
        · refine g_aload_n C dX5_keepPast_18 (gr _) rfl ?_
          refine M_g_row C q1191 dX5_keepPast_19 ?_
          refine g_bipush C dX5_keepPast_22 (by decide +kernel) ?_
          refine g_iload_n C dX5_keepPast_24 (gi _) rfl ?_
          refine g_iadd C dX5_keepPast_25 ?_
          refine g_aload_n C dX5_keepPast_26 (gr _) rfl ?_
          refine M_g_row C q1191 dX5_keepPast_27 ?_
          refine g_bipush C dX5_keepPast_30 (by decide +kernel) ?_
          refine g_iload_n C dX5_keepPast_32 (gi _) rfl ?_
          refine g_iadd C dX5_keepPast_33 ?_
          refine M_ld_row C (by omega) dX5_keepPast_34 ?_
          refine M_st_row C (by omega) dX5_keepPast_35 ?_
          refine g_iinc1001 C dX5_keepPast_36 rfl ?_
          refine g_goto C (tgt := 2) dX5_keepPast_39 (by decide) ?_
          refine g_hE (gh (shK_s (S := S) (k := k) (by omega))) ?_
          exact ih1 _ (by omega) (by omega)
  refine g_hE (gh ((shK_0 S).symm)) ?_
  exact lp2_1 _ _ (by omega) (Nat.lt_succ_self _)

theorem nd_X5_lays : yX5_lays.cls ≠ "java/lang/invoke/MethodHandle" ∧ yX5_lays.cls ≠ "java/lang/invoke/VarHandle" ∧ (parseMethodDescriptor yX5_lays.desc).map (fun d => d.parameters.length) = some 2 := by decide +kernel
theorem mX5_lays {l : Launch} {D : va_G} {dA : Nat → ClassId} {N0 : Nat} {Y : State → Prop} (hY : gYok N0 Y) {h : gH} {sz m : Nat} {S : MS} {p v : Int} (hU : 0 ≤ S 10 2 ∧ S 10 2 ≤ 8) (hp : 0 ≤ p ∧ p < 58) : gM l D dA N0 Y yX5_lays cX5_lays 4 (some .int) 2 44 0 0 [.ref m, vI p, vI v] (ovM dA m S h) sz (gP (some (vI (S 0 p))) (ovM dA m (layS S p v) h) sz) := by
  refine gM.of hY (by decide +kernel) (Nat.le_of_ble_eq_true rfl) ?_
  intro X hX C hQ
  subst hX
  have C : gC X cX5_lays RX5 "lays" 4 (some .int) D dA N0 Y ({ frames := 2, cells := 0, slots := 0, locals := 44 }) := C
  show G X 0 0 _ _ 0 [some (.ref m), some (vI p), some (vI v), none] []
  refine g_aload_n C dX5_lays_0 (gr _) rfl ?_
  refine g_callV0z C (mX5_keepPast hY (by omega)) (lw_V q1375 q1377 qs46 q72 q1378) ⟨rfl, nd_X5_keepPast⟩ (ovM_0 _ _ _ _) rfl ⟨by decide, by decide⟩ ⟨Nat.le_of_ble_eq_true rfl, Nat.le_of_ble_eq_true rfl⟩ rfl (Nat.le_of_ble_eq_true rfl) dX5_lays_1 ?_
  refine g_aload_n C dX5_lays_4 (gr _) rfl ?_
  refine M_g_row C q1191 dX5_lays_5 ?_
  refine g_iload_n C dX5_lays_8 (gi _) rfl ?_
  refine M_ld_row C (by omega) dX5_lays_9 ?_
  refine g_top (b := S 0 p) (by rw [kpS_now hU.1 hp.2]) ?_
  refine g_istore_n1003 C dX5_lays_10 (gi _) rfl ?_
  refine g_aload_n C dX5_lays_11 (gr _) rfl ?_
  refine M_g_row C q1191 dX5_lays_12 ?_
  refine g_iload_n C dX5_lays_15 (gi _) rfl ?_
  refine g_iload_n C dX5_lays_16 (gi _) rfl ?_
  refine M_st_row C (by omega) dX5_lays_17 ?_
  refine g_iload_n C dX5_lays_18 (gi _) rfl ?_
  exact g_iret C hQ rfl dX5_lays_19 ⟨rfl, rfl, rfl⟩

theorem nd_X5_draw : yX5_draw.cls ≠ "java/lang/invoke/MethodHandle" ∧ yX5_draw.cls ≠ "java/lang/invoke/VarHandle" ∧ (parseMethodDescriptor yX5_draw.desc).map (fun d => d.parameters.length) = some 2 := by decide +kernel
theorem mX5_draw {l : Launch} {D : va_G} {dA : Nat → ClassId} {N0 : Nat} {Y : State → Prop} (hY : gYok N0 Y) {h : gH} {sz m : Nat} {S : MS} {i s : Int} (hO : OkD (S 0)) (hU : 0 ≤ S 10 2 ∧ S 10 2 ≤ 8) (hri : -2147483648 ≤ i ∧ i ≤ 2147483647) (hrs : -2147483648 ≤ s ∧ s ≤ 2147483647) : gM l D dA N0 Y yX5_draw cX5_draw 3 (some .int) 3 67 0 0 [.ref m, vI i, vI s] (ovM dA m S h) sz (gP (some (vI (drawV S i s))) (ovM dA m (drawS S i s) h) sz) := by
  refine gM.of hY (by decide +kernel) (Nat.le_of_ble_eq_true rfl) ?_
  intro X hX C hQ
  subst hX
  have C : gC X cX5_draw RX5 "draw" 3 (some .int) D dA N0 Y ({ frames := 3, cells := 0, slots := 0, locals := 67 }) := C
  show G X 0 0 _ _ 0 [some (.ref m), some (vI i), some (vI s)] []
  have hn := hO.1
  refine g_aload_n C dX5_draw_0 (gr _) rfl ?_
  refine g_iload_n C dX5_draw_1 (gi _) rfl ?_
  refine g_callV1z C (mX5_isEnd hY (by omega)) (lw_V q1317 q1319 qs37 q72 q1320) ⟨rfl, nd_X5_isEnd⟩ (ovM_0 _ _ _ _) rfl ⟨by decide, by decide⟩ ⟨Nat.le_of_ble_eq_true rfl, Nat.le_of_ble_eq_true rfl⟩ rfl (Nat.le_of_ble_eq_true rfl) dX5_draw_2 ?_
  refine g_ifeq_b C (tgt := 27) dX5_draw_5 (by decide) (fun c1 => ?_) (fun c1 => ?_)
  · refine g_bipush C dX5_draw_27 (by decide +kernel) ?_
    exact g_iret C hQ rfl dX5_draw_29 ⟨gv (by simp [drawV, *]), gh (by simp [drawS, *]), rfl⟩
  · have hae := inB_t.mp c1
    refine g_aload_n C dX5_draw_8 (gr _) rfl ?_
    refine g_iload_n C dX5_draw_9 (gi _) rfl ?_
    refine g_callV1z C (mX5_isShaft hY (by omega)) (lw_V q1367 q1369 qs44 q72 q1370) ⟨rfl, nd_X5_isShaft⟩ (ovM_0 _ _ _ _) rfl ⟨by decide, by decide⟩ ⟨Nat.le_of_ble_eq_true rfl, Nat.le_of_ble_eq_true rfl⟩ rfl (Nat.le_of_ble_eq_true rfl) dX5_draw_10 ?_
    refine g_ifeq_b C (tgt := 27) dX5_draw_13 (by decide) (fun c2 => ?_) (fun c2 => ?_)
    · refine g_bipush C dX5_draw_27 (by decide +kernel) ?_
      exact g_iret C hQ rfl dX5_draw_29 ⟨gv (by simp [drawV, *]), gh (by simp [drawS, *]), rfl⟩
    · have hbe := inB_t.mp c2
      refine g_aload_n C dX5_draw_16 (gr _) rfl ?_
      refine g_iconst C dX5_draw_17 ?_
      refine g_iload_n C dX5_draw_18 (gi _) rfl ?_
      refine g_iadd C dX5_draw_19 ?_
      refine g_iload_n C dX5_draw_20 (gi _) rfl ?_
      refine g_callV1z C (mX5_lays hY (by omega) (by omega)) (lw_V q1371 q1373 qs45 q72 q1374) ⟨rfl, nd_X5_lays⟩ (ovM_0 _ _ _ _) rfl ⟨by decide, by decide⟩ ⟨Nat.le_of_ble_eq_true rfl, Nat.le_of_ble_eq_true rfl⟩ rfl (Nat.le_of_ble_eq_true rfl) dX5_draw_21 ?_
      refine g_goto C (tgt := 29) dX5_draw_24 (by decide) ?_
      exact g_iret C hQ rfl dX5_draw_29 ⟨gv (by simp [drawV, *]), gh (by simp [drawS, *]), rfl⟩

theorem nd_X5_tread : yX5_tread.cls ≠ "java/lang/invoke/MethodHandle" ∧ yX5_tread.cls ≠ "java/lang/invoke/VarHandle" ∧ (parseMethodDescriptor yX5_tread.desc).map (fun d => d.parameters.length) = some 2 := by decide +kernel
theorem mX5_tread {l : Launch} {D : va_G} {dA : Nat → ClassId} {N0 : Nat} {Y : State → Prop} (hY : gYok N0 Y) {h : gH} {sz m : Nat} {S : MS} {q j : Int} (hO : OkD (S 0)) (hU : 0 ≤ S 10 2 ∧ S 10 2 ≤ 8) (hrq : -2147483648 ≤ q ∧ q ≤ 2147483647) (hrj : -2147483648 ≤ j ∧ j ≤ 2147483647) : gM l D dA N0 Y yX5_tread cX5_tread 3 (some .int) 3 67 0 0 [.ref m, vI q, vI j] (ovM dA m S h) sz (gP (some (vI (treadV S q j))) (ovM dA m (treadS S q j) h) sz) := by
  refine gM.of hY (by decide +kernel) (Nat.le_of_ble_eq_true rfl) ?_
  intro X hX C hQ
  subst hX
  have C : gC X cX5_tread RX5 "tread" 3 (some .int) D dA N0 Y ({ frames := 3, cells := 0, slots := 0, locals := 67 }) := C
  show G X 0 0 _ _ 0 [some (.ref m), some (vI q), some (vI j)] []
  have hn := hO.1
  refine g_aload_n C dX5_tread_0 (gr _) rfl ?_
  refine g_iload_n C dX5_tread_1 (gi _) rfl ?_
  refine g_callV1z C (mX5_isPick hY (by omega)) (lw_V q1339 q1341 qs40 q72 q1342) ⟨rfl, nd_X5_isPick⟩ (ovM_0 _ _ _ _) rfl ⟨by decide, by decide⟩ ⟨Nat.le_of_ble_eq_true rfl, Nat.le_of_ble_eq_true rfl⟩ rfl (Nat.le_of_ble_eq_true rfl) dX5_tread_2 ?_
  refine g_ifeq_b C (tgt := 28) dX5_tread_5 (by decide) (fun c1 => ?_) (fun c1 => ?_)
  · refine g_bipush C dX5_tread_28 (by decide +kernel) ?_
    exact g_iret C hQ rfl dX5_tread_30 ⟨gv (by simp [treadV, *]), gh (by simp [treadS, *]), rfl⟩
  · have hae := inB_t.mp c1
    refine g_aload_n C dX5_tread_8 (gr _) rfl ?_
    refine g_iload_n C dX5_tread_9 (gi _) rfl ?_
    refine g_callV1z C (mX5_isTreadle hY (by omega)) (lw_V q1355 q1357 qs43 q72 q1358) ⟨rfl, nd_X5_isTreadle⟩ (ovM_0 _ _ _ _) rfl ⟨by decide, by decide⟩ ⟨Nat.le_of_ble_eq_true rfl, Nat.le_of_ble_eq_true rfl⟩ rfl (Nat.le_of_ble_eq_true rfl) dX5_tread_10 ?_
    refine g_ifeq_b C (tgt := 28) dX5_tread_13 (by decide) (fun c2 => ?_) (fun c2 => ?_)
    · refine g_bipush C dX5_tread_28 (by decide +kernel) ?_
      exact g_iret C hQ rfl dX5_tread_30 ⟨gv (by simp [treadV, *]), gh (by simp [treadS, *]), rfl⟩
    · have hbe := inB_t.mp c2
      refine g_aload_n C dX5_tread_16 (gr _) rfl ?_
      refine g_bipush C dX5_tread_17 (by decide +kernel) ?_
      refine g_iload_n C dX5_tread_19 (gi _) rfl ?_
      refine g_iadd C dX5_tread_20 ?_
      refine g_iload_n C dX5_tread_21 (gi _) rfl ?_
      refine g_callV1z C (mX5_lays hY (by omega) (by omega)) (lw_V q1371 q1373 qs45 q72 q1374) ⟨rfl, nd_X5_lays⟩ (ovM_0 _ _ _ _) rfl ⟨by decide, by decide⟩ ⟨Nat.le_of_ble_eq_true rfl, Nat.le_of_ble_eq_true rfl⟩ rfl (Nat.le_of_ble_eq_true rfl) dX5_tread_22 ?_
      refine g_goto C (tgt := 30) dX5_tread_25 (by decide) ?_
      exact g_iret C hQ rfl dX5_tread_30 ⟨gv (by simp [treadV, *]), gh (by simp [treadS, *]), rfl⟩

theorem nd_X5_tie : yX5_tie.cls ≠ "java/lang/invoke/MethodHandle" ∧ yX5_tie.cls ≠ "java/lang/invoke/VarHandle" ∧ (parseMethodDescriptor yX5_tie.desc).map (fun d => d.parameters.length) = some 2 := by decide +kernel
theorem mX5_tie {l : Launch} {D : va_G} {dA : Nat → ClassId} {N0 : Nat} {Y : State → Prop} (hY : gYok N0 Y) {h : gH} {sz m : Nat} {S : MS} {j s : Int} (hO : OkD (S 0)) (hU : 0 ≤ S 10 2 ∧ S 10 2 ≤ 8) (hrj : -2147483648 ≤ j ∧ j ≤ 2147483647) (hrs : -2147483648 ≤ s ∧ s ≤ 2147483647) : gM l D dA N0 Y yX5_tie cX5_tie 3 (some .int) 3 67 0 0 [.ref m, vI j, vI s] (ovM dA m S h) sz (gP (some (vI (tieV S j s))) (ovM dA m (tieS S j s) h) sz) := by
  refine gM.of hY (by decide +kernel) (Nat.le_of_ble_eq_true rfl) ?_
  intro X hX C hQ
  subst hX
  have C : gC X cX5_tie RX5 "tie" 3 (some .int) D dA N0 Y ({ frames := 3, cells := 0, slots := 0, locals := 67 }) := C
  show G X 0 0 _ _ 0 [some (.ref m), some (vI j), some (vI s)] []
  have hn := hO.1
  refine g_aload_n C dX5_tie_0 (gr _) rfl ?_
  refine g_iload_n C dX5_tie_1 (gi _) rfl ?_
  refine g_callV1z C (mX5_isTreadle hY (by omega)) (lw_V q1355 q1357 qs43 q72 q1358) ⟨rfl, nd_X5_isTreadle⟩ (ovM_0 _ _ _ _) rfl ⟨by decide, by decide⟩ ⟨Nat.le_of_ble_eq_true rfl, Nat.le_of_ble_eq_true rfl⟩ rfl (Nat.le_of_ble_eq_true rfl) dX5_tie_2 ?_
  refine g_ifeq_b C (tgt := 16) dX5_tie_5 (by decide) (fun c1 => ?_) (fun c1 => ?_)
  · refine g_bipush C dX5_tie_16 (by decide +kernel) ?_
    exact g_iret C hQ rfl dX5_tie_18 ⟨gv (by simp [tieV, *]), gh (by simp [tieS, *]), rfl⟩
  · have hae := inB_t.mp c1
    refine g_aload_n C dX5_tie_8 (gr _) rfl ?_
    refine g_iload_n C dX5_tie_9 (gi _) rfl ?_
    refine g_callV1z C (mX5_isShaft hY (by omega)) (lw_V q1367 q1369 qs44 q72 q1370) ⟨rfl, nd_X5_isShaft⟩ (ovM_0 _ _ _ _) rfl ⟨by decide, by decide⟩ ⟨Nat.le_of_ble_eq_true rfl, Nat.le_of_ble_eq_true rfl⟩ rfl (Nat.le_of_ble_eq_true rfl) dX5_tie_10 ?_
    refine g_ifne_b C (tgt := 19) dX5_tie_13 (by decide) (fun c2 => ?_) (fun c2 => ?_)
    · have hbe := inB_t.mp c2
      have htj := hO.tied j (by omega)
      have hss := sh6 (i := s) (by omega)
      refine g_aload_n C dX5_tie_19 (gr _) rfl ?_
      refine g_bipush C dX5_tie_20 (by decide +kernel) ?_
      refine g_iload_n C dX5_tie_22 (gi _) rfl ?_
      refine g_iadd C dX5_tie_23 ?_
      refine g_aload_n C dX5_tie_24 (gr _) rfl ?_
      refine M_g_row C q1191 dX5_tie_25 ?_
      refine g_bipush C dX5_tie_28 (by decide +kernel) ?_
      refine g_iload_n C dX5_tie_30 (gi _) rfl ?_
      refine g_iadd C dX5_tie_31 ?_
      refine M_ld_row C (by omega) dX5_tie_32 ?_
      refine g_iconst C dX5_tie_33 ?_
      refine g_iload_n C dX5_tie_34 (gi _) rfl ?_
      refine g_ishl C dX5_tie_35 (zI_shl (by omega)) ?_
      refine g_ixor C dX5_tie_36 (zI_xor (by omega)) ?_
      refine g_callV1z C (mX5_lays hY (by omega) (by omega)) (lw_V q1371 q1373 qs45 q72 q1374) ⟨rfl, nd_X5_lays⟩ (ovM_0 _ _ _ _) rfl ⟨by decide, by decide⟩ ⟨Nat.le_of_ble_eq_true rfl, Nat.le_of_ble_eq_true rfl⟩ rfl (Nat.le_of_ble_eq_true rfl) dX5_tie_37 ?_
      refine g_pop C dX5_tie_40 rfl ?_
      refine g_aload_n C dX5_tie_41 (gr _) rfl ?_
      refine M_g_row C q1191 dX5_tie_42 ?_
      refine g_bipush C dX5_tie_45 (by decide +kernel) ?_
      refine g_iload_n C dX5_tie_47 (gi _) rfl ?_
      refine g_iadd C dX5_tie_48 ?_
      refine M_ld_row C (by omega) dX5_tie_49 ?_
      refine g_top (b := xorI (S 0 (16 + j)) (shI s)) (by simp [layS, us_eq]) ?_
      exact g_iret C hQ rfl dX5_tie_50 ⟨gv (by simp [tieV, *]), gh (by simp [tieS, *]), rfl⟩
    · refine g_bipush C dX5_tie_16 (by decide +kernel) ?_
      exact g_iret C hQ rfl dX5_tie_18 ⟨gv (by simp [tieV, *]), gh (by simp [tieS, *]), rfl⟩

theorem nd_X5_warp : yX5_warp.cls ≠ "java/lang/invoke/MethodHandle" ∧ yX5_warp.cls ≠ "java/lang/invoke/VarHandle" ∧ (parseMethodDescriptor yX5_warp.desc).map (fun d => d.parameters.length) = some 2 := by decide +kernel
theorem mX5_warp {l : Launch} {D : va_G} {dA : Nat → ClassId} {N0 : Nat} {Y : State → Prop} (hY : gYok N0 Y) {h : gH} {sz m : Nat} {S : MS} {i c : Int} (hO : OkD (S 0)) (hU : 0 ≤ S 10 2 ∧ S 10 2 ≤ 8) (hri : -2147483648 ≤ i ∧ i ≤ 2147483647) (hrc : -2147483648 ≤ c ∧ c ≤ 2147483647) : gM l D dA N0 Y yX5_warp cX5_warp 3 (some .int) 3 67 0 0 [.ref m, vI i, vI c] (ovM dA m S h) sz (gP (some (vI (warpV S i c))) (ovM dA m (warpS S i c) h) sz) := by
  refine gM.of hY (by decide +kernel) (Nat.le_of_ble_eq_true rfl) ?_
  intro X hX C hQ
  subst hX
  have C : gC X cX5_warp RX5 "warp" 3 (some .int) D dA N0 Y ({ frames := 3, cells := 0, slots := 0, locals := 67 }) := C
  show G X 0 0 _ _ 0 [some (.ref m), some (vI i), some (vI c)] []
  have hn := hO.1
  refine g_aload_n C dX5_warp_0 (gr _) rfl ?_
  refine g_iload_n C dX5_warp_1 (gi _) rfl ?_
  refine g_callV1z C (mX5_isEnd hY (by omega)) (lw_V q1317 q1319 qs37 q72 q1320) ⟨rfl, nd_X5_isEnd⟩ (ovM_0 _ _ _ _) rfl ⟨by decide, by decide⟩ ⟨Nat.le_of_ble_eq_true rfl, Nat.le_of_ble_eq_true rfl⟩ rfl (Nat.le_of_ble_eq_true rfl) dX5_warp_2 ?_
  refine g_ifne_b C (tgt := 13) dX5_warp_5 (by decide) (fun c1 => ?_) (fun c1 => ?_)
  · have hae := inB_t.mp c1
    refine g_iload_n C dX5_warp_13 (gi _) rfl ?_
    refine g_i2lz C dX5_warp_14 (by omega) ?_
    refine g_lconstz C 0 rfl dX5_warp_15 ?_
    refine g_ldc2z C 9 (by decide +kernel) q1395 dX5_warp_16 ?_
    refine g_callS1z C (mX5_in hY (by omega)) (lw_S q1252 q1253 q72 q1254) nd_X5_in ⟨by decide, by decide⟩ ⟨Nat.le_of_ble_eq_true rfl, Nat.le_of_ble_eq_true rfl⟩ rfl (Nat.le_of_ble_eq_true rfl) dX5_warp_19 ?_
    refine g_ifeq_b C (tgt := 37) dX5_warp_22 (by decide) (fun c2 => ?_) (fun c2 => ?_)
    · refine g_bipush C dX5_warp_37 (by decide +kernel) ?_
      exact g_iret C hQ rfl dX5_warp_39 ⟨gv (by simp [warpV, *]), gh (by simp [warpS, *]), rfl⟩
    · have hbe := inB_t.mp c2
      refine g_aload_n C dX5_warp_25 (gr _) rfl ?_
      refine g_bipush C dX5_warp_26 (by decide +kernel) ?_
      refine g_iload_n C dX5_warp_28 (gi _) rfl ?_
      refine g_iadd C dX5_warp_29 ?_
      refine g_iload_n C dX5_warp_30 (gi _) rfl ?_
      refine g_callV1z C (mX5_lays hY (by omega) (by omega)) (lw_V q1371 q1373 qs45 q72 q1374) ⟨rfl, nd_X5_lays⟩ (ovM_0 _ _ _ _) rfl ⟨by decide, by decide⟩ ⟨Nat.le_of_ble_eq_true rfl, Nat.le_of_ble_eq_true rfl⟩ rfl (Nat.le_of_ble_eq_true rfl) dX5_warp_31 ?_
      refine g_goto C (tgt := 39) dX5_warp_34 (by decide) ?_
      exact g_iret C hQ rfl dX5_warp_39 ⟨gv (by simp [warpV, *]), gh (by simp [warpS, *]), rfl⟩
  · refine g_bipush C dX5_warp_8 (by decide +kernel) ?_
    refine g_goto C (tgt := 39) dX5_warp_10 (by decide) ?_
    exact g_iret C hQ rfl dX5_warp_39 ⟨gv (by simp [warpV, *]), gh (by simp [warpS, *]), rfl⟩

theorem nd_X5_weft : yX5_weft.cls ≠ "java/lang/invoke/MethodHandle" ∧ yX5_weft.cls ≠ "java/lang/invoke/VarHandle" ∧ (parseMethodDescriptor yX5_weft.desc).map (fun d => d.parameters.length) = some 2 := by decide +kernel
theorem mX5_weft {l : Launch} {D : va_G} {dA : Nat → ClassId} {N0 : Nat} {Y : State → Prop} (hY : gYok N0 Y) {h : gH} {sz m : Nat} {S : MS} {q c : Int} (hO : OkD (S 0)) (hU : 0 ≤ S 10 2 ∧ S 10 2 ≤ 8) (hrq : -2147483648 ≤ q ∧ q ≤ 2147483647) (hrc : -2147483648 ≤ c ∧ c ≤ 2147483647) : gM l D dA N0 Y yX5_weft cX5_weft 3 (some .int) 3 67 0 0 [.ref m, vI q, vI c] (ovM dA m S h) sz (gP (some (vI (weftV S q c))) (ovM dA m (weftS S q c) h) sz) := by
  refine gM.of hY (by decide +kernel) (Nat.le_of_ble_eq_true rfl) ?_
  intro X hX C hQ
  subst hX
  have C : gC X cX5_weft RX5 "weft" 3 (some .int) D dA N0 Y ({ frames := 3, cells := 0, slots := 0, locals := 67 }) := C
  show G X 0 0 _ _ 0 [some (.ref m), some (vI q), some (vI c)] []
  have hn := hO.1
  refine g_aload_n C dX5_weft_0 (gr _) rfl ?_
  refine g_iload_n C dX5_weft_1 (gi _) rfl ?_
  refine g_callV1z C (mX5_isPick hY (by omega)) (lw_V q1339 q1341 qs40 q72 q1342) ⟨rfl, nd_X5_isPick⟩ (ovM_0 _ _ _ _) rfl ⟨by decide, by decide⟩ ⟨Nat.le_of_ble_eq_true rfl, Nat.le_of_ble_eq_true rfl⟩ rfl (Nat.le_of_ble_eq_true rfl) dX5_weft_2 ?_
  refine g_ifne_b C (tgt := 13) dX5_weft_5 (by decide) (fun c1 => ?_) (fun c1 => ?_)
  · have hae := inB_t.mp c1
    refine g_iload_n C dX5_weft_13 (gi _) rfl ?_
    refine g_i2lz C dX5_weft_14 (by omega) ?_
    refine g_lconstz C 0 rfl dX5_weft_15 ?_
    refine g_ldc2z C 9 (by decide +kernel) q1395 dX5_weft_16 ?_
    refine g_callS1z C (mX5_in hY (by omega)) (lw_S q1252 q1253 q72 q1254) nd_X5_in ⟨by decide, by decide⟩ ⟨Nat.le_of_ble_eq_true rfl, Nat.le_of_ble_eq_true rfl⟩ rfl (Nat.le_of_ble_eq_true rfl) dX5_weft_19 ?_
    refine g_ifeq_b C (tgt := 37) dX5_weft_22 (by decide) (fun c2 => ?_) (fun c2 => ?_)
    · refine g_bipush C dX5_weft_37 (by decide +kernel) ?_
      exact g_iret C hQ rfl dX5_weft_39 ⟨gv (by simp [weftV, *]), gh (by simp [weftS, *]), rfl⟩
    · have hbe := inB_t.mp c2
      refine g_aload_n C dX5_weft_25 (gr _) rfl ?_
      refine g_bipush C dX5_weft_26 (by decide +kernel) ?_
      refine g_iload_n C dX5_weft_28 (gi _) rfl ?_
      refine g_iadd C dX5_weft_29 ?_
      refine g_iload_n C dX5_weft_30 (gi _) rfl ?_
      refine g_callV1z C (mX5_lays hY (by omega) (by omega)) (lw_V q1371 q1373 qs45 q72 q1374) ⟨rfl, nd_X5_lays⟩ (ovM_0 _ _ _ _) rfl ⟨by decide, by decide⟩ ⟨Nat.le_of_ble_eq_true rfl, Nat.le_of_ble_eq_true rfl⟩ rfl (Nat.le_of_ble_eq_true rfl) dX5_weft_31 ?_
      refine g_goto C (tgt := 39) dX5_weft_34 (by decide) ?_
      exact g_iret C hQ rfl dX5_weft_39 ⟨gv (by simp [weftV, *]), gh (by simp [weftS, *]), rfl⟩
  · refine g_bipush C dX5_weft_8 (by decide +kernel) ?_
    refine g_goto C (tgt := 39) dX5_weft_10 (by decide) ?_
    exact g_iret C hQ rfl dX5_weft_39 ⟨gv (by simp [weftV, *]), gh (by simp [weftS, *]), rfl⟩

theorem nd_X5_undo : yX5_undo.cls ≠ "java/lang/invoke/MethodHandle" ∧ yX5_undo.cls ≠ "java/lang/invoke/VarHandle" ∧ (parseMethodDescriptor yX5_undo.desc).map (fun d => d.parameters.length) = some 0 := by decide +kernel
theorem mX5_undo {l : Launch} {D : va_G} {dA : Nat → ClassId} {N0 : Nat} {Y : State → Prop} (hY : gYok N0 Y) {h : gH} {sz m : Nat} {S : MS} (hU : 0 ≤ S 10 2 ∧ S 10 2 ≤ 8) : gM l D dA N0 Y yX5_undo cX5_undo 1 (some .int) 1 23 0 0 [.ref m] (ovM dA m S h) sz (gP (some (vI (undoV S))) (ovM dA m (undoS S) h) sz) := by
  refine gM.of hY (by decide +kernel) (Nat.le_of_ble_eq_true rfl) ?_
  intro X hX C hQ
  subst hX
  have C : gC X cX5_undo RX5 "undo" 1 (some .int) D dA N0 Y ({ frames := 1, cells := 0, slots := 0, locals := 23 }) := C
  show G X 0 0 _ _ 0 [some (.ref m)] []
  refine g_aload_n C dX5_undo_0 (gr _) rfl ?_
  refine M_g_undos C q1195 dX5_undo_1 ?_
  refine g_if_ne C (tgt := 10) dX5_undo_4 (by decide) (by omega) (fun c1 => ?_) (fun c1 => ?_)
  · refine g_aload_n C dX5_undo_10 (gr _) rfl ?_
    refine g_dup C dX5_undo_11 rfl ?_
    refine M_g_undos C q1195 dX5_undo_12 ?_
    refine g_iconst C dX5_undo_15 ?_
    refine g_isub C dX5_undo_16 ?_
    refine M_p_undos C q1195 dX5_undo_17 ?_
    refine g_aload_n C dX5_undo_20 (gr _) rfl ?_
    refine g_bipush C dX5_undo_21 (by decide +kernel) ?_
    refine g_bipush C dX5_undo_23 (by decide +kernel) ?_
    refine g_aload_n C dX5_undo_25 (gr _) rfl ?_
    refine M_g_undos C q1195 dX5_undo_26 ?_
    refine g_top (b := S 10 2 - 1) (by simp [us_eq]) ?_
    refine g_imul C dX5_undo_29 ?_
    refine g_iadd C dX5_undo_30 ?_
    refine g_iconst C dX5_undo_31 ?_
    refine g_callV0z C (mX5_copyRow hY (by omega)) (lw_V q1379 q1381 qs47 q72 q1382) ⟨rfl, nd_X5_copyRow⟩ (ovM_0 _ _ _ _) rfl ⟨by decide, by decide⟩ ⟨Nat.le_of_ble_eq_true rfl, Nat.le_of_ble_eq_true rfl⟩ rfl (Nat.le_of_ble_eq_true rfl) dX5_undo_32 ?_
    refine g_aload_n C dX5_undo_35 (gr _) rfl ?_
    refine M_g_undos C q1195 dX5_undo_36 ?_
    refine g_top (b := S 10 2 - 1) (by rw [cpR_n (by omega), us_eq, if_pos ⟨rfl, rfl⟩]) ?_
    exact g_iret C hQ rfl dX5_undo_39 ⟨gv (by simp [undoV, *]), gh (by simp [undoS, *]), rfl⟩
  · refine g_bipush C dX5_undo_7 (by decide +kernel) ?_
    exact g_iret C hQ rfl dX5_undo_9 ⟨gv (by simp [undoV, *]), gh (by simp [undoS, *]), rfl⟩

theorem nd_X5_keep : yX5_keep.cls ≠ "java/lang/invoke/MethodHandle" ∧ yX5_keep.cls ≠ "java/lang/invoke/VarHandle" ∧ (parseMethodDescriptor yX5_keep.desc).map (fun d => d.parameters.length) = some 1 := by decide +kernel
theorem mX5_keep {l : Launch} {D : va_G} {dA : Nat → ClassId} {N0 : Nat} {Y : State → Prop} (hY : gYok N0 Y) {h : gH} {sz m : Nat} {S : MS} {k : Int} (hrk : -2147483648 ≤ k ∧ k ≤ 2147483647) : gM l D dA N0 Y yX5_keep cX5_keep 2 (some .int) 1 25 0 0 [.ref m, vI k] (ovM dA m S h) sz (gP (some (vI (keepV S k))) (ovM dA m (keepS S k) h) sz) := by
  refine gM.of hY (by decide +kernel) (Nat.le_of_ble_eq_true rfl) ?_
  intro X hX C hQ
  subst hX
  have C : gC X cX5_keep RX5 "keep" 2 (some .int) D dA N0 Y ({ frames := 1, cells := 0, slots := 0, locals := 25 }) := C
  show G X 0 0 _ _ 0 [some (.ref m), some (vI k)] []
  refine g_iload_n C dX5_keep_0 (gi _) rfl ?_
  refine g_i2lz C dX5_keep_1 (by omega) ?_
  refine g_lconstz C 0 rfl dX5_keep_2 ?_
  refine g_lconstz C 1 rfl dX5_keep_3 ?_
  refine g_callS1z C (mX5_in hY (by omega)) (lw_S q1252 q1253 q72 q1254) nd_X5_in ⟨by decide, by decide⟩ ⟨Nat.le_of_ble_eq_true rfl, Nat.le_of_ble_eq_true rfl⟩ rfl (Nat.le_of_ble_eq_true rfl) dX5_keep_4 ?_
  refine g_ifne_b C (tgt := 13) dX5_keep_7 (by decide) (fun c1 => ?_) (fun c1 => ?_)
  · have hke := inB_t.mp c1
    refine g_aload_n C dX5_keep_13 (gr _) rfl ?_
    refine g_iconst C dX5_keep_14 ?_
    refine g_sipush C dX5_keep_15 (by decide +kernel) ?_
    refine g_bipush C dX5_keep_18 (by decide +kernel) ?_
    refine g_iload_n C dX5_keep_20 (gi _) rfl ?_
    refine g_imul C dX5_keep_21 ?_
    refine g_iadd C dX5_keep_22 ?_
    refine g_callV0z C (mX5_copyRow hY (by omega)) (lw_V q1379 q1381 qs47 q72 q1382) ⟨rfl, nd_X5_copyRow⟩ (ovM_0 _ _ _ _) rfl ⟨by decide, by decide⟩ ⟨Nat.le_of_ble_eq_true rfl, Nat.le_of_ble_eq_true rfl⟩ rfl (Nat.le_of_ble_eq_true rfl) dX5_keep_23 ?_
    refine g_aload_n C dX5_keep_26 (gr _) rfl ?_
    refine M_g_isKept C q1196 dX5_keep_27 ?_
    refine g_iload_n C dX5_keep_30 (gi _) rfl ?_
    refine g_iconst C dX5_keep_31 ?_
    refine M_st_isKept C (by omega) (by omega) dX5_keep_32 ?_
    refine g_aload_n C dX5_keep_33 (gr _) rfl ?_
    refine M_g_row C q1191 dX5_keep_34 ?_
    refine g_iconst C dX5_keep_37 ?_
    refine M_ld_row C (by omega) dX5_keep_38 ?_
    refine g_top (b := S 0 0) (by rw [us_eq, if_neg (by omega), cpR_out (by omega)]) ?_
    exact g_iret C hQ rfl dX5_keep_39 ⟨gv (by simp [keepV, *]), gh (by simp [keepS, *]), rfl⟩
  · refine g_bipush C dX5_keep_10 (by decide +kernel) ?_
    exact g_iret C hQ rfl dX5_keep_12 ⟨gv (by simp [keepV, *]), gh (by simp [keepS, *]), rfl⟩

theorem nd_X5_back : yX5_back.cls ≠ "java/lang/invoke/MethodHandle" ∧ yX5_back.cls ≠ "java/lang/invoke/VarHandle" ∧ (parseMethodDescriptor yX5_back.desc).map (fun d => d.parameters.length) = some 1 := by decide +kernel
theorem mX5_back {l : Launch} {D : va_G} {dA : Nat → ClassId} {N0 : Nat} {Y : State → Prop} (hY : gYok N0 Y) {h : gH} {sz m : Nat} {S : MS} {k : Int} (hk : (0 ≤ S 2 0 ∧ S 2 0 ≤ 1) ∧ 0 ≤ S 2 1 ∧ S 2 1 ≤ 1) (hrk : -2147483648 ≤ k ∧ k ≤ 2147483647) : gM l D dA N0 Y yX5_back cX5_back 2 (some .int) 1 25 0 0 [.ref m, vI k] (ovM dA m S h) sz (gP (some (vI (backV S k))) (ovM dA m (backS S k) h) sz) := by
  refine gM.of hY (by decide +kernel) (Nat.le_of_ble_eq_true rfl) ?_
  intro X hX C hQ
  subst hX
  have C : gC X cX5_back RX5 "back" 2 (some .int) D dA N0 Y ({ frames := 1, cells := 0, slots := 0, locals := 25 }) := C
  show G X 0 0 _ _ 0 [some (.ref m), some (vI k)] []
  refine g_iload_n C dX5_back_0 (gi _) rfl ?_
  refine g_i2lz C dX5_back_1 (by omega) ?_
  refine g_lconstz C 0 rfl dX5_back_2 ?_
  refine g_lconstz C 1 rfl dX5_back_3 ?_
  refine g_callS1z C (mX5_in hY (by omega)) (lw_S q1252 q1253 q72 q1254) nd_X5_in ⟨by decide, by decide⟩ ⟨Nat.le_of_ble_eq_true rfl, Nat.le_of_ble_eq_true rfl⟩ rfl (Nat.le_of_ble_eq_true rfl) dX5_back_4 ?_
  refine g_ifne_b C (tgt := 13) dX5_back_7 (by decide) (fun c1 => ?_) (fun c1 => ?_)
  · have hke := inB_t.mp c1
    have hk2 : 0 ≤ S 2 k ∧ S 2 k ≤ 1 := by
      rcases (show k = 0 ∨ k = 1 by omega) with rfl | rfl
      · exact hk.1
      · exact hk.2
    refine g_aload_n C dX5_back_13 (gr _) rfl ?_
    refine M_g_isKept C q1196 dX5_back_14 ?_
    refine g_iload_n C dX5_back_17 (gi _) rfl ?_
    refine M_ld_isKept C (by omega) dX5_back_18 ?_
    refine g_if_ne C (tgt := 25) dX5_back_19 (by decide) (by omega) (fun c2 => ?_) (fun c2 => ?_)
    · refine g_aload_n C dX5_back_25 (gr _) rfl ?_
      refine g_sipush C dX5_back_26 (by decide +kernel) ?_
      refine g_bipush C dX5_back_29 (by decide +kernel) ?_
      refine g_iload_n C dX5_back_31 (gi _) rfl ?_
      refine g_imul C dX5_back_32 ?_
      refine g_iadd C dX5_back_33 ?_
      refine g_iconst C dX5_back_34 ?_
      refine g_callV0z C (mX5_copyRow hY (by omega)) (lw_V q1379 q1381 qs47 q72 q1382) ⟨rfl, nd_X5_copyRow⟩ (ovM_0 _ _ _ _) rfl ⟨by decide, by decide⟩ ⟨Nat.le_of_ble_eq_true rfl, Nat.le_of_ble_eq_true rfl⟩ rfl (Nat.le_of_ble_eq_true rfl) dX5_back_35 ?_
      refine g_aload_n C dX5_back_38 (gr _) rfl ?_
      refine g_iconst C dX5_back_39 ?_
      refine M_p_undos C q1195 dX5_back_40 ?_
      refine g_aload_n C dX5_back_43 (gr _) rfl ?_
      refine M_g_row C q1191 dX5_back_44 ?_
      refine g_iconst C dX5_back_47 ?_
      refine M_ld_row C (by omega) dX5_back_48 ?_
      refine g_top (b := S 0 (522 + 58 * k)) (by rw [us_eq, if_neg (by omega), cpR_in (by omega)]; congr 1; omega) ?_
      exact g_iret C hQ rfl dX5_back_49 ⟨gv (by simp [backV, *]), gh (by simp [backS, *]), rfl⟩
    · refine g_bipush C dX5_back_22 (by decide +kernel) ?_
      exact g_iret C hQ rfl dX5_back_24 ⟨gv (by simp [backV, *]), gh (by simp [backS, *]), rfl⟩
  · refine g_bipush C dX5_back_10 (by decide +kernel) ?_
    exact g_iret C hQ rfl dX5_back_12 ⟨gv (by simp [backV, *]), gh (by simp [backS, *]), rfl⟩

theorem nd_X5_spool : yX5_spool.cls ≠ "java/lang/invoke/MethodHandle" ∧ yX5_spool.cls ≠ "java/lang/invoke/VarHandle" ∧ (parseMethodDescriptor yX5_spool.desc).map (fun d => d.parameters.length) = some 1 := by decide +kernel
theorem mX5_spool {l : Launch} {D : va_G} {dA : Nat → ClassId} {N0 : Nat} {Y : State → Prop} (hY : gYok N0 Y) {h : gH} {sz m : Nat} {S : MS} {t : Int} (hrt : -2147483648 ≤ t ∧ t ≤ 2147483647) : gM l D dA N0 Y yX5_spool cX5_spool 2 (some .int) 2 45 0 0 [.ref m, vI t] (ovM dA m S h) sz (gP (some (vI (spoolV t))) (ovM dA m (spoolS S t) h) sz) := by
  refine gM.of hY (by decide +kernel) (Nat.le_of_ble_eq_true rfl) ?_
  intro X hX C hQ
  subst hX
  have C : gC X cX5_spool RX5 "spool" 2 (some .int) D dA N0 Y ({ frames := 2, cells := 0, slots := 0, locals := 45 }) := C
  show G X 0 0 _ _ 0 [some (.ref m), some (vI t)] []
  refine g_iload_n C dX5_spool_0 (gi _) rfl ?_
  refine g_callS1z C (mX5_isSpool hY (by omega)) (lw_S q1476 q1477 q72 q1478) nd_X5_isSpool ⟨by decide, by decide⟩ ⟨Nat.le_of_ble_eq_true rfl, Nat.le_of_ble_eq_true rfl⟩ rfl (Nat.le_of_ble_eq_true rfl) dX5_spool_1 ?_
  refine g_ifne_b C (tgt := 10) dX5_spool_4 (by decide) (fun c1 => ?_) (fun c1 => ?_)
  · have hte := inB_t.mp c1
    refine g_aload_n C dX5_spool_10 (gr _) rfl ?_
    refine M_g_sizes C q1199 dX5_spool_11 ?_
    refine g_iload_n C dX5_spool_14 (gi _) rfl ?_
    refine g_iconst C dX5_spool_15 ?_
    refine M_st_sizes C (by omega) dX5_spool_16 ?_
    refine g_iconst C dX5_spool_17 ?_
    exact g_iret C hQ rfl dX5_spool_18 ⟨gv (by simp [spoolV, *]), gh (by simp [spoolS, *]), rfl⟩
  · refine g_bipush C dX5_spool_7 (by decide +kernel) ?_
    exact g_iret C hQ rfl dX5_spool_9 ⟨gv (by simp [spoolV, *]), gh (by simp [spoolS, *]), rfl⟩

theorem nd_X5_wind : yX5_wind.cls ≠ "java/lang/invoke/MethodHandle" ∧ yX5_wind.cls ≠ "java/lang/invoke/VarHandle" ∧ (parseMethodDescriptor yX5_wind.desc).map (fun d => d.parameters.length) = some 2 := by decide +kernel
theorem mX5_wind {l : Launch} {D : va_G} {dA : Nat → ClassId} {N0 : Nat} {Y : State → Prop} (hY : gYok N0 Y) {h : gH} {sz m : Nat} {S : MS} {t v : Int} (hT : OkT S) (hrt : -2147483648 ≤ t ∧ t ≤ 2147483647) (hrv : -2147483648 ≤ v ∧ v ≤ 2147483647) : gM l D dA N0 Y yX5_wind cX5_wind 3 (some .int) 2 45 0 0 [.ref m, vI t, vI v] (ovM dA m S h) sz (gP (some (vI (windV S t v))) (ovM dA m (windS S t v) h) sz) := by
  refine gM.of hY (by decide +kernel) (Nat.le_of_ble_eq_true rfl) ?_
  intro X hX C hQ
  subst hX
  have C : gC X cX5_wind RX5 "wind" 3 (some .int) D dA N0 Y ({ frames := 2, cells := 0, slots := 0, locals := 45 }) := C
  show G X 0 0 _ _ 0 [some (.ref m), some (vI t), some (vI v)] []
  refine g_iload_n C dX5_wind_0 (gi _) rfl ?_
  refine g_callS1z C (mX5_isSpool hY (by omega)) (lw_S q1476 q1477 q72 q1478) nd_X5_isSpool ⟨by decide, by decide⟩ ⟨Nat.le_of_ble_eq_true rfl, Nat.le_of_ble_eq_true rfl⟩ rfl (Nat.le_of_ble_eq_true rfl) dX5_wind_1 ?_
  refine g_ifne_b C (tgt := 10) dX5_wind_4 (by decide) (fun c1 => ?_) (fun c1 => ?_)
  · have hti := c1
    have hte := inB_t.mp c1
    have hT1 := (hT t (by omega) (by omega)).1
    refine g_iload_n C dX5_wind_10 (gi _) rfl ?_
    refine g_i2lz C dX5_wind_11 (by omega) ?_
    refine g_lconstz C 1 rfl dX5_wind_12 ?_
    refine g_ldc2z C 99 (by decide +kernel) q1484 dX5_wind_13 ?_
    refine g_callS1z C (mX5_in hY (by omega)) (lw_S q1252 q1253 q72 q1254) nd_X5_in ⟨by decide, by decide⟩ ⟨Nat.le_of_ble_eq_true rfl, Nat.le_of_ble_eq_true rfl⟩ rfl (Nat.le_of_ble_eq_true rfl) dX5_wind_16 ?_
    refine g_ifne_b C (tgt := 25) dX5_wind_19 (by decide) (fun c2 => ?_) (fun c2 => ?_)
    · have hvi := c2
      have hve := inB_t.mp c2
      refine g_aload_n C dX5_wind_25 (gr _) rfl ?_
      refine M_g_sizes C q1199 dX5_wind_26 ?_
      refine g_iload_n C dX5_wind_29 (gi _) rfl ?_
      refine M_ld_sizes C (by omega) dX5_wind_30 ?_
      refine g_if_ge C (tgt := 37) dX5_wind_31 (by decide) (by omega) (fun c3 => ?_) (fun c3 => ?_)
      · refine g_aload_n C dX5_wind_37 (gr _) rfl ?_
        refine M_g_sizes C q1199 dX5_wind_38 ?_
        refine g_iload_n C dX5_wind_41 (gi _) rfl ?_
        refine M_ld_sizes C (by omega) dX5_wind_42 ?_
        refine g_bipush C dX5_wind_43 (by decide +kernel) ?_
        refine g_icmp_ne C (tgt := 51) dX5_wind_45 (by decide) (by omega) (fun c4 => ?_) (fun c4 => ?_)
        · refine g_aload_n C dX5_wind_51 (gr _) rfl ?_
          refine M_g_threads C q1200 dX5_wind_52 ?_
          refine g_bipush C dX5_wind_55 (by decide +kernel) ?_
          refine g_iload_n C dX5_wind_57 (gi _) rfl ?_
          refine g_imul C dX5_wind_58 ?_
          refine g_aload_n C dX5_wind_59 (gr _) rfl ?_
          refine M_g_sizes C q1199 dX5_wind_60 ?_
          refine g_iload_n C dX5_wind_63 (gi _) rfl ?_
          refine M_ld_sizes C (by omega) dX5_wind_64 ?_
          refine g_iadd C dX5_wind_65 ?_
          refine g_iload_n C dX5_wind_66 (gi _) rfl ?_
          refine M_st_threads C (by omega) dX5_wind_67 ?_
          refine g_aload_n C dX5_wind_68 (gr _) rfl ?_
          refine M_g_sizes C q1199 dX5_wind_69 ?_
          refine g_iload_n C dX5_wind_72 (gi _) rfl ?_
          refine g_dup2 C dX5_wind_73 rfl rfl ?_
          refine M_ld_sizes C (by omega) dX5_wind_74 ?_
          refine g_top (b := S 4 t) (by simp [us_eq]) ?_
          refine g_iconst C dX5_wind_75 ?_
          refine g_iadd C dX5_wind_76 ?_
          refine M_st_sizes C (by omega) dX5_wind_77 ?_
          refine g_aload_n C dX5_wind_78 (gr _) rfl ?_
          refine M_g_sizes C q1199 dX5_wind_79 ?_
          refine g_iload_n C dX5_wind_82 (gi _) rfl ?_
          refine M_ld_sizes C (by omega) dX5_wind_83 ?_
          refine g_top (b := S 4 t + 1) (by simp [us_eq]) ?_
          exact g_iret C hQ rfl dX5_wind_84 ⟨gv (by first | (simp_all [windV]; done) | (simp_all [windV]; omega)), gh (by first | (simp_all [windS]; done) | (simp_all [windS]; omega)), rfl⟩
        · refine g_bipush C dX5_wind_48 (by decide +kernel) ?_
          exact g_iret C hQ rfl dX5_wind_50 ⟨gv (by first | (simp_all [windV]; done) | (simp_all [windV]; omega)), gh (by first | (simp_all [windS]; done) | (simp_all [windS]; omega)), rfl⟩
      · refine g_bipush C dX5_wind_34 (by decide +kernel) ?_
        exact g_iret C hQ rfl dX5_wind_36 ⟨gv (by first | (simp_all [windV]; done) | (simp_all [windV]; omega)), gh (by first | (simp_all [windS]; done) | (simp_all [windS]; omega)), rfl⟩
    · have hvi := c2
      refine g_bipush C dX5_wind_22 (by decide +kernel) ?_
      exact g_iret C hQ rfl dX5_wind_24 ⟨gv (by first | (simp_all [windV]; done) | (simp_all [windV]; omega)), gh (by first | (simp_all [windS]; done) | (simp_all [windS]; omega)), rfl⟩
  · have hti := c1
    refine g_bipush C dX5_wind_7 (by decide +kernel) ?_
    exact g_iret C hQ rfl dX5_wind_9 ⟨gv (by first | (simp_all [windV]; done) | (simp_all [windV]; omega)), gh (by first | (simp_all [windS]; done) | (simp_all [windS]; omega)), rfl⟩

theorem nd_X5_drop : yX5_drop.cls ≠ "java/lang/invoke/MethodHandle" ∧ yX5_drop.cls ≠ "java/lang/invoke/VarHandle" ∧ (parseMethodDescriptor yX5_drop.desc).map (fun d => d.parameters.length) = some 1 := by decide +kernel
theorem mX5_drop {l : Launch} {D : va_G} {dA : Nat → ClassId} {N0 : Nat} {Y : State → Prop} (hY : gYok N0 Y) {h : gH} {sz m : Nat} {S : MS} {t : Int} (hT : OkT S) (hrt : -2147483648 ≤ t ∧ t ≤ 2147483647) : gM l D dA N0 Y yX5_drop cX5_drop 3 (some .int) 2 45 0 0 [.ref m, vI t] (ovM dA m S h) sz (gP (some (vI (dropV S t))) (ovM dA m (dropS S t) h) sz) := by
  refine gM.of hY (by decide +kernel) (Nat.le_of_ble_eq_true rfl) ?_
  intro X hX C hQ
  subst hX
  have C : gC X cX5_drop RX5 "drop" 3 (some .int) D dA N0 Y ({ frames := 2, cells := 0, slots := 0, locals := 45 }) := C
  show G X 0 0 _ _ 0 [some (.ref m), some (vI t), none] []
  refine g_iload_n C dX5_drop_0 (gi _) rfl ?_
  refine g_callS1z C (mX5_isSpool hY (by omega)) (lw_S q1476 q1477 q72 q1478) nd_X5_isSpool ⟨by decide, by decide⟩ ⟨Nat.le_of_ble_eq_true rfl, Nat.le_of_ble_eq_true rfl⟩ rfl (Nat.le_of_ble_eq_true rfl) dX5_drop_1 ?_
  refine g_ifne_b C (tgt := 10) dX5_drop_4 (by decide) (fun c1 => ?_) (fun c1 => ?_)
  · have hte := inB_t.mp c1
    have hT1 := (hT t (by omega) (by omega)).1
    refine g_aload_n C dX5_drop_10 (gr _) rfl ?_
    refine M_g_sizes C q1199 dX5_drop_11 ?_
    refine g_iload_n C dX5_drop_14 (gi _) rfl ?_
    refine M_ld_sizes C (by omega) dX5_drop_15 ?_
    refine g_istore_n1002 C dX5_drop_16 (gi _) rfl ?_
    refine g_aload_n C dX5_drop_17 (gr _) rfl ?_
    refine M_g_sizes C q1199 dX5_drop_18 ?_
    refine g_iload_n C dX5_drop_21 (gi _) rfl ?_
    refine g_iconst C dX5_drop_22 ?_
    refine M_st_sizes C (by omega) dX5_drop_23 ?_
    refine g_iload_n C dX5_drop_24 (gi _) rfl ?_
    refine g_if_ge C (tgt := 33) dX5_drop_25 (by decide) (by omega) (fun c2 => ?_) (fun c2 => ?_)
    · refine g_iload_n C dX5_drop_33 (gi _) rfl ?_
      exact g_iret C hQ rfl dX5_drop_34 ⟨gv (by simp [dropV, c1]; try omega), gh (by simp [dropS, *]), rfl⟩
    · refine g_bipush C dX5_drop_28 (by decide +kernel) ?_
      refine g_goto C (tgt := 34) dX5_drop_30 (by decide) ?_
      exact g_iret C hQ rfl dX5_drop_34 ⟨gv (by simp [dropV, c1]; try omega), gh (by simp [dropS, *]), rfl⟩
  · refine g_bipush C dX5_drop_7 (by decide +kernel) ?_
    exact g_iret C hQ rfl dX5_drop_9 ⟨gv (by simp [dropV, c1]; try omega), gh (by simp [dropS, *]), rfl⟩

theorem nd_X5_knot : yX5_knot.cls ≠ "java/lang/invoke/MethodHandle" ∧ yX5_knot.cls ≠ "java/lang/invoke/VarHandle" ∧ (parseMethodDescriptor yX5_knot.desc).map (fun d => d.parameters.length) = some 1 := by decide +kernel
theorem mX5_knot {l : Launch} {D : va_G} {dA : Nat → ClassId} {N0 : Nat} {Y : State → Prop} (hY : gYok N0 Y) {h : gH} {sz m : Nat} {S : MS} {t : Int} (hT : OkT S) (hrt : -2147483648 ≤ t ∧ t ≤ 2147483647) : gM l D dA N0 Y yX5_knot cX5_knot 4 (some .int) 2 45 0 0 [.ref m, vI t] (ovM dA m S h) sz (gP (some (vI (knotV S t))) (ovM dA m (knotS S t) h) sz) := by
  refine gM.of hY (by decide +kernel) (Nat.le_of_ble_eq_true rfl) ?_
  intro X hX C hQ
  subst hX
  have C : gC X cX5_knot RX5 "knot" 4 (some .int) D dA N0 Y ({ frames := 2, cells := 0, slots := 0, locals := 45 }) := C
  show G X 0 0 _ _ 0 [some (.ref m), some (vI t), none, none] []
  refine g_iload_n C dX5_knot_0 (gi _) rfl ?_
  refine g_callS1z C (mX5_isSpool hY (by omega)) (lw_S q1476 q1477 q72 q1478) nd_X5_isSpool ⟨by decide, by decide⟩ ⟨Nat.le_of_ble_eq_true rfl, Nat.le_of_ble_eq_true rfl⟩ rfl (Nat.le_of_ble_eq_true rfl) dX5_knot_1 ?_
  refine g_ifne_b C (tgt := 10) dX5_knot_4 (by decide) (fun c1 => ?_) (fun c1 => ?_)
  · have hti := c1
    have hte := inB_t.mp c1
    have hT0 := hT t (by omega) (by omega)
    have hT1 := hT0.1
    refine g_aload_n C dX5_knot_10 (gr _) rfl ?_
    refine M_g_sizes C q1199 dX5_knot_11 ?_
    refine g_iload_n C dX5_knot_14 (gi _) rfl ?_
    refine M_ld_sizes C (by omega) dX5_knot_15 ?_
    refine g_iconst C dX5_knot_16 ?_
    refine g_icmp_ge C (tgt := 51) dX5_knot_17 (by decide) (by omega) (fun c2 => ?_) (fun c2 => ?_)
    · have hv1 := hT0.2 (S 4 t - 1) (by omega) (by omega)
      have hv2 := hT0.2 (S 4 t - 2) (by omega) (by omega)
      rw [show 8 * t + (S 4 t - 1) = 8 * t + S 4 t - 1 by omega] at hv1
      rw [show 8 * t + (S 4 t - 2) = 8 * t + S 4 t - 2 by omega] at hv2
      refine g_aload_n C dX5_knot_51 (gr _) rfl ?_
      refine M_g_sizes C q1199 dX5_knot_52 ?_
      refine g_iload_n C dX5_knot_55 (gi _) rfl ?_
      refine g_dup2 C dX5_knot_56 rfl rfl ?_
      refine M_ld_sizes C (by omega) dX5_knot_57 ?_
      refine g_iconst C dX5_knot_58 ?_
      refine g_isub C dX5_knot_59 ?_
      refine M_st_sizes C (by omega) dX5_knot_60 ?_
      refine g_bipush C dX5_knot_61 (by decide +kernel) ?_
      refine g_iload_n C dX5_knot_63 (gi _) rfl ?_
      refine g_imul C dX5_knot_64 ?_
      refine g_aload_n C dX5_knot_65 (gr _) rfl ?_
      refine M_g_sizes C q1199 dX5_knot_66 ?_
      refine g_iload_n C dX5_knot_69 (gi _) rfl ?_
      refine M_ld_sizes C (by omega) dX5_knot_70 ?_
      refine g_top (b := S 4 t - 1) (by simp [us_eq]) ?_
      refine g_iadd C dX5_knot_71 ?_
      refine g_iconst C dX5_knot_72 ?_
      refine g_isub C dX5_knot_73 ?_
      refine g_top (b := 8 * t + S 4 t - 2) (by omega) ?_
      refine g_istore_n1002 C dX5_knot_74 (gi _) rfl ?_
      refine g_aload_n C dX5_knot_75 (gr _) rfl ?_
      refine M_g_threads C q1200 dX5_knot_76 ?_
      refine g_iload_n C dX5_knot_79 (gi _) rfl ?_
      refine M_ld_threads C (by omega) dX5_knot_80 ?_
      refine g_top (b := S 5 (8 * t + S 4 t - 2)) (by simp [us_eq]) ?_
      refine g_aload_n C dX5_knot_81 (gr _) rfl ?_
      refine M_g_threads C q1200 dX5_knot_82 ?_
      refine g_iload_n C dX5_knot_85 (gi _) rfl ?_
      refine g_iconst C dX5_knot_86 ?_
      refine g_iadd C dX5_knot_87 ?_
      refine M_ld_threads C (by omega) dX5_knot_88 ?_
      refine g_top (b := S 5 (8 * t + S 4 t - 1)) (by rw [us_eq, if_neg (by omega)]; congr 1; omega) ?_
      refine g_iadd C dX5_knot_89 ?_
      refine g_istore_n1003 C dX5_knot_90 (gi _) rfl ?_
      refine g_aload_n C dX5_knot_91 (gr _) rfl ?_
      refine M_g_threads C q1200 dX5_knot_92 ?_
      refine g_iload_n C dX5_knot_95 (gi _) rfl ?_
      refine g_iload_n C dX5_knot_96 (gi _) rfl ?_
      refine g_bipush C dX5_knot_97 (by decide +kernel) ?_
      refine g_icmp_le C (tgt := 107) dX5_knot_99 (by decide) (by omega) (fun c3 => ?_) (fun c3 => ?_)
      · refine g_iload_n C dX5_knot_107 (gi _) rfl ?_
        refine g_top (b := minI 99 (S 5 (8 * t + S 4 t - 2) + S 5 (8 * t + S 4 t - 1))) (by unfold minI; split <;> omega) ?_
        refine M_st_threads C (by omega) dX5_knot_108 ?_
        refine g_aload_n C dX5_knot_109 (gr _) rfl ?_
        refine M_g_threads C q1200 dX5_knot_110 ?_
        refine g_iload_n C dX5_knot_113 (gi _) rfl ?_
        refine M_ld_threads C (by omega) dX5_knot_114 ?_
        refine g_top (b := minI 99 (S 5 (8 * t + S 4 t - 2) + S 5 (8 * t + S 4 t - 1))) (by simp [us_eq]) ?_
        exact g_iret C hQ rfl dX5_knot_115 ⟨gv (by simp only [knotV, hti]; (repeat' split) <;> first | rfl | omega | (exfalso; simp_all; done)), gh (by simp only [knotS, hti]; (repeat' split) <;> first | rfl | (exfalso; first | omega | (simp_all; done) | (simp_all; omega))), rfl⟩
      · refine g_bipush C dX5_knot_102 (by decide +kernel) ?_
        refine g_goto C (tgt := 108) dX5_knot_104 (by decide) ?_
        refine g_top (b := minI 99 (S 5 (8 * t + S 4 t - 2) + S 5 (8 * t + S 4 t - 1))) (by unfold minI; split <;> omega) ?_
        refine M_st_threads C (by omega) dX5_knot_108 ?_
        refine g_aload_n C dX5_knot_109 (gr _) rfl ?_
        refine M_g_threads C q1200 dX5_knot_110 ?_
        refine g_iload_n C dX5_knot_113 (gi _) rfl ?_
        refine M_ld_threads C (by omega) dX5_knot_114 ?_
        refine g_top (b := minI 99 (S 5 (8 * t + S 4 t - 2) + S 5 (8 * t + S 4 t - 1))) (by simp [us_eq]) ?_
        exact g_iret C hQ rfl dX5_knot_115 ⟨gv (by simp only [knotV, hti]; (repeat' split) <;> first | rfl | omega | (exfalso; simp_all; done)), gh (by simp only [knotS, hti]; (repeat' split) <;> first | rfl | (exfalso; first | omega | (simp_all; done) | (simp_all; omega))), rfl⟩
    · refine g_aload_n C dX5_knot_20 (gr _) rfl ?_
      refine M_g_sizes C q1199 dX5_knot_21 ?_
      refine g_iload_n C dX5_knot_24 (gi _) rfl ?_
      refine M_ld_sizes C (by omega) dX5_knot_25 ?_
      refine g_if_ge C (tgt := 34) dX5_knot_26 (by decide) (by omega) (fun c4 => ?_) (fun c4 => ?_)
      · refine g_aload_n C dX5_knot_34 (gr _) rfl ?_
        refine M_g_sizes C q1199 dX5_knot_35 ?_
        refine g_iload_n C dX5_knot_38 (gi _) rfl ?_
        refine M_ld_sizes C (by omega) dX5_knot_39 ?_
        refine g_if_ne C (tgt := 48) dX5_knot_40 (by decide) (by omega) (fun c5 => ?_) (fun c5 => ?_)
        · refine g_bipush C dX5_knot_48 (by decide +kernel) ?_
          exact g_iret C hQ rfl dX5_knot_50 ⟨gv (by simp only [knotV, hti]; (repeat' split) <;> first | rfl | omega | (exfalso; simp_all; done)), gh (by simp only [knotS, hti]; (repeat' split) <;> first | rfl | (exfalso; first | omega | (simp_all; done) | (simp_all; omega))), rfl⟩
        · refine g_bipush C dX5_knot_43 (by decide +kernel) ?_
          refine g_goto C (tgt := 50) dX5_knot_45 (by decide) ?_
          exact g_iret C hQ rfl dX5_knot_50 ⟨gv (by simp only [knotV, hti]; (repeat' split) <;> first | rfl | omega | (exfalso; simp_all; done)), gh (by simp only [knotS, hti]; (repeat' split) <;> first | rfl | (exfalso; first | omega | (simp_all; done) | (simp_all; omega))), rfl⟩
      · refine g_bipush C dX5_knot_29 (by decide +kernel) ?_
        refine g_goto C (tgt := 50) dX5_knot_31 (by decide) ?_
        exact g_iret C hQ rfl dX5_knot_50 ⟨gv (by simp only [knotV, hti]; (repeat' split) <;> first | rfl | omega | (exfalso; simp_all; done)), gh (by simp only [knotS, hti]; (repeat' split) <;> first | rfl | (exfalso; first | omega | (simp_all; done) | (simp_all; omega))), rfl⟩
  · have hti := c1
    refine g_bipush C dX5_knot_7 (by decide +kernel) ?_
    exact g_iret C hQ rfl dX5_knot_9 ⟨gv (by simp only [knotV, hti]; (repeat' split) <;> first | rfl | omega | (exfalso; simp_all; done)), gh (by simp only [knotS, hti]; (repeat' split) <;> first | rfl | (exfalso; first | omega | (simp_all; done) | (simp_all; omega))), rfl⟩
