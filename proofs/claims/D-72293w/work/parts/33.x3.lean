/-! THE COMPONENT: WeaveDraft: alike, changed -/
set_option maxRecDepth 100000
def alkG (S : MS) (s j n : Int) : Int := n + bI (alikeB S s (s + 1 + j))
def alkH (S : MS) (s n : Int) : Int := fo (alkG S s) n (S 0 2 - 1 - s).toNat
def alkW (S : MS) : Int := fo (alkH S) 0 (S 0 2).toNat
theorem alk_eq {S : MS} (h : 1 ≤ S 0 2 ∧ S 0 2 ≤ 6) : alkW S = alkV S := by
  unfold alkW alkV
  rcases (show S 0 2 = 1 ∨ S 0 2 = 2 ∨ S 0 2 = 3 ∨ S 0 2 = 4 ∨ S 0 2 = 5 ∨ S 0 2 = 6 by omega) with e | e | e | e | e | e <;>
    simp [e, fo, alkH, alkG, alkF, alike_sym S 0 1, alike_sym S 0 2, alike_sym S 0 3, alike_sym S 0 4, alike_sym S 0 5, alike_sym S 1 2, alike_sym S 1 3, alike_sym S 1 4, alike_sym S 1 5, alike_sym S 2 3, alike_sym S 2 4, alike_sym S 2 5, alike_sym S 3 4, alike_sym S 3 5, alike_sym S 4 5] <;> omega

/-- what a draft shows lies in its 58 numbers -/
theorem upB_ext {F G1 : Int → Int} (hO : OkD F) (he : ∀ j : Int, 0 ≤ j → j < 58 → G1 j = F j) {q i : Int} (hq : 0 ≤ q ∧ q < 12) (hi : 0 ≤ i ∧ i < 12) : upB (dS G1) q i = upB (dS F) q i := by
  have hu := hO.isUp hq hi
  show hasB (G1 (16 + G1 (22 + q))) (G1 (4 + i)) = hasB (F (16 + F (22 + q))) (F (4 + i))
  rw [he (22 + q) (by omega) (by omega), he (4 + i) (by omega) (by omega), he _ (by omega) (by omega)]
theorem fo_congr {σ : Type} {f g : Int → σ → σ} {s : σ} (n : Nat) (h : ∀ k : Int, 0 ≤ k → k < n → ∀ y, f k y = g k y) : fo f s n = fo g s n := by
  induction n with
  | zero => rfl
  | succ n ih =>
    show f n (fo f s n) = g n (fo g s n)
    rw [ih (fun k h0 h1 y => h k h0 (by omega) y), h n (by omega) (by omega)]
theorem upPick_ext {F G1 : Int → Int} (hO : OkD F) (he : ∀ j : Int, 0 ≤ j → j < 58 → G1 j = F j) {q : Int} (hq : 0 ≤ q ∧ q < 12) : upPick (dS G1) q = upPick (dS F) q := by
  have hn := hO.1
  show fo (upPickF (dS G1) q) 0 (G1 0).toNat = fo (upPickF (dS F) q) 0 (F 0).toNat
  rw [he 0 (by omega) (by omega)]
  refine fo_congr _ (fun k h0 h1 y => ?_)
  unfold upPickF
  rw [upB_ext hO he hq (by omega)]
theorem upEnd_ext {F G1 : Int → Int} (hO : OkD F) (he : ∀ j : Int, 0 ≤ j → j < 58 → G1 j = F j) {i : Int} (hi : 0 ≤ i ∧ i < 12) : upEnd (dS G1) i = upEnd (dS F) i := by
  have hn := hO.1
  show fo (upEndF (dS G1) i) 0 (G1 1).toNat = fo (upEndF (dS F) i) 0 (F 1).toNat
  rw [he 1 (by omega) (by omega)]
  refine fo_congr _ (fun k h0 h1 y => ?_)
  unfold upEndF
  rw [upB_ext hO he (by omega) hi]
theorem lop_ext {F G1 : Int → Int} (hO : OkD F) (he : ∀ j : Int, 0 ≤ j → j < 58 → G1 j = F j) : lopV (dS G1) = lopV (dS F) := by
  have hn := hO.1
  show fo (lgF (upPick (dS G1)) (G1 0) false true) 0 (G1 1).toNat = fo (lgF (upPick (dS F)) (F 0) false true) 0 (F 1).toNat
  rw [he 0 (by omega) (by omega), he 1 (by omega) (by omega)]
  refine fo_congr _ (fun k h0 h1 y => ?_)
  unfold lgF
  rw [upPick_ext hO he (by omega)]
theorem OkD_ext {F G1 : Int → Int} (hO : OkD F) (he : ∀ j : Int, 0 ≤ j → j < 58 → G1 j = F j) : OkD G1 := by
  obtain ⟨h1, h2, h3, h4, h5, h6⟩ := hO
  unfold OkD
  rw [he 0 (by omega) (by omega), he 1 (by omega) (by omega), he 2 (by omega) (by omega), he 3 (by omega) (by omega)]
  exact ⟨h1, fun k a b => by rw [he _ (by omega) (by omega)]; exact h2 k a b, fun k a b => by rw [he _ (by omega) (by omega)]; exact h3 k a b, fun k a b => by rw [he _ (by omega) (by omega)]; exact h4 k a b, fun k a b => by rw [he _ (by omega) (by omega)]; exact h5 k a b, fun k a b => by rw [he _ (by omega) (by omega)]; exact h6 k a b⟩
/-- changed: what lies in tried behind it -/
def chT (S : MS) : MS := ud S 6 (dSet (S 6) (S 0))
def chS (S : MS) (a b : Int) : MS := us (us (chT S) 6 (4 + a) (S 0 (4 + b))) 6 (4 + b) (S 0 (4 + a))
theorem chT_0 (S : MS) : chT S 0 = S 0 := ud_n S _ (by omega)
theorem ch_ok {S : MS} (hO : OkD (S 0)) {a b : Int} (h : (0 ≤ a ∧ a < 12) ∧ (0 ≤ b ∧ b < 12)) : OkD (swapS S (4 + a) (4 + b) 0) := by
  have h1 := hO.2.1 a (by omega) (by omega)
  have h2 := hO.2.1 b (by omega) (by omega)
  unfold swapS
  rw [us_s, us_s]
  exact OkD_u (OkD_u hO (by omega) (fun _ => by omega) (fun _ => by omega) (fun _ => by omega) (fun _ => by omega)) (by omega) (fun _ => by rw [uI_n _ _ (by omega)]; omega) (fun _ => by omega) (fun _ => by omega) (fun _ => by omega)
theorem ch_F {S : MS} {a b : Int} (h : (0 ≤ a ∧ a < 12) ∧ (0 ≤ b ∧ b < 12)) : ∀ j : Int, 0 ≤ j → j < 58 → chS S a b 6 j = swapS S (4 + a) (4 + b) 0 j := by
  intro j h0 h1
  unfold chS swapS chT
  simp only [us_eq]
  simp only [ud, dSet]
  simp
  (repeat' split) <;> first | rfl | omega | (unfold dSet; rw [if_pos (by omega)])

theorem nd_X0_alike : yX0_alike.cls ≠ "java/lang/invoke/MethodHandle" ∧ yX0_alike.cls ≠ "java/lang/invoke/VarHandle" ∧ (parseMethodDescriptor yX0_alike.desc).map (fun d => d.parameters.length) = some 0 := by decide +kernel
theorem mX0_alike {l : Launch} {D : va_G} {dA : Nat → ClassId} {N0 : Nat} {Y : State → Prop} (hY : gYc N0 Y) {h : gH} {sz x : Nat} {S : MS} {P : PS} (hO : OkD (S 0))  : gM l D dA N0 Y yX0_alike cX0_alike 4 (some .int) 2 45 0 0 [.ref x] (ovX dA x S P h) sz (gP (some (vI (alkV S))) (ovX dA x S P h) sz) := by
  refine gM.of hY.ok (by decide +kernel) (Nat.le_of_ble_eq_true rfl) ?_
  intro X hX C hQ
  subst hX
  have C : gC X cX0_alike RX0 "alike" 4 (some .int) D dA N0 Y ({ frames := 2, cells := 0, slots := 0, locals := 45 }) := C
  show G X 0 0 _ _ 0 [some (.ref x), none, none, none] []
  have hn := hO.1
  refine g_iconst C dX0_alike_0 ?_
  refine g_istore_n1001 C dX0_alike_1 (gi _) rfl ?_
  refine g_iconst C dX0_alike_2 ?_
  refine g_istore_n1002 C dX0_alike_3 (gi _) rfl ?_
  have lp4_1 : ∀ (fuel : Nat) (nn s : Int), ((0 ≤ s ∧ s ≤ S 0 2) ∧ nn = fo (alkH S) 0 s.toNat ∧ 0 ≤ nn ∧ nn ≤ 6 * s) → (S 0 2 - s).toNat < fuel → G X 0 0 (ovX dA x S P h) sz 4 [some (.ref x), some (vI nn), some (vI s), none] [] := by
    intro fuel
    induction fuel with
    | zero => intro nn s hI hfu; exact absurd hfu (Nat.not_lt_zero _)
    | succ fuel ih =>
      intro nn s hI hfu
      have ih1 := ih
      obtain ⟨hI1, hI2, hI3⟩ := hI
      refine g_iload_n C dX0_alike_4 (gi _) rfl ?_
      refine g_aload_n C dX0_alike_5 (gr _) rfl ?_
      refine X_g_now C q218 dX0_alike_6 ?_
      refine D_g_shafts C (isX_now _ _ _ _ _) q182 dX0_alike_9 ?_
      refine g_icmp_ge C (tgt := 59) dX0_alike_12 (by decide) (by omega) (fun c1 => ?_) (fun c1 => ?_)
      · refine g_iload_n C dX0_alike_59 (gi _) rfl ?_
        exact g_iret C hQ rfl dX0_alike_60 ⟨gv (by rw [hI2, show s = S 0 2 by omega]; exact alk_eq (by omega)), rfl, rfl⟩
      · refine g_iload_n C dX0_alike_15 (gi _) rfl ?_
        refine g_iconst C dX0_alike_16 ?_
        refine g_iadd C dX0_alike_17 ?_
        refine g_istore_n1003 C dX0_alike_18 (gi _) rfl ?_
        have lp19_2 : ∀ (fuel : Nat) (n2 t : Int), ((s + 1 ≤ t ∧ t ≤ S 0 2) ∧ n2 = fo (alkG S s) nn (t - s - 1).toNat ∧ 0 ≤ n2 ∧ n2 ≤ nn + (t - s - 1)) → (S 0 2 - t).toNat < fuel → G X 0 0 (ovX dA x S P h) sz 19 [some (.ref x), some (vI n2), some (vI s), some (vI t)] [] := by
          intro fuel
          induction fuel with
          | zero => intro n2 t hI hfu; exact absurd hfu (Nat.not_lt_zero _)
          | succ fuel ih =>
            intro n2 t hI hfu
            have ih2 := ih
            obtain ⟨hJ1, hJ2, hJ3⟩ := hI
            have hst : fo (alkG S s) nn (t + 1 - s - 1).toNat = n2 + bI (alikeB S s t) := by rw [show t + 1 - s - 1 = (t - s - 1) + 1 by omega, fo_s (by omega), ← hJ2, alkG, show s + 1 + (t - s - 1) = t by omega]
            refine g_iload_n C dX0_alike_19 (gi _) rfl ?_
            refine g_aload_n C dX0_alike_20 (gr _) rfl ?_
            refine X_g_now C q218 dX0_alike_21 ?_
            refine D_g_shafts C (isX_now _ _ _ _ _) q182 dX0_alike_24 ?_
            refine g_icmp_ge C (tgt := 53) dX0_alike_27 (by decide) (by omega) (fun c2 => ?_) (fun c2 => ?_)
            · refine g_iinc1002 C dX0_alike_53 rfl ?_
              refine g_goto C (tgt := 4) dX0_alike_56 (by decide) ?_
              refine g_sub (L' := [some _, some _, some _, none]) ⟨rfl, ⟨rfl, ⟨rfl, trivial⟩⟩⟩ ?_
              exact ih1 _ _ (⟨by omega, by rw [fo_s (by omega), ← hI2, alkH, hJ2, show (S 0 2 - 1 - s).toNat = (t - s - 1).toNat by omega], by omega⟩) (by omega)
            · refine g_iload_n C dX0_alike_30 (gi _) rfl ?_
              refine g_aload_n C dX0_alike_31 (gr _) rfl ?_
              refine g_iload_n C dX0_alike_32 (gi _) rfl ?_
              refine g_iload_n C dX0_alike_33 (gi _) rfl ?_
              refine g_callV1z C (mX0_areAlike hY (hO) (by omega)) (lw_V q1160 q1162 qs24 q67 q1163) ⟨rfl, nd_X0_areAlike⟩ (ovX_0 _ _ _ _ _) rfl ⟨by decide, by decide⟩ ⟨Nat.le_of_ble_eq_true rfl, Nat.le_of_ble_eq_true rfl⟩ rfl (Nat.le_of_ble_eq_true rfl) dX0_alike_34 ?_
              refine g_ifeq_b C (tgt := 44) dX0_alike_37 (by decide) (fun c3 => ?_) (fun c3 => ?_)
              · have ha := c3
                refine g_iconst C dX0_alike_44 ?_
                refine g_iadd C dX0_alike_45 ?_
                refine g_istore_n1001 C dX0_alike_46 (gi _) rfl ?_
                refine g_iinc1003 C dX0_alike_47 rfl ?_
                refine g_goto C (tgt := 19) dX0_alike_50 (by decide) ?_
                exact ih2 _ _ (⟨by omega, by rw [hst, ha]; rfl, by omega⟩) (by omega)
              · have ha := c3
                refine g_iconst C dX0_alike_40 ?_
                refine g_goto C (tgt := 45) dX0_alike_41 (by decide) ?_
                refine g_iadd C dX0_alike_45 ?_
                refine g_istore_n1001 C dX0_alike_46 (gi _) rfl ?_
                refine g_iinc1003 C dX0_alike_47 rfl ?_
                refine g_goto C (tgt := 19) dX0_alike_50 (by decide) ?_
                exact ih2 _ _ (⟨by omega, by rw [hst, ha]; rfl, by omega⟩) (by omega)
        exact lp19_2 _ _ _ (⟨by omega, by rw [show s + 1 - s - 1 = 0 by omega]; rfl, by omega⟩) (Nat.lt_succ_self _)
  refine g_sub (L' := [some _, some _, some _, none]) ⟨rfl, ⟨rfl, ⟨rfl, trivial⟩⟩⟩ ?_
  exact lp4_1 _ _ _ (⟨by omega, rfl, by omega⟩) (Nat.lt_succ_self _)

theorem nd_X0_changed : yX0_changed.cls ≠ "java/lang/invoke/MethodHandle" ∧ yX0_changed.cls ≠ "java/lang/invoke/VarHandle" ∧ (parseMethodDescriptor yX0_changed.desc).map (fun d => d.parameters.length) = some 2 := by decide +kernel
theorem mX0_changed {l : Launch} {D : va_G} {dA : Nat → ClassId} {N0 : Nat} {Y : State → Prop} (hY : gYc N0 Y) {h : gH} {sz x : Nat} {S : MS} {P : PS} {a b : Int} (hO : OkD (S 0)) (hra : -2147483648 ≤ a ∧ a ≤ 2147483647) (hrb : -2147483648 ≤ b ∧ b ≤ 2147483647)  : gM l D dA N0 Y yX0_changed cX0_changed 3 (some .int) 6 131 0 0 [.ref x, vI a, vI b] (ovX dA x S P h) sz (gP (some (vI (changedV S a b))) (ovX dA x (if inB a 0 (S 0 0 - 1) = false ∨ inB b 0 (S 0 0 - 1) = false ∨ a = b then S else chS S a b) P h) sz) := by
  refine gM.of hY.ok (by decide +kernel) (Nat.le_of_ble_eq_true rfl) ?_
  intro X hX C hQ
  subst hX
  have C : gC X cX0_changed RX0 "changed" 3 (some .int) D dA N0 Y ({ frames := 6, cells := 0, slots := 0, locals := 131 }) := C
  show G X 0 0 _ _ 0 [some (.ref x), some (vI a), some (vI b)] []
  have hn := hO.1
  refine g_aload_n C dX0_changed_0 (gr _) rfl ?_
  refine g_iload_n C dX0_changed_1 (gi _) rfl ?_
  refine g_callV1z C (mX0_isEnd hY (by omega)) (lw_V q727 q729 qs10 q67 q730) ⟨rfl, nd_X0_isEnd⟩ (ovX_0 _ _ _ _ _) rfl ⟨by decide, by decide⟩ ⟨Nat.le_of_ble_eq_true rfl, Nat.le_of_ble_eq_true rfl⟩ rfl (Nat.le_of_ble_eq_true rfl) dX0_changed_2 ?_
  refine g_ifeq_b C (tgt := 21) dX0_changed_5 (by decide) (fun c1 => ?_) (fun c1 => ?_)
  · have ha := c1
    refine g_bipush C dX0_changed_21 (by decide +kernel) ?_
    exact g_iret C hQ rfl dX0_changed_23 ⟨gv (by rw [changedV, if_pos (by first | exact Or.inl ha | exact Or.inr (Or.inl hb) | exact Or.inr (Or.inr hab))]), gx (by rw [if_pos (by first | exact Or.inl ha | exact Or.inr (Or.inl hb) | exact Or.inr (Or.inr hab))]), rfl⟩
  · have ha := c1
    have hae := inB_t.mp ha
    refine g_aload_n C dX0_changed_8 (gr _) rfl ?_
    refine g_iload_n C dX0_changed_9 (gi _) rfl ?_
    refine g_callV1z C (mX0_isEnd hY (by omega)) (lw_V q727 q729 qs10 q67 q730) ⟨rfl, nd_X0_isEnd⟩ (ovX_0 _ _ _ _ _) rfl ⟨by decide, by decide⟩ ⟨Nat.le_of_ble_eq_true rfl, Nat.le_of_ble_eq_true rfl⟩ rfl (Nat.le_of_ble_eq_true rfl) dX0_changed_10 ?_
    refine g_ifeq_b C (tgt := 21) dX0_changed_13 (by decide) (fun c2 => ?_) (fun c2 => ?_)
    · have hb := c2
      refine g_bipush C dX0_changed_21 (by decide +kernel) ?_
      exact g_iret C hQ rfl dX0_changed_23 ⟨gv (by rw [changedV, if_pos (by first | exact Or.inl ha | exact Or.inr (Or.inl hb) | exact Or.inr (Or.inr hab))]), gx (by rw [if_pos (by first | exact Or.inl ha | exact Or.inr (Or.inl hb) | exact Or.inr (Or.inr hab))]), rfl⟩
    · have hb := c2
      have hbe := inB_t.mp hb
      refine g_iload_n C dX0_changed_16 (gi _) rfl ?_
      refine g_iload_n C dX0_changed_17 (gi _) rfl ?_
      refine g_icmp_ne C (tgt := 24) dX0_changed_18 (by decide) (by omega) (fun c3 => ?_) (fun c3 => ?_)
      · have hab := c3
        refine g_aload_n C dX0_changed_24 (gr _) rfl ?_
        refine X_g_tried C q219 dX0_changed_25 ?_
        refine g_aload_n C dX0_changed_28 (gr _) rfl ?_
        refine X_g_now C q218 dX0_changed_29 ?_
        refine g_hE (ovX_tried dA x S P h) ?_
        refine g_callV1z C (mX1_set hY (isX_now dA x S P h) (by omega)) (lw_V q829 q830 q831 q68 q832) ⟨rfl, nd_X1_set⟩ (isD_0 (isD_ov _ _ _ _ _)) rfl ⟨by decide, by decide⟩ ⟨Nat.le_of_ble_eq_true rfl, Nat.le_of_ble_eq_true rfl⟩ rfl (Nat.le_of_ble_eq_true rfl) dX0_changed_32 ?_
        refine g_hE (ovX_dt _ _ _ _ _ _) ?_
        refine g_pop C dX0_changed_35 rfl ?_
        refine g_aload_n C dX0_changed_36 (gr _) rfl ?_
        refine X_g_tried C q219 dX0_changed_37 ?_
        refine D_g_warp C (isX_tried _ _ _ _ _) q189 dX0_changed_40 ?_
        refine g_iload_n C dX0_changed_43 (gi _) rfl ?_
        refine D_ld_warp C (isX_tried _ _ _ _ _) (by omega) dX0_changed_44 ?_
        refine g_aload_n C dX0_changed_45 (gr _) rfl ?_
        refine X_g_now C q218 dX0_changed_46 ?_
        refine D_g_warp C (isX_now _ _ _ _ _) q189 dX0_changed_49 ?_
        refine g_iload_n C dX0_changed_52 (gi _) rfl ?_
        refine D_ld_warp C (isX_now _ _ _ _ _) (by omega) dX0_changed_53 ?_
        refine D_gE_tied C (isX_now _ _ _ _ _) (by omega) (Or.inr q130) q133 dX0_changed_54 ?_
        refine g_top (b := S 0 (4 + b)) (by exact congrFun (chT_0 S) _) ?_
        refine XT_pE_tied C (by omega) (Or.inr q130) q133 dX0_changed_57 ?_
        refine g_aload_n C dX0_changed_60 (gr _) rfl ?_
        refine X_g_tried C q219 dX0_changed_61 ?_
        refine D_g_warp C (isX_tried _ _ _ _ _) q189 dX0_changed_64 ?_
        refine g_iload_n C dX0_changed_67 (gi _) rfl ?_
        refine D_ld_warp C (isX_tried _ _ _ _ _) (by omega) dX0_changed_68 ?_
        refine g_aload_n C dX0_changed_69 (gr _) rfl ?_
        refine X_g_now C q218 dX0_changed_70 ?_
        refine D_g_warp C (isX_now _ _ _ _ _) q189 dX0_changed_73 ?_
        refine g_iload_n C dX0_changed_76 (gi _) rfl ?_
        refine D_ld_warp C (isX_now _ _ _ _ _) (by omega) dX0_changed_77 ?_
        refine D_gE_tied C (isX_now _ _ _ _ _) (by omega) (Or.inr q130) q133 dX0_changed_78 ?_
        refine g_top (b := S 0 (4 + a)) (by exact congrFun (chT_0 S) _) ?_
        refine XT_pE_tied C (by omega) (Or.inr q130) q133 dX0_changed_81 ?_
        have hOT : OkD (chS S a b 6) := OkD_ext (ch_ok hO (a := a) (b := b) (by omega)) (ch_F (by omega))
        refine g_aload_n C dX0_changed_84 (gr _) rfl ?_
        refine X_g_tried C q219 dX0_changed_85 ?_
        refine g_callV1z C (mX1_longestPick hY (isX_tried dA x (chS S a b) P h) hOT) (lw_V q970 q971 q972 q68 q973) ⟨rfl, nd_X1_longestPick⟩ (isD_0 (isX_tried _ _ _ _ _)) rfl ⟨by decide, by decide⟩ ⟨Nat.le_of_ble_eq_true rfl, Nat.le_of_ble_eq_true rfl⟩ rfl (Nat.le_of_ble_eq_true rfl) dX0_changed_88 ?_
        exact g_iret C hQ rfl dX0_changed_91 ⟨gv (by rw [changedV, if_neg (by rw [ha, hb]; simp; exact hab)]; exact lop_ext (ch_ok hO (by omega)) (ch_F (by omega))), gx (by rw [if_neg (by rw [ha, hb]; simp; exact hab)]; rfl), rfl⟩
      · have hab := c3
        refine g_bipush C dX0_changed_21 (by decide +kernel) ?_
        exact g_iret C hQ rfl dX0_changed_23 ⟨gv (by rw [changedV, if_pos (by first | exact Or.inl ha | exact Or.inr (Or.inl hb) | exact Or.inr (Or.inr hab))]), gx (by rw [if_pos (by first | exact Or.inl ha | exact Or.inr (Or.inl hb) | exact Or.inr (Or.inr hab))]), rfl⟩
