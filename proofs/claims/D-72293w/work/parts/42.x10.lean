/-! THE COMPONENT: wind, knot -/
set_option maxRecDepth 100000
def ovS (dA : Nat → ClassId) (p : Nat) (n : Int) (L1 : Int → Int) (h : gH) : gH := gup (gup h p (gO 9 [.ref (p + 1), vI n])) (p + 1) (gI (dA 0) 8 L1)
theorem ovS_same {dA : Nat → ClassId} {p : Nat} {n : Int} {L1 : Int → Int} {h : gH} (h1 : h p = some (gO 9 [.ref (p + 1), vI n])) (h2 : h (p + 1) = some (gI (dA 0) 8 L1)) : ovS dA p n L1 h = h := by
  funext q
  unfold ovS gup
  by_cases g : q = p + 1
  · rw [if_pos g, g, h2]
  · rw [if_neg g]
    by_cases g2 : q = p
    · rw [if_pos g2, g2, h1]
    · rw [if_neg g2]
theorem ovS_0 (dA : Nat → ClassId) (x p : Nat) (S : MS) (P : PS) (n : Int) (L1 : Int → Int) (h : gH) (hpx : x + 73 ≤ p) : ovX dA x S P (ovS dA p n L1 h) p = some (gO 9 [.ref (p + 1), vI n]) := by
  rw [ovX_off _ _ _ _ _ (by omega)]
  unfold ovS
  rw [gup_n _ _ (by omega), gup_s]
theorem ovS_1 (dA : Nat → ClassId) (x p : Nat) (S : MS) (P : PS) (n : Int) (L1 : Int → Int) (h : gH) (hpx : x + 73 ≤ p) : ovX dA x S P (ovS dA p n L1 h) (p + 1) = some (gI (dA 0) 8 L1) := by
  rw [ovX_off _ _ _ _ _ (by omega)]
  unfold ovS
  rw [gup_s]
theorem ovS_w0 (dA : Nat → ClassId) (x p : Nat) (S : MS) (P : PS) (n v : Int) (L1 : Int → Int) (h : gH) (hpx : x + 73 ≤ p) : gup (ovX dA x S P (ovS dA p n L1 h)) p (gO 9 [.ref (p + 1), vI v]) = ovX dA x S P (ovS dA p v L1 h) := by
  rw [ovX_gup _ _ _ _ _ _ (by omega)]
  unfold ovS
  rw [gup_sw _ _ _ (show p + 1 ≠ p by omega), gup_gup]
theorem ovS_w1 (dA : Nat → ClassId) (x p : Nat) (S : MS) (P : PS) (n i v : Int) (L1 : Int → Int) (h : gH) (hpx : x + 73 ≤ p) : gup (ovX dA x S P (ovS dA p n L1 h)) (p + 1) (gI (dA 0) 8 (uI L1 i v)) = ovX dA x S P (ovS dA p n (uI L1 i v) h) := by
  rw [ovX_gup _ _ _ _ _ _ (by omega)]
  unfold ovS
  rw [gup_gup]
section SR
variable {X : gX} {cc : ByteArray} {own nm : String} {nL : Nat} {ret : Option FieldType} {D : va_G} {dA : Nat → ClassId} {N0 : Nat} {Y : State → Prop} {R : Room}
variable {k n x p : Nat} {S : MS} {P : PS} {h : gH} {n1 : Int} {L1 : Int → Int} {sz pc : Nat} {L : List (Option Value)} {st : List Value}
theorem Sp_g_many (C : gC X cc own nm nL ret D dA N0 Y R) (hpx : x + 73 ≤ p) {i : Nat} {host : String} (hl : va_Nw (.fieldLinkNest own i "WeaveDraft$Spool" "many" "I" host) (gs X)) (hdg : decode cc pc = .ok (.getfield i, 3)) (kk : G X k n (ovX dA x S P (ovS dA p (n1) (L1) h)) sz (pc + 3) L (vI n1 :: st)) : G X k n (ovX dA x S P (ovS dA p (n1) (L1) h)) sz pc L (.ref p :: st) :=
  g_getN C (ovS_0 dA x p S P n1 L1 h hpx) rfl in_X10 1 (by decide) hl rfl rfl hdg kk
theorem Sp_g_lengths (C : gC X cc own nm nL ret D dA N0 Y R) (hpx : x + 73 ≤ p) {i : Nat} {host : String} (hl : va_Nw (.fieldLinkNest own i "WeaveDraft$Spool" "lengths" "[I" host) (gs X)) (hdg : decode cc pc = .ok (.getfield i, 3)) (kk : G X k n (ovX dA x S P (ovS dA p (n1) (L1) h)) sz (pc + 3) L (.ref (p + 1) :: st)) : G X k n (ovX dA x S P (ovS dA p (n1) (L1) h)) sz pc L (.ref p :: st) :=
  g_getN C (ovS_0 dA x p S P n1 L1 h hpx) rfl in_X10 0 (by decide) hl rfl rfl hdg kk
theorem Sp_p_many (C : gC X cc own nm nL ret D dA N0 Y R) (hpx : x + 73 ≤ p) {i : Nat} {v : Int} {host : String} (hl : va_Nw (.fieldLinkNest own i "WeaveDraft$Spool" "many" "I" host) (gs X)) (hdg : decode cc pc = .ok (.putfield i, 3)) (kk : G X k n (ovX dA x S P (ovS dA p (v) (L1) h)) sz (pc + 3) L st) : G X k n (ovX dA x S P (ovS dA p (n1) (L1) h)) sz pc L (vI v :: .ref p :: st) := by
  refine g_putN C (ovS_0 dA x p S P n1 L1 h hpx) rfl in_X10 1 (by decide) tyX10 tyX10_ok nmX10 hl rfl rfl rfl rfl (Nat.le_of_ble_eq_true rfl) hdg ?_
  refine g_hE (ovS_w0 dA x p S P n1 v L1 h hpx) kk
theorem Sp_ld (C : gC X cc own nm nL ret D dA N0 Y R) (hpx : x + 73 ≤ p) {i : Int} (hi : 0 ≤ i ∧ i < 8) (hdg : decode cc pc = .ok (.iaload, 1)) (kk : G X k n (ovX dA x S P (ovS dA p (n1) (L1) h)) sz (pc + 1) L (vI (L1 i) :: st)) : G X k n (ovX dA x S P (ovS dA p (n1) (L1) h)) sz pc L (vI i :: .ref (p + 1) :: st) :=
  g_iald C (ovS_1 dA x p S P n1 L1 h hpx) (by omega) hdg kk
theorem Sp_st (C : gC X cc own nm nL ret D dA N0 Y R) (hpx : x + 73 ≤ p) {i v : Int} (hi : 0 ≤ i ∧ i < 8) (hdg : decode cc pc = .ok (.iastore, 1)) (kk : G X k n (ovX dA x S P (ovS dA p (n1) (uI L1 i v) h)) sz (pc + 1) L st) : G X k n (ovX dA x S P (ovS dA p (n1) (L1) h)) sz pc L (vI v :: vI i :: .ref (p + 1) :: st) := by
  refine g_iast C (ovS_1 dA x p S P n1 L1 h hpx) (by omega) hdg ?_
  refine g_hE (ovS_w1 dA x p S P n1 i v L1 h hpx) kk
end SR
theorem wind_L {S : MS} {t v : Int} {L1 : Int → Int} (h0 : 0 ≤ S 4 t) {j : Int} (j0 : 0 ≤ j) (j1 : j < S 4 t + 1) (q3 : ∀ j : Int, 0 ≤ j → j < S 4 t → L1 j = S 5 (8 * t + j)) : uI L1 (S 4 t) v j = if 5 = 5 ∧ 8 * t + j = 8 * t + S 4 t then v else S 5 (8 * t + j) := by
  unfold uI
  by_cases hj : j = S 4 t
  · rw [if_pos hj, if_pos (by omega)]
  · rw [if_neg hj, if_neg (by omega)]
    exact q3 j j0 (by omega)
/-- a spool in its slot has other contents -/
theorem rep_wr {dA : Nat → ClassId} {x sz p : Nat} {S S' : MS} {P : PS} {h : gH} {t n : Int} {L1 : Int → Int} (hr : rep dA x S P h sz) (ht : 0 ≤ t ∧ t < 3) (hp : P 2 t = some p) (en : ∀ a : Nat, a ≠ 4 → a ≠ 5 → S' a = S a) (h4 : S' 4 = uI (S 4) t n) (hn : 0 ≤ n) (hold : ∀ k : Int, 0 ≤ k → k < 3 → S 4 k ≤ 8)
    (h5 : ∀ j : Int, (j < 8 * t ∨ 8 * t + 8 ≤ j) → S' 5 j = S 5 j) (hL : ∀ j : Int, 0 ≤ j → j < n → L1 j = S' 5 (8 * t + j)) : rep dA x S' P (ovS dA p n L1 h) sz := by
  have h1 := hr.1
  have hrf : rfS P (10 + t) = some p := by unfold rfS; rw [if_neg (by omega), if_neg (by omega), show 10 + t - 10 = t by omega]; exact hp
  obtain ⟨t1, t2, t3, t4⟩ := (hr.2.1 (10 + t) (by omega) (by omega)).2 p hrf
  have hl : lnS (10 + t) = 2 := by unfold lnS; rw [if_neg (by omega)]
  refine rep_step hr (by rw [en 10 (by omega) (by omega)]; exact h1.1) (Nat.le_refl _) (10 + t) (by omega) p (fun _ _ _ _ => rfl) hrf (Or.inl hrf) ⟨t2, t3⟩ (fun q _ q2 => by unfold ovS; rw [gup_n _ _ (by omega), gup_n _ _ (by omega)]) (fun _ => ?_) ?_ (fun i a b c => ⟨?_, fun g w j j0 j1 => ?_, fun g => ⟨by rw [h4, uI_n _ _ (by omega)], fun j j0 j1 => h5 _ ?_⟩⟩)
  · unfold live
    rw [if_neg (by omega), if_neg (by omega), h4, show 10 + t - 10 = t by omega, uI_s]
    exact hn
  · unfold slotOk
    rw [if_neg (by omega), show 10 + t - 10 = t by omega, h4, uI_s]
    refine ⟨L1, ?_, ?_, hL⟩
    · unfold ovS; rw [gup_n _ _ (by omega), gup_s]
    · unfold ovS; rw [gup_s]
  · unfold live
    rw [en 10 (by omega) (by omega), en 2 (by omega) (by omega), h4]
    by_cases g1 : i < 8
    · rw [if_pos g1, if_pos g1]
    rw [if_neg g1, if_neg g1]
    by_cases g2 : i < 10
    · rw [if_pos g2, if_pos g2]
    · rw [if_neg g2, if_neg g2, uI_n _ _ (by omega)]
  · unfold bkF
    rw [en 0 (by omega) (by omega)]
  · have := hold (i - 10) (by omega) (by omega)
    omega

theorem nd_X0_wind : yX0_wind.cls ≠ "java/lang/invoke/MethodHandle" ∧ yX0_wind.cls ≠ "java/lang/invoke/VarHandle" ∧ (parseMethodDescriptor yX0_wind.desc).map (fun d => d.parameters.length) = some 2 := by decide +kernel
theorem mX0_wind {l : Launch} {D : va_G} {dA : Nat → ClassId} {N0 : Nat} {Y : State → Prop} (hY : gYc N0 Y) {h : gH} {sz x : Nat} {S : MS} {P : PS} {t v : Int} (hr0 : rep dA x S P h sz) (hrt : -2147483648 ≤ t ∧ t ≤ 2147483647) (hrv : -2147483648 ≤ v ∧ v ≤ 2147483647) (h4 : ∀ k : Int, 0 ≤ k → k < 3 → -1 ≤ S 4 k ∧ S 4 k ≤ 8)  : gM l D dA N0 Y yX0_wind cX0_wind 4 (some .int) 2 45 0 0 [.ref x, vI t, vI v] (ovX dA x S P h) sz (gPR (some (vI (windV S t v))) dA x (windS S t v) h sz) := by
  refine gM.of hY.ok (by decide +kernel) (Nat.le_of_ble_eq_true rfl) ?_
  intro X hX C hQ
  subst hX
  have C : gC X cX0_wind RX0 "wind" 4 (some .int) D dA N0 Y ({ frames := 2, cells := 0, slots := 0, locals := 45 }) := C
  show G X 0 0 _ _ 0 [some (.ref x), some (vI t), some (vI v), none] []
  have hsz := hr0.1.2
  refine g_iload_n C dX0_wind_0 (gi _) rfl ?_
  refine g_callS1z C (mX0_isSpool hY (by omega)) (lw_S q980 q981 q67 q982) nd_X0_isSpool ⟨by decide, by decide⟩ ⟨Nat.le_of_ble_eq_true rfl, Nat.le_of_ble_eq_true rfl⟩ rfl (Nat.le_of_ble_eq_true rfl) dX0_wind_1 ?_
  refine g_ifne_b C (tgt := 10) dX0_wind_4 (by decide) (fun c1 => ?_) (fun c1 => ?_)
  · have h1 := c1
    have h1e := inB_t.mp h1
    have h1n : ¬ inB t 0 2 = false := by rw [h1]; decide
    refine g_iload_n C dX0_wind_10 (gi _) rfl ?_
    refine g_i2lz C dX0_wind_11 (by omega) ?_
    refine g_lconstz C 1 rfl dX0_wind_12 ?_
    refine g_ldc2z C 99 (by decide +kernel) q1003 dX0_wind_13 ?_
    refine g_callS1z C (mX0_in hY (by omega)) (lw_S q265 q266 q67 q267) nd_X0_in ⟨by decide, by decide⟩ ⟨Nat.le_of_ble_eq_true rfl, Nat.le_of_ble_eq_true rfl⟩ rfl (Nat.le_of_ble_eq_true rfl) dX0_wind_16 ?_
    refine g_ifne_b C (tgt := 25) dX0_wind_19 (by decide) (fun c2 => ?_) (fun c2 => ?_)
    · have h2 := c2
      have h2e := inB_t.mp h2
      have h2n : ¬ inB v 1 99 = false := by rw [h2]; decide
      refine g_aload_n C dX0_wind_25 (gr _) rfl ?_
      refine X_g_spools C q235 dX0_wind_26 ?_
      refine g_iload_n C dX0_wind_29 (gi _) rfl ?_
      refine X_ld_spools C (by omega) dX0_wind_30 ?_
      refine g_astore_n1003 C dX0_wind_31 (grf _) rfl ?_
      refine g_aload_n C dX0_wind_32 (grf _) rfl ?_
      refine g_ifnonnull C (tgt := 39) dX0_wind_33 (by decide) (fun oc3 c3 => ?_) (fun c3 => ?_)
      · obtain ⟨p, hp⟩ : ∃ p, P 2 t = some p := ⟨_, c3⟩
        obtain ⟨⟨L1, q1, q2, q3⟩, q4, hpx, q6⟩ := rep_sp hr0 (by omega) hp
        have q8 := h4 t (by omega) (by omega)
        rw [show va_rf (P 2 t) = Value.ref p by rw [hp]; rfl]
        refine g_hE (show _ = ovX dA x S P (ovS dA p (S 4 t) L1 h) by rw [ovS_same q1 q2]) ?_
        refine g_aload_n C dX0_wind_39 (gr _) rfl ?_
        refine Sp_g_many C hpx (gtok hY C q993 rfl) dX0_wind_40 ?_
        refine g_bipush C dX0_wind_43 (by decide +kernel) ?_
        refine g_icmp_ne C (tgt := 51) dX0_wind_45 (by decide) (by omega) (fun c4 => ?_) (fun c4 => ?_)
        · refine g_aload_n C dX0_wind_51 (gr _) rfl ?_
          refine Sp_g_lengths C hpx (gtok hY C q991 rfl) dX0_wind_52 ?_
          refine g_aload_n C dX0_wind_55 (gr _) rfl ?_
          refine g_dup C dX0_wind_56 rfl ?_
          refine Sp_g_many C hpx (gtok hY C q993 rfl) dX0_wind_57 ?_
          refine g_dup_x1 C dX0_wind_60 rfl rfl ?_
          refine g_iconst C dX0_wind_61 ?_
          refine g_iadd C dX0_wind_62 ?_
          refine Sp_p_many C hpx (gtok hY C q993 rfl) dX0_wind_63 ?_
          refine g_iload_n C dX0_wind_66 (gi _) rfl ?_
          refine Sp_st C hpx (by omega) dX0_wind_67 ?_
          refine g_aload_n C dX0_wind_68 (gr _) rfl ?_
          refine Sp_g_many C hpx (gtok hY C q993 rfl) dX0_wind_69 ?_
          exact g_iret C hQ rfl dX0_wind_72 ⟨gv (by rw [windV, if_neg h1n, if_neg h2n, if_neg (by omega), if_neg (by omega)]), P, _, (by rw [windS, if_pos ⟨h1, h2, q4, by omega⟩]; exact (ovX_ext (by rw [us_n _ _ _ (by omega), us_n _ _ _ (by omega)]) (fun j _ _ => by rw [us_n _ _ _ (by omega), us_n _ _ _ (by omega)]) (by rw [us_n _ _ _ (by omega), us_n _ _ _ (by omega)]) (by rw [us_n _ _ _ (by omega), us_n _ _ _ (by omega)]) (by rw [us_n _ _ _ (by omega), us_n _ _ _ (by omega)])).symm), (by rw [windS, if_pos ⟨h1, h2, q4, by omega⟩]; exact rep_wr hr0 (by omega) hp (fun a a4 a5 => by rw [us_n _ _ _ a4, us_n _ _ _ a5]) (by rw [us_s, us_n _ _ _ (by omega)]) (by omega) (fun k k0 k1 => (h4 k k0 k1).2) (fun j hj => by rw [us_n _ _ _ (by omega), us_eq, if_neg (by omega)]) (fun j j0 j1 => by rw [us_n _ _ _ (by omega), us_eq]; exact wind_L q4 j0 j1 q3)), Nat.le_refl _, fun q hq => by unfold ovS; rw [gup_n _ _ (by omega), gup_n _ _ (by omega)]⟩
        · refine g_bipush C dX0_wind_48 (by decide +kernel) ?_
          exact g_iret C hQ rfl dX0_wind_50 ⟨gv (by rw [windV, if_neg h1n, if_neg h2n, if_neg (by omega), if_pos (by omega)]), P, h, (by rw [windS, if_neg (by intro z; first | (rw [h1] at z; exact absurd z.1 (by decide)) | (rw [h2] at z; exact absurd z.2.1 (by decide)) | omega)]; rw [ovS_same q1 q2]), by rw [windS, if_neg (by intro z; first | (rw [h1] at z; exact absurd z.1 (by decide)) | (rw [h2] at z; exact absurd z.2.1 (by decide)) | omega)]; exact hr0, Nat.le_refl _, fun q _ => rfl⟩
      · have hp : P 2 t = none := c3
        have q4 := rep_sn hr0 (by omega) hp
        refine g_bipush C dX0_wind_36 (by decide +kernel) ?_
        exact g_iret C hQ rfl dX0_wind_38 ⟨gv (by rw [windV, if_neg h1n, if_neg h2n, if_pos q4]), P, h, (by rw [windS, if_neg (by intro z; first | (rw [h1] at z; exact absurd z.1 (by decide)) | (rw [h2] at z; exact absurd z.2.1 (by decide)) | omega)]), by rw [windS, if_neg (by intro z; first | (rw [h1] at z; exact absurd z.1 (by decide)) | (rw [h2] at z; exact absurd z.2.1 (by decide)) | omega)]; exact hr0, Nat.le_refl _, fun q _ => rfl⟩
    · have h2 := c2
      refine g_bipush C dX0_wind_22 (by decide +kernel) ?_
      exact g_iret C hQ rfl dX0_wind_24 ⟨gv (by rw [windV, if_neg h1n, if_pos h2]), P, h, (by rw [windS, if_neg (by intro z; first | (rw [h1] at z; exact absurd z.1 (by decide)) | (rw [h2] at z; exact absurd z.2.1 (by decide)) | omega)]), by rw [windS, if_neg (by intro z; first | (rw [h1] at z; exact absurd z.1 (by decide)) | (rw [h2] at z; exact absurd z.2.1 (by decide)) | omega)]; exact hr0, Nat.le_refl _, fun q _ => rfl⟩
  · have h1 := c1
    refine g_bipush C dX0_wind_7 (by decide +kernel) ?_
    exact g_iret C hQ rfl dX0_wind_9 ⟨gv (by rw [windV, if_pos h1]), P, h, (by rw [windS, if_neg (by intro z; first | (rw [h1] at z; exact absurd z.1 (by decide)) | (rw [h2] at z; exact absurd z.2.1 (by decide)) | omega)]), by rw [windS, if_neg (by intro z; first | (rw [h1] at z; exact absurd z.1 (by decide)) | (rw [h2] at z; exact absurd z.2.1 (by decide)) | omega)]; exact hr0, Nat.le_refl _, fun q _ => rfl⟩
