/-! THE COMPONENT: note -/
set_option maxRecDepth 100000
/-- an answer, a new state in the reference's shape, the slots sound, nothing else touched -/
def gPR (v : Option Value) (dA : Nat → ClassId) (x : Nat) (T : MS) (h : gH) (sz : Nat) : Option Value → gH → Nat → Prop := fun v1 h1 z1 => v1 = v ∧ ∃ (P' : PS) (h2 : gH), h1 = ovX dA x T P' h2 ∧ rep dA x T P' h2 z1 ∧ sz ≤ z1 ∧ ∀ q : Nat, q < x + 73 → h2 q = h q
/-- a cell that is in no slot -/
def outS (P : PS) (q : Nat) : Prop := ∀ (i : Int) (p : Nat), 0 ≤ i → i < 13 → rfS P i = some p → q < p ∨ p + lnS i ≤ q
theorem out_lo {dA : Nat → ClassId} {x sz q : Nat} {S : MS} {P : PS} {h : gH} (hr : rep dA x S P h sz) (hq : q < x + 73) : outS P q := fun i p a b c => Or.inl (by have := ((hr.2.1 i a b).2 p c).2.1; omega)
def gPN (dA : Nat → ClassId) (x : Nat) (T : MS) (P : PS) (h : gH) (sz : Nat) : Option Value → gH → Nat → Prop := fun v1 h1 z1 => v1 = none ∧ ∃ (P' : PS) (h2 : gH), h1 = ovX dA x T P' h2 ∧ rep dA x T P' h2 z1 ∧ sz ≤ z1 ∧ (∀ q : Nat, q < x + 73 → h2 q = h q) ∧ ∀ q : Nat, q < sz → outS P q → h2 q = h q
theorem rot_in {P : PS} {i : Int} {p : Nat} (hi : 0 ≤ i ∧ i < 8) (hp : rot P 1 i = some p) : ∃ j : Int, (0 ≤ j ∧ j < 8) ∧ P 1 j = some p := by
  have h := rot_rf P (i := i) (by omega)
  unfold rfS at h
  rw [if_pos (by omega), hp] at h
  refine ⟨if i < 7 then i + 1 else if i = 7 then 0 else i, by (repeat' split) <;> omega, ?_⟩
  rw [if_pos (by (repeat' split) <;> omega)] at h
  exact h.symm
theorem kpU_7 {S : MS} (hu : 0 ≤ S 10 2 ∧ S 10 2 ≤ 8) : 0 ≤ kpU S ∧ kpU S ≤ 7 := by unfold kpU; split <;> omega
def ntS1 (S : MS) : MS := us (if S 10 2 = 8 then shK S 406 else S) 10 2 (kpU S)
theorem ntS1_u (S : MS) : ntS1 S 10 2 = kpU S := by unfold ntS1; rw [us_s, uI_s]
theorem kpS_1 (S : MS) : kpS S = us (cpR (ntS1 S) 0 (58 + 58 * ntS1 S 10 2)) 10 2 (ntS1 S 10 2 + 1) := by rw [ntS1_u]; rfl
theorem ntS1_8 {S : MS} (h : S 10 2 = 8) : ntS1 S = us (shK S 406) 10 2 7 := by unfold ntS1 kpU; rw [if_pos h, if_pos h]
theorem ntS1_n {S : MS} (h : S 10 2 ≠ 8) : ntS1 S = S := by
  unfold ntS1 kpU
  rw [if_neg h, if_neg h]
  funext a j
  rw [us_eq]
  split
  · rename_i g
    rw [g.1, g.2]
  · rfl
theorem rep_obj {dA : Nat → ClassId} {x sz : Nat} {S : MS} {P : PS} {h : gH} (hr : rep dA x S P h sz) {i : Int} {p : Nat} (hi : 0 ≤ i ∧ i < 8) (hp : P 1 i = some p) : (∃ F, isD dA x p F h) ∧ x + 73 ≤ p ∧ p + 28 ≤ sz := by
  have hrf : rfS P i = some p := by unfold rfS; rw [if_pos (by omega)]; exact hp
  obtain ⟨t1, t2, t3, t4⟩ := (hr.2.1 i (by omega) (by omega)).2 p hrf
  unfold slotOk at t4
  rw [if_pos (by omega)] at t4
  unfold lnS at t3
  rw [if_pos (by omega)] at t3
  exact ⟨⟨_, t4.choose_spec.1⟩, t2, t3⟩
theorem rep_fo {dA : Nat → ClassId} {x sz : Nat} {S : MS} {P : PS} {h : gH} (hr : rep dA x S P h sz) (hsz : x + 73 ≤ sz) {i : Int} {p : Nat} (hi : 0 ≤ i ∧ i < 8) (hp : P 1 i = some p) : ∃ fs, ovX dA x S P h p = some (gO 1 fs) := by
  obtain ⟨⟨F, hF⟩, h1, h2⟩ := rep_obj hr hi hp
  exact ⟨_, isD_0 (isX_out hF (by omega))⟩

theorem nd_X0_note : yX0_note.cls ≠ "java/lang/invoke/MethodHandle" ∧ yX0_note.cls ≠ "java/lang/invoke/VarHandle" ∧ (parseMethodDescriptor yX0_note.desc).map (fun d => d.parameters.length) = some 0 := by decide +kernel
theorem mX0_note {l : Launch} {D : va_G} {dA : Nat → ClassId} {N0 : Nat} {Y : State → Prop} (hY : gYc N0 Y) {h : gH} {sz x : Nat} {S : MS} {P : PS} (hr0 : rep dA x S P h sz) : gM l D dA N0 Y yX0_note cX0_note 2 none 4 86 28 134 [.ref x] (ovX dA x S P h) sz (gPN dA x (kpS S) P h sz) := by
  refine gM.of hY.ok (by decide +kernel) (Nat.le_of_ble_eq_true rfl) ?_
  intro X hX C hQ
  subst hX
  have C : gC X cX0_note RX0 "note" 2 none D dA N0 Y ({ frames := 4, cells := 28, slots := 134, locals := 86 }) := C
  show G X 0 0 _ _ 0 [some (.ref x), none] []
  have hbm := hr0.1.1
  have hsz := hr0.1.2
  have hk7 := kpU_7 hbm
  have jn49 : ∀ (P1 : PS), (rep dA x (ntS1 S) P1 h sz ∧ ∀ (i : Int) (p : Nat), 0 ≤ i ∧ i < 8 → P1 1 i = some p → ∃ j : Int, (0 ≤ j ∧ j < 8) ∧ P 1 j = some p) → G X 0 0 (ovX dA x (ntS1 S) P1 h) sz 49 [some (.ref x), none] [] := by
    intro P1 ⟨hr1, hin1⟩
    have hu1 := ntS1_u S
    have jn78 : ∀ (P2 : PS) (h2 : gH) (z2 p : Nat) (F : Int → Int), (rep dA x (ntS1 S) P2 h2 z2 ∧ sz ≤ z2 ∧ P2 1 (ntS1 S 10 2) = some p ∧ isD dA x p F h2 ∧ (∀ q : Nat, q < sz → outS P q → h2 q = h q) ∧ x + 73 ≤ p ∧ (sz ≤ p ∨ ∃ j : Int, (0 ≤ j ∧ j < 8) ∧ P 1 j = some p)) → G X 28 134 (ovX dA x (ntS1 S) P2 h2) z2 78 [some (.ref x), none] [] := by
      intro P2 h2 z2 p F ⟨hr2, hz2, hp, hF, hfr, hpx, hin⟩
      refine g_aload_n C dX0_note_78 (gr _) rfl ?_
      refine X_g_backs C q221 dX0_note_79 ?_
      refine g_aload_n C dX0_note_82 (gr _) rfl ?_
      refine g_dup C dX0_note_83 rfl ?_
      refine X_g_backMany C q222 dX0_note_84 ?_
      refine g_dup_x1 C dX0_note_87 rfl rfl ?_
      refine g_iconst C dX0_note_88 ?_
      refine g_iadd C dX0_note_89 ?_
      refine X_p_backMany C q222 dX0_note_90 ?_
      refine X_ld_backs C (by omega) dX0_note_93 ?_
      refine g_topv (v' := .ref p) (by rw [hp]; rfl) ?_
      refine g_aload_n C dX0_note_94 (gr _) rfl ?_
      refine X_g_now C q218 dX0_note_95 ?_
      refine g_hE (ovD_same (isX_out hF (by omega))).symm ?_
      refine g_callV1z C (mX1_set hY (isX_now dA x _ P2 h2) (by omega)) (lw_V q829 q830 q831 q68 q832) ⟨rfl, nd_X1_set⟩ (isD_0 (isD_ov _ _ _ _ _)) rfl ⟨by decide, by decide⟩ ⟨Nat.le_of_ble_eq_true rfl, Nat.le_of_ble_eq_true rfl⟩ rfl (Nat.le_of_ble_eq_true rfl) dX0_note_98 ?_
      refine g_hE (ovX_ovD _ _ _ _ _ _ _ _ (by omega)) ?_
      refine g_pop C dX0_note_101 rfl ?_
      exact g_vret C hQ rfl dX0_note_102 ⟨rfl, P2, _, (by rw [kpS_1]; exact ovX_ext (by rw [us_s, us_s, cpR_n (by omega)]) (fun j j0 j1 => by rw [us_n _ _ _ (by omega), us_n _ _ _ (by omega), cpR_out (by omega)]) (by rw [us_n _ _ _ (by omega), us_n _ _ _ (by omega), cpR_n (by omega)]) (by rw [us_n _ _ _ (by omega), us_n _ _ _ (by omega), cpR_n (by omega)]) (by rw [us_n _ _ _ (by omega), us_n _ _ _ (by omega), cpR_n (by omega)])), by rw [kpS_1]; exact rep_note hr2 (by omega) hp, hz2, fun q hq => by rw [ovD_off _ _ _ _ _ (by omega)]; exact hfr q (by omega) (out_lo hr0 hq), fun q hq ho => by rw [ovD_off _ _ _ _ _ (by rcases hin with z | ⟨j, hj, hpj⟩; exact Or.inl (by omega); have hoj := ho j p hj.1 (by omega) (by unfold rfS; rw [if_pos hj.2]; exact hpj); unfold lnS at hoj; rw [if_pos (by omega)] at hoj; exact hoj)]; exact hfr q hq ho⟩
    refine g_aload_n C dX0_note_49 (gr _) rfl ?_
    refine X_g_backs C q221 dX0_note_50 ?_
    refine g_aload_n C dX0_note_53 (gr _) rfl ?_
    refine X_g_backMany C q222 dX0_note_54 ?_
    refine X_ld_backs C (by omega) dX0_note_57 ?_
    refine g_ifnonnull C (tgt := 78) dX0_note_58 (by decide) (fun oc1 c1 => ?_) (fun c1 => ?_)
    · obtain ⟨pp, hpp⟩ : ∃ pp, P1 1 (ntS1 S 10 2) = some pp := ⟨_, c1⟩
      refine g_widen (k' := 28) (n' := 134) (Nat.le_of_ble_eq_true rfl) (Nat.le_of_ble_eq_true rfl) ?_
      refine g_sub (L' := [some _, none]) ⟨rfl, trivial⟩ ?_
      exact jn78 P1 h sz pp (Classical.choose (rep_obj hr1 (by omega) hpp).1) (⟨hr1, Nat.le_refl _, hpp, Classical.choose_spec (rep_obj hr1 (by omega) hpp).1, fun q hq _ => rfl, (rep_obj hr1 (by omega) hpp).2.1, Or.inr (hin1 _ _ (by omega) hpp)⟩)
    · refine g_aload_n C dX0_note_61 (gr _) rfl ?_
      refine X_g_backs C q221 dX0_note_62 ?_
      refine g_aload_n C dX0_note_65 (gr _) rfl ?_
      refine X_g_backMany C q222 dX0_note_66 ?_
      refine g_new C (ci := 1) (fs := [vI 0, vI 0, vI 0, vI 0, .null, .null, .null, .null]) rfl in_X1 tyX1 tyX1_ok q108 q109 q68 (by decide +kernel) ⟨Nat.le_of_ble_eq_true rfl, Nat.le_of_ble_eq_true rfl⟩ dX0_note_69 (fun _ => ?_)
      refine g_dup C dX0_note_72 rfl ?_
      refine g_aload_n C dX0_note_73 (gr _) rfl ?_
      refine g_callI0 C (mX1_init hY) (lw_meth q112) q68 q110 q111 rfl nd_X1_init ⟨by decide, by decide⟩ ⟨Nat.le_of_ble_eq_true rfl, Nat.le_of_ble_eq_true rfl⟩ rfl (Nat.le_of_ble_eq_true rfl) dX0_note_74 ?_
      refine g_hE (ovX_ovD _ _ _ _ _ _ _ _ (by omega)) ?_
      refine X_st_backs C (fs := _) ((ovX_off _ _ _ _ _ (by omega)).trans (isD_0 (isD_ov dA x sz _ h))) (by omega) dX0_note_77 ?_
      refine g_widen (k' := 28) (n' := 134) (Nat.le_of_ble_eq_true rfl) (Nat.le_of_ble_eq_true rfl) ?_
      refine g_sub (L' := [some _, none]) ⟨rfl, trivial⟩ ?_
      exact jn78 _ _ _ sz _ (⟨rep_new hr1 (by omega), by omega, by rw [up_s, uI_s], isD_ov _ _ _ _ _, fun q hq _ => ovD_off _ _ _ _ _ (by omega), hsz, Or.inl (Nat.le_refl _)⟩)
  refine g_aload_n C dX0_note_0 (gr _) rfl ?_
  refine X_g_backMany C q222 dX0_note_1 ?_
  refine g_bipush C dX0_note_4 (by decide +kernel) ?_
  refine g_icmp_ne C (tgt := 49) dX0_note_6 (by decide) (by omega) (fun c2 => ?_) (fun c2 => ?_)
  · have hn8 : S 10 2 ≠ 8 := c2
    refine g_hE (gx (ntS1_n hn8).symm) ?_
    refine g_sub (L' := [some _, none]) ⟨rfl, trivial⟩ ?_
    exact jn49 P (⟨by rw [ntS1_n hn8]; exact hr0, fun i p hi hp => ⟨i, hi, hp⟩⟩)
  · have h8 : S 10 2 = 8 := by omega
    obtain ⟨p0, hp0⟩ : ∃ p0, P 1 0 = some p0 := by
      cases hh : P 1 0 with
      | some p0 => exact ⟨p0, rfl⟩
      | none => exact absurd (show live S 0 by unfold live; rw [if_pos (by omega)]; omega) ((hr0.2.1 0 (by omega) (by omega)).1 (by unfold rfS; rw [if_pos (by omega)]; exact hh))
    obtain ⟨⟨F0, hF0⟩, hp0x, hp0s⟩ := rep_obj hr0 (by omega) hp0
    refine g_aload_n C dX0_note_9 (gr _) rfl ?_
    refine X_g_backs C q221 dX0_note_10 ?_
    refine g_iconst C dX0_note_13 ?_
    refine X_ld_backs C (by omega) dX0_note_14 ?_
    refine g_astore_n1001 C dX0_note_15 (grf _) rfl ?_
    refine g_aload_n C dX0_note_16 (gr _) rfl ?_
    refine X_g_backs C q221 dX0_note_17 ?_
    refine g_iconst C dX0_note_20 ?_
    refine g_aload_n C dX0_note_21 (gr _) rfl ?_
    refine X_g_backs C q221 dX0_note_22 ?_
    refine g_iconst C dX0_note_25 ?_
    refine g_bipush C dX0_note_26 (by decide +kernel) ?_
    refine g_copyR C 3 rfl (ci := 1) rfl (ovX_58 dA x S P h) (ovX_58 dA x S P h) (fun j j0 j1 y hy => rep_fo hr0 hr0.1.2 (by omega) hy) (by omega) (by omega) q828 q418 q417 q81 (Nat.le_of_ble_eq_true rfl) (by decide) (by decide +kernel) dX0_note_28 ?_
    refine g_hE (ovX_wQ dA x S P h _) ?_
    refine g_aload_n C dX0_note_31 (gr _) rfl ?_
    refine X_g_backs C q221 dX0_note_32 ?_
    refine g_bipush C dX0_note_35 (by decide +kernel) ?_
    refine g_aload_n C dX0_note_37 (grf _) rfl ?_
    refine g_topv (v' := .ref p0) (by rw [hp0]; rfl) ?_
    refine X_st_backs C (fs := _) ((ovX_off _ _ _ _ _ (by omega)).trans (isD_0 hF0)) (by omega) dX0_note_38 ?_
    refine g_hE (show _ = ovX dA x S (rot P) h by unfold rot; rw [hp0]) ?_
    refine g_aload_n C dX0_note_39 (gr _) rfl ?_
    refine g_dup C dX0_note_40 rfl ?_
    refine X_g_backMany C q222 dX0_note_41 ?_
    refine g_iconst C dX0_note_44 ?_
    refine g_isub C dX0_note_45 ?_
    refine X_p_backMany C q222 dX0_note_46 ?_
    refine g_hE (show _ = ovX dA x (ntS1 S) (rot P) h from ?_) ?_
    · rw [ntS1_8 h8]
      refine (ovX_ext ?_ ?_ ?_ ?_ ?_).symm
      · rw [us_s, us_s, show S 10 2 - 1 = 7 by omega]; funext j; unfold uI shK; split <;> first | rfl | (rw [if_neg (by omega)])
      · intro j j0 j1; rw [us_n _ _ _ (by omega), us_n _ _ _ (by omega)]; unfold shK; rw [if_neg (by omega)]
      · rw [us_n _ _ _ (by omega), us_n _ _ _ (by omega)]; exact shK_n S _ (by omega)
      · rw [us_n _ _ _ (by omega), us_n _ _ _ (by omega)]; exact shK_n S _ (by omega)
      · rw [us_n _ _ _ (by omega), us_n _ _ _ (by omega)]; exact shK_n S _ (by omega)
    refine g_sub (L' := [some _, none]) ⟨rfl, trivial⟩ ?_
    exact jn49 (rot P) (⟨by rw [ntS1_8 h8]; exact rep_rot hr0 h8, fun i p hi hp => rot_in hi hp⟩)
