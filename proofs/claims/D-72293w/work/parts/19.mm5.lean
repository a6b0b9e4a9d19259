/-! THE REFERENCE AS FUNCTIONS of its state: the scan stays sound -/
set_option maxRecDepth 100000
theorem nbP_f {k lo hi : Int} {S : MS} (h : (nbP k lo hi S).1 = false) : (nbP k lo hi S).2 = S := by
  unfold nbP at h ⊢
  simp only at h ⊢
  rw [if_neg (by rw [h]; decide)]
theorem nbP_t {k lo hi : Int} {S : MS} (h : (nbP k lo hi S).1 = true) : (nbP k lo hi S).2 = ntS (us S 7 k (digV S)) := by
  unfold nbP at h ⊢
  simp only at h ⊢
  rw [if_pos h]
theorem okP_b {S : MS} (h : OkP S) : 0 ≤ S 10 5 ∧ S 10 5 ≤ S 10 3 := by
  have := h.1
  have := h.2.1
  exact ⟨by omega, h.2.2.1⟩
theorem nbP_X {k lo hi : Int} {S : MS} (h : OkX S) : OkX (nbP k lo hi S).2 := by
  cases hb : (nbP k lo hi S).1 with
  | false => rw [nbP_f hb]; exact h
  | true => rw [nbP_t hb]; exact ntS_X (us7_X h)
theorem nbP_P {k lo hi : Int} {S : MS} (h : OkP S) : OkP (nbP k lo hi S).2 := by
  cases hb : (nbP k lo hi S).1 with
  | false => rw [nbP_f hb]; exact h
  | true => rw [nbP_t hb]; exact ntS_P (okP_b (us7_P h))
theorem nbP_n {k lo hi : Int} {S : MS} {x : Nat} (h1 : x ≠ 7) (h2 : x ≠ 10) : (nbP k lo hi S).2 x = S x := by
  cases hb : (nbP k lo hi S).1 with
  | false => rw [nbP_f hb]
  | true => rw [nbP_t hb, ntS_n h2, us_n _ _ _ h1]
theorem nbP_10 {k lo hi : Int} {S : MS} {j : Int} (h1 : j ≠ 4) (h2 : j ≠ 5) : (nbP k lo hi S).2 10 j = S 10 j := by
  cases hb : (nbP k lo hi S).1 with
  | false => rw [nbP_f hb]
  | true => rw [nbP_t hb, ntS_10, if_neg h2, if_neg h1, us_n _ _ _ (by omega)]
theorem nbP_Q {k lo hi : Int} {S : MS} (h : OkQ S) : OkQ (nbP k lo hi S).2 := by
  unfold OkQ
  rw [nbP_n (by omega) (by omega)]
  exact h
theorem nbP_7 {k lo hi : Int} {S : MS} (h : (nbP k lo hi S).1 = true) : lo ≤ (nbP k lo hi S).2 7 k ∧ (nbP k lo hi S).2 7 k ≤ hi := by
  rw [nbP_t h, ntS_n (by omega), us_eq, if_pos ⟨rfl, rfl⟩]
  have h : nbB S lo hi = true := h
  unfold nbB at h
  rw [Bool.and_eq_true] at h
  exact inB_t.mp h.2
theorem nbP_7n {k lo hi j : Int} {S : MS} (h : j ≠ k) : (nbP k lo hi S).2 7 j = S 7 j := by
  cases hb : (nbP k lo hi S).1 with
  | false => rw [nbP_f hb]
  | true => rw [nbP_t hb, ntS_n (by omega), us_eq, if_neg (by omega)]
theorem crF_st {S : MS} {s : Bool × Int} {i n : Nat} (h : (fo (crF S) s i).1 = false) (hn : i ≤ n) : fo (crF S) s n = fo (crF S) s i := by
  obtain ⟨d, rfl⟩ : ∃ d, n = i + d := ⟨n - i, by omega⟩
  clear hn
  induction d with
  | zero => rfl
  | succ d ih =>
    show crF S _ (fo (crF S) s (i + d)) = _
    rw [ih]
    generalize fo (crF S) s i = x at h ⊢
    unfold crF
    rw [if_neg (by rw [h]; decide)]
theorem crV_rg (S : MS) (h : S 10 5 - S 10 4 ≤ 200) (n : Nat) (hn : n ≤ (S 10 5 - S 10 4).toNat) : (0 ≤ (fo (crF S) (cr0 S, 0) n).2 ∧ (fo (crF S) (cr0 S, 0) n).2 < 4096) ∧ ((fo (crF S) (cr0 S, 0) n).1 = true → cr0 S = true) := by
  induction n with
  | zero => exact ⟨by show (0 : Int) ≤ 0 ∧ (0 : Int) < 4096; omega, fun h => h⟩
  | succ n ih =>
    have ih := ih (by omega)
    have e : fo (crF S) (cr0 S, 0) (n + 1) = crF S n (fo (crF S) (cr0 S, 0) n) := rfl
    rw [e]
    generalize fo (crF S) (cr0 S, 0) n = x at ih ⊢
    unfold crF
    by_cases hx : x.1 = true
    · rw [if_pos hx]
      have h0 := ih.2 hx
      have h1 : S 10 5 - S 10 4 ≤ 12 := by unfold cr0 at h0; exact (of_decide_eq_true h0).2.1
      refine ⟨or12 ⟨ih.1, ?_⟩, fun _ => h0⟩
      split
      · have := sh12 (i := (n : Int)) (by omega); omega
      · omega
    · rw [if_neg hx]
      exact ih
theorem crP_f {S : MS} (h : (crP S).1 = false) : (crP S).2 = S := by
  unfold crP at h ⊢
  simp only at h ⊢
  rw [if_neg (by rw [h]; decide)]
theorem crP_t {S : MS} (h : (crP S).1 = true) : (crP S).2 = ntS (us (us S 7 0 (crV S).2) 7 1 (S 10 5 - S 10 4)) := by
  unfold crP at h ⊢
  simp only at h ⊢
  rw [if_pos h]
theorem crP_X {S : MS} (h : OkX S) : OkX (crP S).2 := by
  cases hb : (crP S).1 with
  | false => rw [crP_f hb]; exact h
  | true => rw [crP_t hb]; exact ntS_X (us7_X (us7_X h))
theorem crP_P {S : MS} (h : OkP S) : OkP (crP S).2 := by
  cases hb : (crP S).1 with
  | false => rw [crP_f hb]; exact h
  | true => rw [crP_t hb]; exact ntS_P (okP_b (us7_P (us7_P h)))
theorem crP_n {S : MS} {x : Nat} (h1 : x ≠ 7) (h2 : x ≠ 10) : (crP S).2 x = S x := by
  cases hb : (crP S).1 with
  | false => rw [crP_f hb]
  | true => rw [crP_t hb, ntS_n h2, us_n _ _ _ h1, us_n _ _ _ h1]
theorem crP_10 {S : MS} {j : Int} (h1 : j ≠ 4) (h2 : j ≠ 5) : (crP S).2 10 j = S 10 j := by
  cases hb : (crP S).1 with
  | false => rw [crP_f hb]
  | true => rw [crP_t hb, ntS_10, if_neg h2, if_neg h1, us_n _ _ _ (by omega), us_n _ _ _ (by omega)]
theorem crP_7 {S : MS} (hX : OkX S) (hP : OkP S) (h : (crP S).1 = true) : ((crP S).2 7 0 = (crV S).2 ∧ 0 ≤ (crV S).2 ∧ (crV S).2 < 4096) ∧ (crP S).2 7 1 = S 10 5 - S 10 4 ∧ S 10 5 - S 10 4 ≤ 12 ∧ 1 ≤ S 10 5 - S 10 4 := by
  have hp3 := hP.2.2.2
  have hp := hP.2.1
  have hp1 := hP.2.2.1
  have hx := hX.1
  have hp0 := hP.1
  have hr := crV_rg S (by omega) (S 10 5 - S 10 4).toNat (Nat.le_refl _)
  have h0 : cr0 S = true := hr.2 h
  have h1 : S 10 5 - S 10 4 ≤ 12 := by unfold cr0 at h0; exact (of_decide_eq_true h0).2.1
  have h2 : S 10 4 < S 10 3 := by unfold cr0 at h0; exact (of_decide_eq_true h0).1
  rw [crP_t h, ntS_n (by omega), us_eq, us_eq, if_neg (by omega), if_pos ⟨rfl, rfl⟩, us_eq, if_pos ⟨rfl, rfl⟩]
  exact ⟨⟨rfl, hr.1⟩, rfl, h1, by omega⟩
/-- one read, then the next -/
theorem andP_i {b : Bool × MS} {f : MS → Bool × MS} {C : MS → Prop} (h1 : C b.2) (h2 : ∀ T, C T → C (f T).2) : C (andP b f).2 := by
  unfold andP
  split
  · exact h2 _ h1
  · exact h1
theorem rrP_i {C : MS → Prop} {S : MS} {w : Int} (h : C S) (hn : ∀ (k lo hi : Int) (T : MS), C T → C (nbP k lo hi T).2) (hc : ∀ T, C T → C (crP T).2) : C (rrP S w).2 := by
  unfold rrP
  (repeat' split) <;> first | exact h | exact hc _ h | exact andP_i (andP_i (andP_i (hn _ _ _ _ h) (hn _ _ _)) (hn _ _ _)) (hn _ _ _) | exact andP_i (hn _ _ _ _ h) (fun T hT => hn _ _ _ T hT)
theorem rrP_X {S : MS} {w : Int} (h : OkX S) : OkX (rrP S w).2 := rrP_i h (fun _ _ _ _ hT => nbP_X hT) (fun _ hT => crP_X hT)
theorem rrP_P {S : MS} {w : Int} (h : OkP S) : OkP (rrP S w).2 := rrP_i h (fun _ _ _ _ hT => nbP_P hT) (fun _ hT => crP_P hT)
theorem rrP_n {S : MS} {w : Int} {x : Nat} (h1 : x ≠ 7) (h2 : x ≠ 10) : (rrP S w).2 x = S x := rrP_i (C := fun T => T x = S x) rfl (fun _ _ _ T hT => (nbP_n h1 h2).trans hT) (fun _ hT => (crP_n h1 h2).trans hT)
theorem rrP_10 {S : MS} {w j : Int} (h1 : j ≠ 4) (h2 : j ≠ 5) : (rrP S w).2 10 j = S 10 j := rrP_i (C := fun T => T 10 j = S 10 j) rfl (fun _ _ _ T hT => (nbP_10 h1 h2).trans hT) (fun _ hT => (crP_10 h1 h2).trans hT)
theorem rrP_Q {S : MS} {w : Int} (h : OkQ S) : OkQ (rrP S w).2 := by
  unfold OkQ
  rw [rrP_n (by omega) (by omega)]
  exact h
/-- what the numbers are, once they are read -/
def numH (Q N : Int → Int) (w : Int) : Prop :=
  (w = 0 → (1 ≤ N 0 ∧ N 0 ≤ 12) ∧ (1 ≤ N 1 ∧ N 1 ≤ 12) ∧ (1 ≤ N 2 ∧ N 2 ≤ 6) ∧ 1 ≤ N 3 ∧ N 3 ≤ 6) ∧
  (w = 1 → (0 ≤ N 0 ∧ N 0 ≤ Q 0 - 1) ∧ 0 ≤ N 1 ∧ N 1 ≤ Q 2 - 1) ∧
  (w = 2 → (0 ≤ N 0 ∧ N 0 ≤ Q 3 - 1) ∧ 0 ≤ N 1 ∧ N 1 ≤ Q 2 - 1) ∧
  (w = 3 → (0 ≤ N 0 ∧ N 0 ≤ Q 1 - 1) ∧ 0 ≤ N 1 ∧ N 1 ≤ Q 3 - 1) ∧
  (w = 4 → (0 ≤ N 0 ∧ N 0 ≤ Q 0 - 1) ∧ 0 ≤ N 1 ∧ N 1 ≤ 9) ∧
  (w = 5 → (0 ≤ N 0 ∧ N 0 ≤ Q 1 - 1) ∧ 0 ≤ N 1 ∧ N 1 ≤ 9) ∧
  (w = 7 → (0 ≤ N 0 ∧ N 0 < 4096) ∧ 1 ≤ N 1 ∧ N 1 ≤ 12)
theorem andP_t {b : Bool × MS} {f : MS → Bool × MS} (h : (andP b f).1 = true) : b.1 = true ∧ andP b f = f b.2 := by
  unfold andP at h ⊢
  by_cases hb : b.1 = true
  · rw [if_pos hb]; exact ⟨hb, rfl⟩
  · rw [if_neg hb] at h; cases h
theorem rrP_num {S : MS} {w : Int} (hX : OkX S) (hP : OkP S) (h : (rrP S w).1 = true) : numH (S 6) ((rrP S w).2 7) w := by
  refine ⟨fun hw => ?_, fun hw => ?_, fun hw => ?_, fun hw => ?_, fun hw => ?_, fun hw => ?_, fun hw => ?_⟩
  · have e : rrP S w = andP (andP (andP (nbP 0 1 12 S) (nbP 1 1 12)) (nbP 2 1 6)) (nbP 3 1 6) := by unfold rrP; rw [if_pos hw]
    rw [e] at h ⊢
    obtain ⟨h3, e3⟩ := andP_t h
    rw [e3] at h ⊢
    obtain ⟨h2, e2⟩ := andP_t h3
    rw [e2] at h h3 ⊢
    obtain ⟨h1, e1⟩ := andP_t h2
    rw [e1] at h h3 h2 ⊢
    have q3 := nbP_7 h
    have q2 := nbP_7 h3
    have q1 := nbP_7 h2
    have q0 := nbP_7 h1
    rw [nbP_7n (k := 3) (j := 0) (by omega), nbP_7n (k := 2) (j := 0) (by omega), nbP_7n (k := 1) (j := 0) (by omega), nbP_7n (k := 3) (j := 1) (by omega), nbP_7n (k := 2) (j := 1) (by omega), nbP_7n (k := 3) (j := 2) (by omega)]
    exact ⟨q0, q1, q2, q3⟩
  all_goals unfold rrP at h ⊢
  · rw [if_neg (by omega), if_pos (by omega)] at h ⊢
    obtain ⟨h1, e1⟩ := andP_t h
    rw [e1] at h ⊢
    have q1 := nbP_7 h
    have q0 := nbP_7 h1
    rw [nbP_7n (k := 1) (j := 0) (by omega)]
    rw [nbP_n (x := 6) (by omega) (by omega)] at q1 ⊢
    exact ⟨q0, q1⟩
  · rw [if_neg (by omega), if_neg (by omega), if_pos (by omega)] at h ⊢
    obtain ⟨h1, e1⟩ := andP_t h
    rw [e1] at h ⊢
    have q1 := nbP_7 h
    have q0 := nbP_7 h1
    rw [nbP_7n (k := 1) (j := 0) (by omega)]
    rw [nbP_n (x := 6) (by omega) (by omega)] at q1 ⊢
    exact ⟨q0, q1⟩
  · rw [if_neg (by omega), if_neg (by omega), if_neg (by omega), if_pos (by omega)] at h ⊢
    obtain ⟨h1, e1⟩ := andP_t h
    rw [e1] at h ⊢
    have q1 := nbP_7 h
    have q0 := nbP_7 h1
    rw [nbP_7n (k := 1) (j := 0) (by omega)]
    rw [nbP_n (x := 6) (by omega) (by omega)] at q1 ⊢
    exact ⟨q0, q1⟩
  · rw [if_neg (by omega), if_neg (by omega), if_neg (by omega), if_neg (by omega), if_pos (by omega)] at h ⊢
    obtain ⟨h1, e1⟩ := andP_t h
    rw [e1] at h ⊢
    have q1 := nbP_7 h
    have q0 := nbP_7 h1
    rw [nbP_7n (k := 1) (j := 0) (by omega)]
    exact ⟨q0, q1⟩
  · rw [if_neg (by omega), if_neg (by omega), if_neg (by omega), if_neg (by omega), if_neg (by omega), if_pos (by omega)] at h ⊢
    obtain ⟨h1, e1⟩ := andP_t h
    rw [e1] at h ⊢
    have q1 := nbP_7 h
    have q0 := nbP_7 h1
    rw [nbP_7n (k := 1) (j := 0) (by omega)]
    exact ⟨q0, q1⟩
  · rw [if_neg (by omega), if_neg (by omega), if_neg (by omega), if_neg (by omega), if_neg (by omega), if_neg (by omega), if_neg (by omega)] at h ⊢
    have q := crP_7 hX hP h
    rw [q.1.1, q.2.1]
    exact ⟨q.1.2, q.2.2.2, q.2.2.1⟩
theorem fwR_rg (p : Int → Bool) (f : Nat) (r : Int) (h : 0 ≤ r) : fwR p f r = -1 ∨ (r ≤ fwR p f r ∧ fwR p f r < r + f ∧ p (fwR p f r) = true) := by
  induction f generalizing r with
  | zero => exact Or.inl rfl
  | succ f ih =>
    unfold fwR
    by_cases hp : p r = true
    · rw [if_pos hp]; exact Or.inr ⟨by omega, by omega, hp⟩
    · rw [if_neg hp]
      rcases ih (r + 1) (by omega) with e | e
      · exact Or.inl e
      · exact Or.inr ⟨by omega, by omega, e.2.2⟩
theorem whV_rg (S : MS) : -1 ≤ whV S ∧ whV S ≤ 7 := by
  have := fwR_rg (wordB S) 8 0 (by omega)
  unfold whV
  omega
theorem noS_n {S : MS} {w : Int} {x : Nat} (h : x ≠ 6) : noS S w x = S x := by
  unfold noS
  (repeat' split)
  · funext j; simp [noK, h]
  · rw [us_n _ _ _ h, us_n _ _ _ h]
  · rw [us_n _ _ _ h, us_n _ _ _ h]
  · rfl
theorem noS_X {S : MS} {w : Int} (h : OkX S) : OkX (noS S w) := by
  unfold OkX
  rw [noS_n (by omega), noS_n (by omega), noS_n (by omega)]
  exact h
theorem noS_P {S : MS} {w : Int} (h : OkP S) : OkP (noS S w) := by
  unfold OkP
  rw [noS_n (by omega)]
  exact h
theorem noS_Q {S : MS} {w : Int} (h : OkQ S) (hn : numH (S 6) (S 7) w) (h4 : w = 7 → S 6 4 ≠ 12) : OkQ (noS S w) := by
  obtain ⟨n0, -, -, -, -, -, n7⟩ := hn
  obtain ⟨q0, q1, q2, q3, q4, q5⟩ := h
  unfold noS
  by_cases w0 : w = 0
  · rw [if_pos w0]
    have := n0 w0
    refine ⟨?_, ?_, ?_, ?_, ?_, ?_⟩ <;> simp [noK] <;> omega
  · rw [if_neg w0]
    by_cases w6 : w = 6
    · rw [if_pos w6]
      refine ⟨?_, ?_, ?_, ?_, ?_, ?_⟩ <;> simp [us_eq] <;> omega
    · rw [if_neg w6]
      by_cases w7 : w = 7
      · rw [if_pos w7]
        have := n7 w7
        have := h4 w7
        refine ⟨?_, ?_, ?_, ?_, ?_, ?_⟩ <;> simp [us_eq] <;> omega
      · rw [if_neg w7]
        exact ⟨q0, q1, q2, q3, q4, q5⟩
theorem dsS_n {S : MS} {w : Int} {x : Nat} (h0 : x ≠ 0) (h1 : x ≠ 1) (h2 : x ≠ 10) : dsS S w x = S x := by
  unfold dsS
  (repeat' split) <;> first | exact anewS_n h0 | (rw [us_n _ _ _ h0]; done) | (rw [us_n _ _ _ h2, us_n _ _ _ h2]; done) | (rw [us_n _ _ _ h2, us_n _ _ _ h2, us_n _ _ _ h1])
theorem dsS_10 {S : MS} {w j : Int} (h0 : j ≠ 0) (h1 : j ≠ 1) : dsS S w 10 j = S 10 j := by
  unfold dsS
  (repeat' split) <;> first | (rw [anewS_n (by omega)]; done) | (rw [us_n _ _ _ (by omega)]; done) | (simp [us_eq, h0, h1])
theorem dsS_X {S : MS} {w : Int} (h : OkX S) : OkX (dsS S w) := by
  unfold OkX
  rw [dsS_10 (by omega) (by omega), dsS_n (x := 3) (by omega) (by omega) (by omega), dsS_n (x := 8) (by omega) (by omega) (by omega)]
  exact h
theorem dsS_P {S : MS} {w : Int} (h : OkP S) : OkP (dsS S w) := by
  unfold OkP
  rw [dsS_10 (by omega) (by omega), dsS_10 (by omega) (by omega), dsS_10 (by omega) (by omega)]
  exact h
theorem dsS_Q {S : MS} {w : Int} (h : OkQ S) : OkQ (dsS S w) := by
  unfold OkQ
  rw [dsS_n (by omega) (by omega) (by omega)]
  exact h
