/-! THE REFERENCE AS FUNCTIONS of its state: what is done by a clause keeps the state sound -/
set_option maxRecDepth 100000
theorem OkD_anew {S : MS} {e p s t : Int} (he : 1 ≤ e ∧ e ≤ 12) (hp : 1 ≤ p ∧ p ≤ 12) (hs : 1 ≤ s ∧ s ≤ 6) (ht : 1 ≤ t ∧ t ≤ 6) : OkD (anewS S e p s t 0) := by
  have e0 : anewS S e p s t 0 0 = e := by rw [anewS_0, if_pos rfl]
  have e1 : anewS S e p s t 0 1 = p := by rw [anewS_0, if_neg (by omega), if_pos rfl]
  have e2 : anewS S e p s t 0 2 = s := by rw [anewS_0, if_neg (by omega), if_neg (by omega), if_pos rfl]
  have e3 : anewS S e p s t 0 3 = t := by rw [anewS_0, if_neg (by omega), if_neg (by omega), if_neg (by omega), if_pos rfl]
  refine ⟨⟨by rw [e0]; exact he, by rw [e1]; exact hp, by rw [e2]; exact hs, by rw [e3]; exact ht⟩, fun k k0 k1 => ?_, fun k k0 k1 => ?_, fun k k0 k1 => ?_, fun k k0 k1 => ?_, fun k k0 k1 => ?_⟩
  · rw [e2, anewS_0, if_neg (by omega), if_neg (by omega), if_neg (by omega), if_neg (by omega), if_pos (by omega), show 4 + k - 4 = k by omega]
    exact ⟨Int.emod_nonneg _ (by omega), Int.emod_lt_of_pos _ (by omega)⟩
  · rw [e3, anewS_0, if_neg (by omega), if_neg (by omega), if_neg (by omega), if_neg (by omega), if_neg (by omega), if_neg (by omega), if_pos (by omega), show 22 + k - 22 = k by omega]
    exact ⟨Int.emod_nonneg _ (by omega), Int.emod_lt_of_pos _ (by omega)⟩
  · rw [e2, anewS_0, if_neg (by omega), if_neg (by omega), if_neg (by omega), if_neg (by omega), if_neg (by omega), if_pos (by omega), show 16 + k - 16 = k by omega]
    have q1 := Int.emod_nonneg k (show s ≠ 0 by omega)
    have q2 := Int.emod_lt_of_pos k (show 0 < s by omega)
    have q3 := sh6 (i := s) (by omega)
    split
    · unfold shI
      have := Nat.pow_lt_pow_right (a := 2) (by omega) (show (k % s).toNat < s.toNat by omega)
      have := Nat.two_pow_pos (k % s).toNat
      omega
    · omega
  · rw [anewS_0, if_neg (by omega), if_neg (by omega), if_neg (by omega), if_neg (by omega), if_neg (by omega), if_neg (by omega), if_neg (by omega), if_pos (by omega)]
    omega
  · rw [anewS_0, if_neg (by omega), if_neg (by omega), if_neg (by omega), if_neg (by omega), if_neg (by omega), if_neg (by omega), if_neg (by omega), if_neg (by omega), if_pos (by omega)]
    omega
/-- one cell of a draft is another number -/
theorem OkD_u {f : Int → Int} {j v : Int} (h : OkD f) (hj : 4 ≤ j) (h1 : 4 ≤ j ∧ j < 16 → 0 ≤ v ∧ v < f 2) (h2 : 22 ≤ j ∧ j < 34 → 0 ≤ v ∧ v < f 3) (h3 : 16 ≤ j ∧ j < 22 → 0 ≤ v ∧ v < shI (f 2)) (h4 : 34 ≤ j ∧ j < 58 → 0 ≤ v ∧ v ≤ 9) : OkD (uI f j v) := by
  obtain ⟨g0, g1, g2, g3, g4, g5⟩ := h
  have e0 : uI f j v 0 = f 0 := uI_n _ _ (by omega)
  have e1 : uI f j v 1 = f 1 := uI_n _ _ (by omega)
  have e2 : uI f j v 2 = f 2 := uI_n _ _ (by omega)
  have e3 : uI f j v 3 = f 3 := uI_n _ _ (by omega)
  refine ⟨by rw [e0, e1, e2, e3]; exact g0, fun k k0 k1 => ?_, fun k k0 k1 => ?_, fun k k0 k1 => ?_, fun k k0 k1 => ?_, fun k k0 k1 => ?_⟩
  · rw [e2]
    by_cases e : 4 + k = j
    · rw [e, uI_s]; exact h1 (by omega)
    · rw [uI_n _ _ e]; exact g1 k k0 k1
  · rw [e3]
    by_cases e : 22 + k = j
    · rw [e, uI_s]; exact h2 (by omega)
    · rw [uI_n _ _ e]; exact g2 k k0 k1
  · rw [e2]
    by_cases e : 16 + k = j
    · rw [e, uI_s]; exact h3 (by omega)
    · rw [uI_n _ _ e]; exact g3 k k0 k1
  · by_cases e : 34 + k = j
    · rw [e, uI_s]; exact h4 (by omega)
    · rw [uI_n _ _ e]; exact g4 k k0 k1
  · by_cases e : 46 + k = j
    · rw [e, uI_s]; exact h4 (by omega)
    · rw [uI_n _ _ e]; exact g5 k k0 k1
theorem xor_sh {a s n : Int} (ha : 0 ≤ a ∧ a < shI n) (hs : 0 ≤ s ∧ s < n) : 0 ≤ xorI a (shI s) ∧ xorI a (shI s) < shI n := by
  have h2 : 0 ≤ shI s ∧ shI s < ((2 ^ n.toNat : Nat) : Int) := shI_lt (by omega)
  exact xorI_lt (k := n.toNat) ⟨ha, h2⟩
theorem us10_X {S : MS} {j v : Int} (h : OkX S) (hj : j ≠ 3) : OkX (us S 10 j v) := by
  unfold OkX
  rw [us_eq, if_neg (by omega), us_n _ _ _ (by omega), us_n _ _ _ (by omega)]
  exact h
theorem us6_X {S : MS} {j v : Int} (h : OkX S) : OkX (us S 6 j v) := by
  unfold OkX
  rw [us_n _ _ _ (by omega), us_n _ _ _ (by omega), us_n _ _ _ (by omega)]
  exact h
theorem us10_Q {S : MS} {j v : Int} (h : OkQ S) : OkQ (us S 10 j v) := by
  unfold OkQ
  rw [us_n _ _ _ (by omega)]
  exact h
def OkC (S : MS) : Prop := OkR S ∧ (0 < S 10 0 → 0 < S 10 1)
/-- the draft and the sample are sound; while clauses are done, what is told is what is -/
def OkE (S : MS) : Prop := OkD (S 0) ∧ OkC S ∧ (S 10 7 = 1 → (∀ k : Int, 0 ≤ k → k < 4 → S 6 k = S 0 k) ∧ S 6 4 = S 10 0 ∧ S 6 5 = S 10 1)
theorem OkE.c {S T : MS} (h : OkE S) (h0 : T 0 = S 0) (h1 : T 1 = S 1) (h6 : T 6 = S 6) (h7 : T 10 7 = S 10 7) (h10 : T 10 0 = S 10 0) (h11 : T 10 1 = S 10 1) : OkE T := by
  unfold OkE OkC OkR
  rw [h0, h1, h6, h7, h10, h11]
  exact h
theorem ntS_E {S : MS} (h : OkE S) : OkE (ntS S) := h.c (ntS_n (by omega)) (ntS_n (by omega)) (ntS_n (by omega)) (by rw [ntS_10, if_neg (by omega), if_neg (by omega)]) (by rw [ntS_10, if_neg (by omega), if_neg (by omega)]) (by rw [ntS_10, if_neg (by omega), if_neg (by omega)])
theorem rrP_E {S : MS} {w : Int} (h : OkE S) : OkE (rrP S w).2 := h.c (rrP_n (by omega) (by omega)) (rrP_n (by omega) (by omega)) (rrP_n (by omega) (by omega)) (rrP_10 (by omega) (by omega)) (rrP_10 (by omega) (by omega)) (rrP_10 (by omega) (by omega))
theorem noS_7 {S : MS} {w : Int} : noS S w 7 = S 7 := noS_n (by omega)
theorem dsH_of {T : MS} {w : Int} (hE : OkE T) (hQ : OkQ T) (hn : numH (T 6) (T 7) w) (h4 : w = 7 → T 6 4 ≠ 12) (hd : noS T w 10 7 = 1) : (w = 0 → (1 ≤ noS T w 7 2 ∧ noS T w 7 2 ≤ 6) ∧ 1 ≤ noS T w 7 3 ∧ noS T w 7 3 ≤ 6) ∧ (w = 1 ∨ w = 3 ∨ w = 4 ∨ w = 5 → 0 ≤ noS T w 7 0 ∧ noS T w 7 0 < 12) ∧ (w = 2 → (0 ≤ noS T w 7 0 ∧ noS T w 7 0 < 6) ∧ (0 ≤ noS T w 7 1 ∧ noS T w 7 1 < 6) ∧ 0 ≤ noS T w 0 (16 + noS T w 7 0) ∧ noS T w 0 (16 + noS T w 7 0) < 4096) ∧ (w = 7 → 0 ≤ noS T w 10 0 ∧ noS T w 10 0 < 12) := by
  rw [noS_7, noS_n (x := 0) (by omega)]
  rw [noS_n (x := 10) (by omega)] at hd ⊢
  obtain ⟨hD, hC, hE⟩ := hE
  have hE := hE hd
  obtain ⟨n0, n1, n2, n3, n4, n5, n7⟩ := hn
  obtain ⟨q0, q1, q2, q3, q4, q5⟩ := hQ
  refine ⟨fun w0 => (n0 w0).2.2, fun w1 => ?_, fun w2 => ?_, fun w7 => ?_⟩
  · rcases w1 with z | z | z | z
    · have := n1 z; omega
    · have := n3 z; omega
    · have := n4 z; omega
    · have := n5 z; omega
  · have := n2 w2
    have ht := hD.tied (T 7 0) (by omega)
    refine ⟨by omega, by omega, by omega⟩
  · have := h4 w7
    omega
theorem OkC_row {S : MS} {v n : Int} (h : OkC S) (hv : 0 ≤ v ∧ v < 4096) (hn : 1 ≤ n ∧ n ≤ 12) (hr : S 10 0 < 12) : OkC (us (us (us S 1 (S 10 0) v) 10 1 n) 10 0 (S 10 0 + 1)) := by
  obtain ⟨⟨h1, h2, h3⟩, h4⟩ := h
  have a0 : us (us (us S 1 (S 10 0) v) 10 1 n) 10 0 (S 10 0 + 1) 10 0 = S 10 0 + 1 := by simp [us_eq]
  have a1 : us (us (us S 1 (S 10 0) v) 10 1 n) 10 0 (S 10 0 + 1) 10 1 = n := by simp [us_eq]
  unfold OkC OkR
  rw [a0, a1]
  refine ⟨⟨by omega, by omega, fun r r0 r1 => ?_⟩, fun _ => by omega⟩
  rw [us_n _ _ _ (by omega), us_n _ _ _ (by omega), us_eq]
  by_cases e : r = S 10 0
  · rw [if_pos ⟨rfl, e⟩]; exact hv
  · rw [if_neg (by omega)]; exact h3 r r0 (by omega)
/-- a clause, done: the state stays sound -/
theorem OkE_do {T : MS} {w : Int} (hw : 0 ≤ w ∧ w ≤ 7) (hE : OkE T) (hQ : OkQ T) (hn : numH (T 6) (T 7) w) (h4 : w = 7 → T 6 4 ≠ 12) (hd : T 10 7 = 1) : OkE (dsS (noS T w) w) := by
  obtain ⟨hD, hC, hE⟩ := hE
  obtain ⟨he0, he4, he5⟩ := hE hd
  obtain ⟨n0, n1, n2, n3, n4, n5, n7⟩ := hn
  obtain ⟨q0, q1, q2, q3, q4, q5⟩ := hQ
  have k0 := he0 0 (by omega) (by omega)
  have k1 := he0 1 (by omega) (by omega)
  have k2 := he0 2 (by omega) (by omega)
  have k3 := he0 3 (by omega) (by omega)
  have t7 : noS T w 7 = T 7 := noS_7
  have t0 : noS T w 0 = T 0 := noS_n (by omega)
  have t1 : noS T w 1 = T 1 := noS_n (by omega)
  have t10 : noS T w 10 = T 10 := noS_n (by omega)
  have hC' : OkC (noS T w) := by unfold OkC OkR; rw [t1, t10]; exact hC
  have set1 : ∀ (j v : Int), 4 ≤ j → w ≠ 0 → w ≠ 6 → w ≠ 7 → OkD (uI (T 0) j v) → OkE (us (noS T w) 0 j v) := by
    intro j v hj w0 w6 w7 hu
    have t6 : noS T w = T := by unfold noS; rw [if_neg w0, if_neg w6, if_neg w7]
    rw [t6]
    refine ⟨by rw [us_s]; exact hu, ?_, fun _ => ?_⟩
    · unfold OkC OkR
      rw [us_n _ _ _ (by omega), us_n _ _ _ (by omega)]
      exact hC
    · rw [us_n (S := T) (b := 6) _ _ (by omega), us_n (S := T) (b := 10) _ _ (by omega), us_s]
      exact ⟨fun k h0 h1 => by rw [uI_n _ _ (by omega)]; exact he0 k h0 h1, he4, he5⟩
  unfold dsS
  rw [t7, t0, t10]
  by_cases w0 : w = 0
  · rw [if_pos w0]
    obtain ⟨m0, m1, m2, m3⟩ := n0 w0
    refine ⟨OkD_anew m0 m1 m2 m3, ?_, fun _ => ?_⟩
    · unfold OkC OkR
      rw [anewS_n (by omega), anewS_n (by omega)]
      exact hC'
    · rw [anewS_n (x := 6) (by omega), anewS_n (x := 10) (by omega), t10]
      have t6 : ∀ k : Int, noS T w 6 k = if 0 ≤ k ∧ k < 4 then T 7 k else T 6 k := by
        intro k
        unfold noS
        rw [if_pos w0]
        simp [noK]
      refine ⟨fun k h0 h1 => ?_, ?_, ?_⟩
      · rw [t6, if_pos ⟨h0, h1⟩, anewS_0]
        rcases (show k = 0 ∨ k = 1 ∨ k = 2 ∨ k = 3 by omega) with rfl | rfl | rfl | rfl <;> simp
      · rw [t6, if_neg (by omega)]; exact he4
      · rw [t6, if_neg (by omega)]; exact he5
  · rw [if_neg w0]
    by_cases w1 : w = 1
    · rw [if_pos w1]
      have := n1 w1
      exact set1 _ _ (by omega) (by omega) (by omega) (by omega) (OkD_u hD (by omega) (fun _ => by omega) (fun _ => by omega) (fun _ => by omega) (fun _ => by omega))
    · rw [if_neg w1]
      by_cases w2 : w = 2
      · rw [if_pos w2]
        have := n2 w2
        refine set1 _ _ (by omega) (by omega) (by omega) (by omega) (OkD_u hD (by omega) (fun _ => by omega) (fun _ => by omega) (fun _ => ?_) (fun _ => by omega))
        exact xor_sh (hD.2.2.2.1 (T 7 0) (by omega) (by omega)) (by omega)
      · rw [if_neg w2]
        by_cases w3 : w = 3
        · rw [if_pos w3]
          have := n3 w3
          exact set1 _ _ (by omega) (by omega) (by omega) (by omega) (OkD_u hD (by omega) (fun _ => by omega) (fun _ => by omega) (fun _ => by omega) (fun _ => by omega))
        · rw [if_neg w3]
          by_cases w4 : w = 4
          · rw [if_pos w4]
            have := n4 w4
            exact set1 _ _ (by omega) (by omega) (by omega) (by omega) (OkD_u hD (by omega) (fun _ => by omega) (fun _ => by omega) (fun _ => by omega) (fun _ => by omega))
          · rw [if_neg w4]
            by_cases w5 : w = 5
            · rw [if_pos w5]
              have := n5 w5
              exact set1 _ _ (by omega) (by omega) (by omega) (by omega) (OkD_u hD (by omega) (fun _ => by omega) (fun _ => by omega) (fun _ => by omega) (fun _ => by omega))
            · rw [if_neg w5]
              by_cases w6 : w = 6
              · rw [if_pos w6]
                have e6 : noS T w = us (us T 6 4 0) 6 5 0 := by unfold noS; rw [if_neg w0, if_pos w6]
                rw [e6]
                refine ⟨?_, ?_, fun _ => ?_⟩
                · rw [us_n _ _ _ (by omega), us_n _ _ _ (by omega), us_n _ _ _ (by omega), us_n _ _ _ (by omega)]
                  exact hD
                · refine ⟨⟨by simp [us_eq], by simp [us_eq], fun r r0 r1 => ?_⟩, fun h => by simp [us_eq] at h⟩
                  simp [us_eq] at r1
                  omega
                · refine ⟨fun k h0 h1 => ?_, by simp [us_eq], by simp [us_eq]⟩
                  simp only [us_eq]
                  simp
                  rw [if_neg (by omega), if_neg (by omega)]
                  exact he0 k h0 h1
              · rw [if_neg w6]
                have w7 : w = 7 := by omega
                have m7 := n7 w7
                have m4 := h4 w7
                have e7 : noS T w = us (us T 6 4 (T 6 4 + 1)) 6 5 (T 7 1) := by unfold noS; rw [if_neg w0, if_neg w6, if_pos w7]
                refine ⟨?_, ?_, fun _ => ?_⟩
                · rw [us_n _ _ _ (by omega), us_n _ _ _ (by omega), us_n _ _ _ (by omega), t0]
                  exact hD
                · have := OkC_row (S := noS T w) (v := T 7 0) (n := T 7 1) hC' m7.1 m7.2 (by rw [t10]; omega)
                  rw [t10] at this
                  exact this
                · rw [e7]
                  refine ⟨fun k h0 h1 => ?_, ?_, ?_⟩
                  · simp only [us_eq]
                    simp
                    rw [if_neg (by omega), if_neg (by omega)]
                    exact he0 k h0 h1
                  · simp [us_eq]; omega
                  · simp [us_eq]
/-- all that the scan keeps; S: where it began (for the parts that never change) -/
def rdI (S T : MS) : Prop := OkX T ∧ OkP T ∧ OkQ T ∧ OkE T ∧ (0 ≤ T 10 7 ∧ T 10 7 ≤ 1) ∧ ((T 2 = S 2 ∧ T 3 = S 3 ∧ T 4 = S 4 ∧ T 5 = S 5 ∧ T 8 = S 8) ∧ (T 10 2 = S 10 2 ∧ T 10 3 = S 10 3) ∧ (T 10 7 = 0 → T 0 = S 0 ∧ T 1 = S 1 ∧ T 10 0 = S 10 0 ∧ T 10 1 = S 10 1) ∧ ∀ j : Int, 58 ≤ j → T 0 j = S 0 j)
theorem dsS_far {S : MS} {w j : Int} (hw : 0 ≤ w ∧ w ≤ 7) (h : (w = 1 ∨ w = 3 ∨ w = 4 ∨ w = 5 → 0 ≤ S 7 0 ∧ S 7 0 < 12) ∧ (w = 2 → 0 ≤ S 7 0 ∧ S 7 0 < 6)) (hj : 58 ≤ j) : dsS S w 0 j = S 0 j := by
  unfold dsS
  (repeat' split)
  · rw [anewS_0]; (repeat' rw [if_neg (by omega)])
  · rw [us_eq, if_neg (by omega)]
  · rw [us_eq, if_neg (by omega)]
  · rw [us_eq, if_neg (by omega)]
  · rw [us_eq, if_neg (by omega)]
  · rw [us_eq, if_neg (by omega)]
  · rw [us_n _ _ _ (by omega), us_n _ _ _ (by omega)]
  · rw [us_n _ _ _ (by omega), us_n _ _ _ (by omega), us_n _ _ _ (by omega)]
theorem ntS_I {S T : MS} (h : rdI S T) : rdI S (ntS T) := by
  obtain ⟨h1, h2, h3, h4, h5, h6, h7, h8, h9⟩ := h
  have e : ∀ j : Int, j ≠ 4 → j ≠ 5 → ntS T 10 j = T 10 j := fun j a b => by rw [ntS_10, if_neg b, if_neg a]
  refine ⟨ntS_X h1, ntS_P (okP_b h2), ntS_Q h3, ntS_E h4, by rw [e 7 (by omega) (by omega)]; exact h5, ?_, ?_, ?_, ?_⟩
  · rw [ntS_n (by omega), ntS_n (by omega), ntS_n (by omega), ntS_n (by omega), ntS_n (by omega)]; exact h6
  · rw [e 2 (by omega) (by omega), e 3 (by omega) (by omega)]; exact h7
  · rw [e 7 (by omega) (by omega), e 0 (by omega) (by omega), e 1 (by omega) (by omega), ntS_n (by omega), ntS_n (by omega)]; exact h8
  · rw [ntS_n (by omega)]; exact h9
theorem rrP_I {S T : MS} {w : Int} (h : rdI S T) : rdI S (rrP T w).2 := by
  obtain ⟨h1, h2, h3, h4, h5, h6, h7, h8, h9⟩ := h
  have e : ∀ j : Int, j ≠ 4 → j ≠ 5 → (rrP T w).2 10 j = T 10 j := fun j a b => rrP_10 a b
  refine ⟨rrP_X h1, rrP_P h2, rrP_Q h3, rrP_E h4, by rw [e 7 (by omega) (by omega)]; exact h5, ?_, ?_, ?_, ?_⟩
  · rw [rrP_n (by omega) (by omega), rrP_n (by omega) (by omega), rrP_n (by omega) (by omega), rrP_n (by omega) (by omega), rrP_n (by omega) (by omega)]; exact h6
  · rw [e 2 (by omega) (by omega), e 3 (by omega) (by omega)]; exact h7
  · rw [e 7 (by omega) (by omega), e 0 (by omega) (by omega), e 1 (by omega) (by omega), rrP_n (by omega) (by omega), rrP_n (by omega) (by omega)]; exact h8
  · rw [rrP_n (by omega) (by omega)]; exact h9
theorem rdI_6 {S T : MS} {v : Int} (h : rdI S T) : rdI S (us T 10 6 v) := by
  obtain ⟨h1, h2, h3, h4, h5, h6, h7, h8, h9⟩ := h
  have e : ∀ j : Int, j ≠ 6 → us T 10 6 v 10 j = T 10 j := fun j a => by rw [us_eq, if_neg (by omega)]
  refine ⟨us10_X h1 (by omega), ?_, us10_Q h3, h4.c (us_n _ _ _ (by omega)) (us_n _ _ _ (by omega)) (us_n _ _ _ (by omega)) (e 7 (by omega)) (e 0 (by omega)) (e 1 (by omega)), by rw [e 7 (by omega)]; exact h5, ?_, ?_, ?_, ?_⟩
  · unfold OkP
    rw [e 4 (by omega), e 5 (by omega), e 3 (by omega)]
    exact h2
  · rw [us_n _ _ _ (by omega), us_n _ _ _ (by omega), us_n _ _ _ (by omega), us_n _ _ _ (by omega), us_n _ _ _ (by omega)]; exact h6
  · rw [e 2 (by omega), e 3 (by omega)]; exact h7
  · rw [e 7 (by omega), e 0 (by omega), e 1 (by omega), us_n _ _ _ (by omega), us_n _ _ _ (by omega)]; exact h8
  · rw [us_n _ _ _ (by omega)]; exact h9
theorem rcP_I {S T : MS} (h : rdI S T) : rdI S (rcP T).2 := by
  have hwr := whV_rg T
  unfold rcP
  by_cases hj : whV T = -1 ∨ (whV T = 7 ∧ T 6 4 = 12)
  · rw [if_pos hj]; exact h
  rw [if_neg hj]
  have h4 := rrP_I (w := whV T) (ntS_I h)
  unfold rcT
  by_cases hok : (rrP (ntS T) (whV T)).1 = false
  · rw [if_pos hok]; exact h4
  rw [if_neg hok]
  have hok' : (rrP (ntS T) (whV T)).1 = true := by cases hh : (rrP (ntS T) (whV T)).1 with
    | false => exact absurd hh hok
    | true => rfl
  have hnm := rrP_num (ntS_X h.1) (ntS_P (okP_b h.2.1)) hok'
  have h412 : whV T = 7 → (rrP (ntS T) (whV T)).2 6 4 ≠ 12 := fun z z2 => hj (Or.inr ⟨z, by rw [rrP_n (by omega) (by omega), ntS_n (by omega)] at z2; exact z2⟩)
  rw [← rrP_n (S := ntS T) (w := whV T) (x := 6) (by omega) (by omega)] at hnm
  generalize (rrP (ntS T) (whV T)).2 = U at h4 hnm h412 ⊢
  generalize whV T = w at hwr hj hnm h412 ⊢
  obtain ⟨g1, g2, g3, g4, g5, g6, g7, g8, g9⟩ := h4
  have hw : 0 ≤ w ∧ w ≤ 7 := by omega
  have t10 : noS U w 10 = U 10 := noS_n (by omega)
  have hQ5 := noS_Q g3 hnm h412
  show rdI S (if noS U w 10 7 = 1 then dsS (noS U w) w else noS U w)
  rw [t10]
  by_cases hd : U 10 7 = 1
  · rw [if_pos hd]
    have hH := dsH_of g4 g3 hnm h412 (by rw [t10]; exact hd)
    have e : ∀ j : Int, j ≠ 0 → j ≠ 1 → dsS (noS U w) w 10 j = U 10 j := fun j a b => by rw [dsS_10 a b, t10]
    have en : ∀ x : Nat, x ≠ 0 → x ≠ 1 → x ≠ 10 → x ≠ 6 → dsS (noS U w) w x = U x := fun x a b c d => by rw [dsS_n a b c, noS_n d]
    refine ⟨dsS_X (noS_X g1), dsS_P (noS_P g2), dsS_Q hQ5, OkE_do hw g4 g3 hnm h412 hd, by rw [e 7 (by omega) (by omega)]; exact g5, ?_, ?_, ?_, ?_⟩
    · rw [en 2 (by omega) (by omega) (by omega) (by omega), en 3 (by omega) (by omega) (by omega) (by omega), en 4 (by omega) (by omega) (by omega) (by omega), en 5 (by omega) (by omega) (by omega) (by omega), en 8 (by omega) (by omega) (by omega) (by omega)]; exact g6
    · rw [e 2 (by omega) (by omega), e 3 (by omega) (by omega)]; exact g7
    · intro z
      rw [e 7 (by omega) (by omega)] at z
      omega
    · intro j hj'
      rw [dsS_far hw ⟨hH.2.1, fun z => (hH.2.2.1 z).1⟩ hj', noS_n (by omega)]
      exact g9 j hj'
  · rw [if_neg hd]
    have hE : OkE (noS U w) := by
      refine ⟨by rw [noS_n (by omega)]; exact g4.1, ?_, fun z => absurd (by rw [t10] at z; exact z) hd⟩
      unfold OkC OkR
      rw [t10, noS_n (x := 1) (by omega)]
      exact g4.2.1
    refine ⟨noS_X g1, noS_P g2, hQ5, hE, by rw [t10]; exact g5, ?_, ?_, ?_, ?_⟩
    · rw [noS_n (by omega), noS_n (by omega), noS_n (by omega), noS_n (by omega), noS_n (by omega)]; exact g6
    · rw [t10]; exact g7
    · rw [t10, noS_n (by omega), noS_n (by omega)]; exact g8
    · rw [noS_n (by omega)]; exact g9
theorem rcP_106 (T : MS) : (rcP T).2 10 6 = T 10 6 := by
  unfold rcP
  split
  · rfl
  · unfold rcT
    split
    · rw [rrP_10 (by omega) (by omega), ntS_10, if_neg (by omega), if_neg (by omega)]
    · have e : noS (rrP (ntS T) (whV T)).2 (whV T) 10 6 = T 10 6 := by rw [noS_n (by omega), rrP_10 (by omega) (by omega), ntS_10, if_neg (by omega), if_neg (by omega)]
      by_cases hd : noS (rrP (ntS T) (whV T)).2 (whV T) 10 7 = 1
      · simp only [hd, if_true]
        rw [dsS_10 (by omega) (by omega), e]
      · simp only [hd, if_false]
        exact e
theorem rd0_ok {S : MS} {d : Int} (hX : OkX S) (hD : OkD (S 0)) (hC : OkC S) (hd : d = 0 ∨ d = 1) (h4 : 0 ≤ S 10 4) : rdI S (ntS (rd0 S d)) ∧ rd0 S d 10 6 = 1 ∧ OkX (rd0 S d) ∧ rd0 S d 10 5 = 0 := by
  have e : ∀ j : Int, rd0 S d 10 j = if j = 6 then 1 else if j = 5 then 0 else if j = 7 then d else S 10 j := by
    intro j
    simp only [rd0, us_eq, rdS]
    simp
  have en : ∀ x : Nat, x ≠ 6 → x ≠ 10 → rd0 S d x = S x := by
    intro x a b
    funext j
    simp [rd0, us_eq, rdS, a, b]
  have e6 : ∀ j : Int, rd0 S d 6 j = if j = 5 then S 10 1 else if j = 4 then S 10 0 else if 0 ≤ j ∧ j < 4 then S 0 j else S 6 j := by
    intro j
    simp only [rd0, us_eq, rdS]
    simp
  have hX' : OkX (rd0 S d) := by
    unfold OkX
    rw [e 3, en 3 (by omega) (by omega), en 8 (by omega) (by omega)]
    have hX0 := hX
    unfold OkX at hX0
    simp
    exact hX0
  have hQ' : OkQ (rd0 S d) := by
    unfold OkQ
    simp only [e6]
    have h1 := hD.1
    have h2 := hC.1
    unfold OkR at h2
    simp
    omega
  have hE' : OkE (rd0 S d) := by
    refine ⟨by rw [en 0 (by omega) (by omega)]; exact hD, ?_, fun _ => ⟨fun k h0 h1 => ?_, ?_, ?_⟩⟩
    · unfold OkC OkR
      rw [e 0, e 1, en 1 (by omega) (by omega)]
      have hC0 := hC
      unfold OkC OkR at hC0
      simp
      exact hC0
    · rw [e6, en 0 (by omega) (by omega), if_neg (by omega), if_neg (by omega), if_pos ⟨h0, h1⟩]
    · rw [e6, e 0]; simp
    · rw [e6, e 1]; simp
  have hb : 0 ≤ rd0 S d 10 5 ∧ rd0 S d 10 5 ≤ rd0 S d 10 3 := by
    rw [e 5, e 3]
    have := hX.1
    simp
    omega
  have n10 : ∀ j : Int, j ≠ 4 → j ≠ 5 → ntS (rd0 S d) 10 j = rd0 S d 10 j := fun j a b => by rw [ntS_10, if_neg b, if_neg a]
  refine ⟨⟨ntS_X hX', ntS_P hb, ntS_Q hQ', ntS_E hE', ?_, ?_, ?_, ?_, ?_⟩, by rw [e 6]; rfl, hX', by rw [e 5]; rfl⟩
  · rw [n10 7 (by omega) (by omega), e 7]
    simp
    omega
  · rw [ntS_n (by omega), ntS_n (by omega), ntS_n (by omega), ntS_n (by omega), ntS_n (by omega), en 2 (by omega) (by omega), en 3 (by omega) (by omega), en 4 (by omega) (by omega), en 5 (by omega) (by omega), en 8 (by omega) (by omega)]
    exact ⟨rfl, rfl, rfl, rfl, rfl⟩
  · rw [n10 2 (by omega) (by omega), n10 3 (by omega) (by omega), e 2, e 3]
    exact ⟨rfl, rfl⟩
  · intro _
    rw [n10 0 (by omega) (by omega), n10 1 (by omega) (by omega), ntS_n (by omega), ntS_n (by omega), en 0 (by omega) (by omega), en 1 (by omega) (by omega), e 0, e 1]
    exact ⟨rfl, rfl, rfl, rfl⟩
  · intro j hj
    rw [ntS_n (by omega), en 0 (by omega) (by omega)]
theorem rdL_end {F : Nat} {x : Bool} {T : MS} (h : x = false ∨ T 10 3 ≤ T 10 4) : rdL F (x, T) = (x, T) := by
  cases F with
  | zero => rfl
  | succ F =>
    unfold rdL
    rw [if_neg]
    rintro ⟨a, b⟩
    rcases h with h | h
    · rw [h] at a; cases a
    · simp only at b; omega
theorem rdL_no {F : Nat} {x : Bool} {T : MS} (hx : x = true) (hf : T 10 4 < T 10 3) (h : rdOk T = false) (hF : 0 < F) : rdL F (x, T) = rdL (F - 1) (false, T) := by
  cases F with
  | zero => omega
  | succ F =>
    rw [rdL_end (F := F + 1 - 1) (Or.inl rfl)]
    unfold rdL
    rw [if_pos ⟨hx, hf⟩, if_neg (by simp only; rw [h]; decide)]
theorem rdL_yes {F : Nat} {x : Bool} {T : MS} (hx : x = true) (hf : T 10 4 < T 10 3) (h : rdOk T = true) (hF : 0 < F) : rdL F (x, T) = rdL (F - 1) (rdU (rcP (ntS T))) := by
  cases F with
  | zero => omega
  | succ F =>
    show (if _ then _ else _) = _
    rw [if_pos ⟨hx, hf⟩, if_pos h]
    rfl
theorem rdL_I {S : MS} (F : Nat) : ∀ (x : Bool) (T : MS), rdI S T → rdI S (rdL F (x, T)).2 := by
  induction F with
  | zero => intro x T h; exact h
  | succ F ih =>
    intro x T h
    unfold rdL
    split
    · split
      · exact ih _ _ (rdI_6 (rcP_I (ntS_I h)))
      · exact h
    · exact h
theorem rdP_I {S : MS} {d : Int} (hX : OkX S) (hD : OkD (S 0)) (hC : OkC S) (hd : d = 0 ∨ d = 1) (h4 : 0 ≤ S 10 4) : rdI S (rdP S d).2 :=
  rdL_I 25 _ _ (rcP_I (rd0_ok hX hD hC hd h4).1)
theorem rdI_4 {S T : MS} (h : rdI S T) : 0 ≤ T 10 4 := h.2.1.1
/-- draft's loop over what was kept -/
def drK (S : MS) (k : Int) : MS := fun x j => if x = 4 ∧ 0 ≤ j ∧ j < k then -1 else us (us (us (us S 10 3 0) 10 2 0) 2 0 0) 2 1 0 x j
theorem drK_0 (S : MS) : drK S 0 = us (us (us (us S 10 3 0) 10 2 0) 2 0 0) 2 1 0 := by
  funext x j
  simp only [drK]
  split
  · omega
  · rfl
theorem drK_s (S : MS) (k : Int) (hk : 0 ≤ k) : us (drK S k) 4 k (-1) = drK S (k + 1) := by
  funext x j
  simp only [us_eq, drK]
  (repeat' split) <;> first | rfl | omega
theorem drK_3 (S : MS) : drK S 3 = drE S := by
  funext x j
  simp only [us_eq, drK, drE]
  (repeat' split) <;> first | rfl | omega
