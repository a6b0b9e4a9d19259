/-! THE REFERENCE AS FUNCTIONS of its state: the text -/
set_option maxRecDepth 100000
def smB_ (c : Int) : Bool := inB c 97 122
def dgB (c : Int) : Bool := inB c 48 57
def fB (S : MS) : Int := firstR (fun i => !decide (i < S 10 3 ∧ S 3 i = 32)) 201 (S 10 5)
def gT (S : MS) (p : Int → Bool) (f : Int) : Int := firstR (fun i => !(decide (i < S 10 3) && p (S 3 i))) 201 f
def bB (S : MS) (f : Int) : Int := if f < S 10 3 then (if smB_ (S 3 f) = true then gT S smB_ (f + 1) else if dgB (S 3 f) = true then gT S dgB (f + 1) else f + 1) else f
def ntS (S : MS) : MS := us (us S 10 4 (fB S)) 10 5 (bB S (fB S))
def wdF (S : MS) (w k : Int) (b : Bool) : Bool := b && decide (S 8 (5 * w + k) = if S 10 4 + k < S 10 5 then S 3 (S 10 4 + k) else 0)
def wd0 (S : MS) : Bool := decide (S 10 4 < S 10 5 ∧ S 10 5 - S 10 4 < 6)
def wordB (S : MS) (w : Int) : Bool := fo (wdF S w) (wd0 S) 5
def fwR (p : Int → Bool) : Nat → Int → Int
  | 0, _ => -1
  | f + 1, w => if p w = true then w else fwR p f (w + 1)
theorem fwR_f {p : Int → Bool} {f r : Int} (h : p r = false) (hf : 0 < f) : fwR p f.toNat r = fwR p (f - 1).toNat (r + 1) := by
  obtain ⟨g, hg⟩ : ∃ g : Nat, f.toNat = g + 1 := ⟨f.toNat - 1, by omega⟩
  rw [hg, show (f - 1).toNat = g by omega]
  simp [fwR, h]
theorem fwR_t {p : Int → Bool} {f r : Int} (h : p r = true) (hf : 0 < f) : fwR p f.toNat r = r := by
  obtain ⟨g, hg⟩ : ∃ g : Nat, f.toNat = g + 1 := ⟨f.toNat - 1, by omega⟩
  rw [hg]
  simp [fwR, h]
def whV (S : MS) : Int := fwR (wordB S) 8 0
def digF (S : MS) (j v : Int) : Int := 10 * v + S 3 (S 10 4 + j) - 48
def digV (S : MS) : Int := fo (digF S) 0 (S 10 5 - S 10 4).toNat
def nb0 (S : MS) : Bool := decide (S 10 4 ≠ S 10 3 ∧ dgB (S 3 (S 10 4)) = true ∧ S 10 5 - S 10 4 ≤ 2)
def nbB (S : MS) (lo hi : Int) : Bool := nb0 S && inB (digV S) lo hi
def nbP (k lo hi : Int) (S : MS) : Bool × MS := (nbB S lo hi, if nbB S lo hi = true then ntS (us S 7 k (digV S)) else S)
def cr0 (S : MS) : Bool := decide (S 10 4 < S 10 3 ∧ S 10 5 - S 10 4 ≤ 12 ∧ (S 6 4 = 0 ∨ S 10 5 - S 10 4 = S 6 5))
def crF (S : MS) (i : Int) (x : Bool × Int) : Bool × Int := if x.1 = true then (decide (S 3 (S 10 4 + i) = 120 ∨ S 3 (S 10 4 + i) = 111), orI x.2 (if S 3 (S 10 4 + i) = 120 then shI i else 0)) else x
def crV (S : MS) : Bool × Int := fo (crF S) (cr0 S, 0) (S 10 5 - S 10 4).toNat
def crP (S : MS) : Bool × MS := ((crV S).1, if (crV S).1 = true then ntS (us (us S 7 0 (crV S).2) 7 1 (S 10 5 - S 10 4)) else S)
def andP (b : Bool × MS) (f : MS → Bool × MS) : Bool × MS := if b.1 = true then f b.2 else (false, b.2)
def rrP (S : MS) (w : Int) : Bool × MS :=
  if w = 0 then andP (andP (andP (nbP 0 1 12 S) (nbP 1 1 12)) (nbP 2 1 6)) (nbP 3 1 6)
  else if w = 1 then andP (nbP 0 0 (S 6 0 - 1) S) (fun T => nbP 1 0 (T 6 2 - 1) T)
  else if w = 2 then andP (nbP 0 0 (S 6 3 - 1) S) (fun T => nbP 1 0 (T 6 2 - 1) T)
  else if w = 3 then andP (nbP 0 0 (S 6 1 - 1) S) (fun T => nbP 1 0 (T 6 3 - 1) T)
  else if w = 4 then andP (nbP 0 0 (S 6 0 - 1) S) (nbP 1 0 9)
  else if w = 5 then andP (nbP 0 0 (S 6 1 - 1) S) (nbP 1 0 9)
  else if w = 6 then (true, S)
  else crP S
def dsS (S : MS) (w : Int) : MS :=
  if w = 0 then anewS S (S 7 0) (S 7 1) (S 7 2) (S 7 3)
  else if w = 1 then us S 0 (4 + S 7 0) (S 7 1)
  else if w = 2 then us S 0 (16 + S 7 0) (xorI (S 0 (16 + S 7 0)) (shI (S 7 1)))
  else if w = 3 then us S 0 (22 + S 7 0) (S 7 1)
  else if w = 4 then us S 0 (34 + S 7 0) (S 7 1)
  else if w = 5 then us S 0 (46 + S 7 0) (S 7 1)
  else if w = 6 then us (us S 10 0 0) 10 1 0
  else us (us (us S 1 (S 10 0) (S 7 0)) 10 1 (S 7 1)) 10 0 (S 10 0 + 1)
def noK (S : MS) (k : Int) : MS := fun x j => if x = 6 ∧ 0 ≤ j ∧ j < k then S 7 j else S x j
theorem noK_0 (S : MS) : noK S 0 = S := by
  funext x j
  simp only [noK]
  split
  · omega
  · rfl
theorem noK_s (S : MS) (k : Int) (hk : 0 ≤ k) : us (noK S k) 6 k (S 7 k) = noK S (k + 1) := by
  funext x j
  simp only [us_eq, noK]
  (repeat' split) <;> first | rfl | omega | (congr 1; omega)
def noS (S : MS) (w : Int) : MS := if w = 0 then noK S 4 else if w = 6 then us (us S 6 4 0) 6 5 0 else if w = 7 then us (us S 6 4 (S 6 4 + 1)) 6 5 (S 7 1) else S
def rcT (S : MS) (w : Int) (r : Bool × MS) : Bool × MS := if r.1 = false then (false, r.2) else (true, if noS r.2 w 10 7 = 1 then dsS (noS r.2 w) w else noS r.2 w)
def rcP (S : MS) : Bool × MS := if whV S = -1 ∨ (whV S = 7 ∧ S 6 4 = 12) then (false, S) else rcT S (whV S) (rrP (ntS S) (whV S))
def rdS (S : MS) (k : Int) : MS := fun x j => if x = 6 ∧ 0 ≤ j ∧ j < k then S 0 j else S x j
theorem rdS_0 (S : MS) : rdS S 0 = S := by
  funext x j
  simp only [rdS]
  split
  · omega
  · rfl
theorem rdS_s (S : MS) (k : Int) (hk : 0 ≤ k) : us (rdS S k) 6 k (S 0 k) = rdS S (k + 1) := by
  funext x j
  simp only [us_eq, rdS]
  (repeat' split) <;> first | rfl | omega | (congr 1; omega)
def rd0 (S : MS) (d : Int) : MS := us (us (rdS (us (us (us S 10 7 d) 10 5 0) 10 6 1) 4) 6 4 (S 10 0)) 6 5 (S 10 1)
def rdOk (S : MS) : Bool := decide (S 10 6 < 24 ∧ S 3 (S 10 4) = 59)
def rdU (r : Bool × MS) : Bool × MS := (r.1, us r.2 10 6 (r.2 10 6 + 1))
def rdL : Nat → Bool × MS → Bool × MS
  | 0, x => x
  | f + 1, x => if x.1 = true ∧ x.2 10 4 < x.2 10 3 then (if rdOk x.2 = true then rdL f (rdU (rcP (ntS x.2))) else (false, x.2)) else x
def rdP (S : MS) (d : Int) : Bool × MS := rdL 25 (rcP (ntS (rd0 S d)))
def faultV (S : MS) : Int := if (rdP S 0).1 = true then -1 else (rdP S 0).2 10 4
def faultS (S : MS) : MS := (rdP S 0).2
def drE (S : MS) : MS := us (us (us (us (us (us (us S 10 3 0) 10 2 0) 2 0 0) 2 1 0) 4 0 (-1)) 4 1 (-1)) 4 2 (-1)
def draftV (S : MS) : Int := if (rdP S 0).1 = true then (rdP (rdP S 0).2 1).2 10 6 else -4
def draftS (S : MS) : MS := if (rdP S 0).1 = true then drE (rdP (rdP S 0).2 1).2 else (rdP S 0).2
/-- the letters of the words -/
def wdL : List Int := [100, 114, 97, 102, 116, 100, 114, 97, 119, 0, 116, 105, 101, 0, 0, 116, 114, 101, 97, 100, 119, 97, 114, 112, 0, 119, 101, 102, 116, 0, 99, 108, 101, 97, 114, 114, 111, 119, 0, 0]
def wdC (j : Int) : Int := wdL.getD j.toNat 0
/-- the text and the scan are sound -/
def OkX (S : MS) : Prop := (0 ≤ S 10 3 ∧ S 10 3 ≤ 200) ∧ (∀ i : Int, 0 ≤ i → i < S 10 3 → 0 ≤ S 3 i ∧ S 3 i ≤ 255) ∧ ∀ j : Int, 0 ≤ j → j < 40 → S 8 j = wdC j
def OkP (S : MS) : Prop := 0 ≤ S 10 4 ∧ S 10 4 ≤ S 10 5 ∧ S 10 5 ≤ S 10 3 ∧ (S 10 4 < S 10 3 → S 10 4 < S 10 5)
def OkQ (S : MS) : Prop := (1 ≤ S 6 0 ∧ S 6 0 ≤ 12) ∧ (1 ≤ S 6 1 ∧ S 6 1 ≤ 12) ∧ (1 ≤ S 6 2 ∧ S 6 2 ≤ 6) ∧ (1 ≤ S 6 3 ∧ S 6 3 ≤ 6) ∧ (0 ≤ S 6 4 ∧ S 6 4 ≤ 12) ∧ 0 ≤ S 6 5 ∧ S 6 5 ≤ 12
theorem wdC_rg (j : Int) (h : 0 ≤ j ∧ j < 40) : 0 ≤ wdC j ∧ wdC j ≤ 255 := by
  have key : ∀ q, q < 40 → 0 ≤ wdL.getD q 0 ∧ wdL.getD q 0 ≤ 255 := by decide +kernel
  exact key j.toNat (by omega)
theorem firstR_le {p : Int → Bool} {n : Int} (hp : ∀ i, n ≤ i → p i = true) (f : Nat) (r : Int) (hr : r ≤ n) : firstR p f r ≤ n := by
  induction f generalizing r with
  | zero => exact hr
  | succ f ih =>
    unfold firstR
    by_cases h : p r = true
    · rw [if_pos h]; exact hr
    · rw [if_neg h]
      refine ih (r + 1) ?_
      rcases Int.lt_or_le r n with z | z
      · omega
      · exact absurd (hp r z) h
theorem firstR_stop {p : Int → Bool} {n : Int} (hp : ∀ i, n ≤ i → p i = true) (f : Nat) (r : Int) (hf : n < r + f) : p (firstR p f r) = true := by
  induction f generalizing r with
  | zero => exact hp r (by omega)
  | succ f ih =>
    unfold firstR
    by_cases h : p r = true
    · rw [if_pos h]; exact h
    · rw [if_neg h]
      exact ih (r + 1) (by omega)
theorem fB_rg {S : MS} (h : S 10 5 ≤ S 10 3) : S 10 5 ≤ fB S ∧ fB S ≤ S 10 3 :=
  ⟨(firstR_rg _ _ _).1, firstR_le (fun i hi => by simp; omega) _ _ h⟩
theorem gT_rg {S : MS} {p : Int → Bool} {f : Int} (h : f ≤ S 10 3) : f ≤ gT S p f ∧ gT S p f ≤ S 10 3 :=
  ⟨(firstR_rg _ _ _).1, firstR_le (fun i hi => by simp; omega) _ _ h⟩
theorem bB_rg {S : MS} {f : Int} (h : f ≤ S 10 3) : f ≤ bB S f ∧ bB S f ≤ S 10 3 ∧ (f < S 10 3 → f < bB S f) := by
  unfold bB
  split
  · split
    · have := gT_rg (S := S) (p := smB_) (f := f + 1) (by omega); omega
    · split
      · have := gT_rg (S := S) (p := dgB) (f := f + 1) (by omega); omega
      · omega
  · omega
theorem ntS_n {S : MS} {x : Nat} (h : x ≠ 10) : ntS S x = S x := by unfold ntS; rw [us_n _ _ _ h, us_n _ _ _ h]
theorem ntS_10 {S : MS} {j : Int} : ntS S 10 j = if j = 5 then bB S (fB S) else if j = 4 then fB S else S 10 j := by
  unfold ntS
  rw [us_eq, us_eq]
  (repeat' split) <;> first | rfl | omega
theorem ntS_X {S : MS} (h : OkX S) : OkX (ntS S) := by
  unfold OkX
  rw [ntS_10, if_neg (by omega), if_neg (by omega), ntS_n (by omega), ntS_n (by omega)]
  exact h
theorem ntS_P {S : MS} (hP : 0 ≤ S 10 5 ∧ S 10 5 ≤ S 10 3) : OkP (ntS S) := by
  unfold OkP
  have h1 := fB_rg (S := S) hP.2
  have h2 := bB_rg (S := S) (f := fB S) h1.2
  simp only [ntS_10]
  simp
  omega
theorem ntS_Q {S : MS} (h : OkQ S) : OkQ (ntS S) := by
  unfold OkQ
  rw [ntS_n (by omega)]
  exact h
theorem us7_X {S : MS} {k v : Int} (h : OkX S) : OkX (us S 7 k v) := by
  unfold OkX
  rw [us_n _ _ _ (by omega), us_n _ _ _ (by omega), us_n _ _ _ (by omega)]
  exact h
theorem us7_Q {S : MS} {k v : Int} (h : OkQ S) : OkQ (us S 7 k v) := by
  unfold OkQ
  rw [us_n _ _ _ (by omega)]
  exact h
theorem us7_P {S : MS} {k v : Int} (h : OkP S) : OkP (us S 7 k v) := by
  unfold OkP
  rw [us_n _ _ _ (by omega)]
  exact h
