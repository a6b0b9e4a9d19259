/-! THE REFERENCE AS FUNCTIONS of its state: what is done -/
set_option maxRecDepth 100000
theorem us_us (S : MS) (a : Nat) (i v w : Int) : us (us S a i v) a i w = us S a i w := by
  funext b j
  simp only [us_eq]
  (repeat' split) <;> first | rfl | omega
theorem us_id (S : MS) (a : Nat) (i : Int) : us S a i (S a i) = S := by
  funext b j
  simp only [us_eq]
  split
  · next h => rw [h.1, h.2]
  · rfl
theorem gh {dA : Nat → ClassId} {m : Nat} {S T : MS} {h : gH} (e : S = T) : ovM dA m S h = ovM dA m T h := by rw [e]
/-- copyRow: 58 cells (or the first k of them) -/
def cpK (S : MS) (a b k : Int) : MS := fun x j => if x = 0 ∧ b ≤ j ∧ j < b + k then S 0 (a + (j - b)) else S x j
theorem cpK_0 (S : MS) (a b : Int) : cpK S a b 0 = S := by
  funext x j
  simp only [cpK]
  split
  · omega
  · rfl
theorem cpK_s {S : MS} {a b k : Int} (hk : 0 ≤ k ∧ k < 58) (hd : a + 58 ≤ b ∨ b + 58 ≤ a) : us (cpK S a b k) 0 (b + k) (cpK S a b k 0 (a + k)) = cpK S a b (k + 1) := by
  funext x j
  simp only [us_eq, cpK]
  (repeat' split) <;> first | rfl | omega | (congr 1; omega)
def cpR (S : MS) (a b : Int) : MS := cpK S a b 58
theorem cpR_n {S : MS} {a b : Int} {x : Nat} (h : x ≠ 0) : cpR S a b x = S x := by
  funext j
  simp only [cpR, cpK]
  rw [if_neg (by omega)]
theorem cpR_in {S : MS} {a b j : Int} (h : b ≤ j ∧ j < b + 58) : cpR S a b 0 j = S 0 (a + (j - b)) := by
  simp only [cpR, cpK, true_and]
  rw [if_pos (by omega)]
theorem cpR_out {S : MS} {a b j : Int} (h : j < b ∨ b + 58 ≤ j) : cpR S a b 0 j = S 0 j := by
  simp only [cpR, cpK, true_and]
  rw [if_neg (by omega)]
/-- anew: the head, then the loops -/
def anH (S : MS) (e p s t : Int) : MS := us (us (us (us S 0 0 e) 0 1 p) 0 2 s) 0 3 t
def anA (S : MS) (s t k : Int) : MS := fun x j => if x = 0 ∧ 4 ≤ j ∧ j < 4 + k then (j - 4) % s else if x = 0 ∧ 22 ≤ j ∧ j < 22 + k then (j - 22) % t else if x = 0 ∧ 34 ≤ j ∧ j < 34 + k then 0 else if x = 0 ∧ 46 ≤ j ∧ j < 46 + k then 1 else S x j
theorem anA_0 (S : MS) (s t : Int) : anA S s t 0 = S := by
  funext x j
  simp only [anA]
  (repeat' split) <;> first | rfl | omega
theorem anA_s {S : MS} {s t k : Int} (hk : 0 ≤ k ∧ k < 12) : us (us (us (us (anA S s t k) 0 (4 + k) (k % s)) 0 (22 + k) (k % t)) 0 (34 + k) 0) 0 (46 + k) 1 = anA S s t (k + 1) := by
  funext x j
  simp only [us_eq, anA]
  (repeat' split) <;> first | rfl | omega | (congr 1; omega)
def anB (S : MS) (s t k : Int) : MS := fun x j => if x = 0 ∧ 16 ≤ j ∧ j < 16 + k then (if j - 16 < t then shI ((j - 16) % s) else 0) else S x j
theorem anB_0 (S : MS) (s t : Int) : anB S s t 0 = S := by
  funext x j
  simp only [anB]
  split
  · omega
  · rfl
theorem anB_s {S : MS} {s t k : Int} (hk : 0 ≤ k ∧ k < 6) : us (anB S s t k) 0 (16 + k) (if k < t then shI (k % s) else 0) = anB S s t (k + 1) := by
  funext x j
  simp only [us_eq, anB]
  (repeat' split) <;> first | rfl | omega | (congr 1; congr 1; omega)
def anewS (S : MS) (e p s t : Int) : MS := anB (anA (anH S e p s t) s t 12) s t 6
theorem anewS_n {S : MS} {e p s t : Int} {x : Nat} (h : x ≠ 0) : anewS S e p s t x = S x := by
  funext j
  simp [anewS, anB, anA, anH, us_eq, h]
theorem anewS_0 {S : MS} {e p s t : Int} (j : Int) : anewS S e p s t 0 j = if j = 0 then e else if j = 1 then p else if j = 2 then s else if j = 3 then t else if 4 ≤ j ∧ j < 16 then (j - 4) % s else if 16 ≤ j ∧ j < 22 then (if j - 16 < t then shI ((j - 16) % s) else 0) else if 22 ≤ j ∧ j < 34 then (j - 22) % t else if 34 ≤ j ∧ j < 46 then 0 else if 46 ≤ j ∧ j < 58 then 1 else S 0 j := by
  simp only [anewS, anB, anA, anH, us_eq, true_and]
  (repeat' split) <;> first | rfl | omega
def writeV (S : MS) (c : Int) : Int := if inB c 0 255 = false then -3 else if S 10 3 = 200 then -5 else S 10 3 + 1
def writeS (S : MS) (c : Int) : MS := if inB c 0 255 = false then S else if S 10 3 = 200 then S else us (us S 3 (S 10 3) c) 10 3 (S 10 3 + 1)
/-- keepPast -/
def shK (S : MS) (k : Int) : MS := fun x j => if x = 0 ∧ 58 ≤ j ∧ j < 58 + k then S 0 (j + 58) else S x j
theorem shK_0 (S : MS) : shK S 0 = S := by
  funext x j
  simp only [shK]
  split
  · omega
  · rfl
theorem shK_n (S : MS) (k : Int) {x : Nat} (h : x ≠ 0) : shK S k x = S x := by
  funext j
  simp [shK, h]
theorem shK_s {S : MS} {k : Int} (hk : 0 ≤ k ∧ k < 406) : us (shK S k) 0 (58 + k) (shK S k 0 (116 + k)) = shK S (k + 1) := by
  funext x j
  simp only [us_eq, shK]
  (repeat' split) <;> first | rfl | omega | (congr 1; omega)
def kpU (S : MS) : Int := if S 10 2 = 8 then 7 else S 10 2
def kpS (S : MS) : MS := us (cpR (us (if S 10 2 = 8 then shK S 406 else S) 10 2 (kpU S)) 0 (58 + 58 * kpU S)) 10 2 (kpU S + 1)
theorem kpS_n {S : MS} {x : Nat} (h0 : x ≠ 0) (h1 : x ≠ 10) : kpS S x = S x := by
  unfold kpS
  rw [us_n _ _ _ h1, cpR_n h0, us_n _ _ _ h1]
  split
  · rw [shK_n _ _ h0]
  · rfl
theorem kpS_10 {S : MS} {j : Int} : kpS S 10 j = if j = 2 then kpU S + 1 else S 10 j := by
  unfold kpS
  rw [us_eq]
  by_cases hj : j = 2
  · rw [if_pos ⟨rfl, hj⟩, if_pos hj]
  · rw [if_neg (by omega), cpR_n (by omega), us_eq, if_neg (by omega), if_neg hj]
    split
    · rw [shK_n _ _ (by omega)]
    · rfl
theorem kpS_now {S : MS} {j : Int} (hu : 0 ≤ S 10 2) (hj : j < 58) : kpS S 0 j = S 0 j := by
  unfold kpS
  rw [us_eq, if_neg (by omega), cpR_out (by unfold kpU; split <;> omega), us_eq, if_neg (by omega)]
  split
  · simp only [shK]
    rw [if_neg (by omega)]
  · rfl
def layS (S : MS) (place v : Int) : MS := us (kpS S) 0 place v
def drawV (S : MS) (i s : Int) : Int := if inB i 0 (S 0 0 - 1) = true ∧ inB s 0 (S 0 2 - 1) = true then S 0 (4 + i) else -2
def drawS (S : MS) (i s : Int) : MS := if inB i 0 (S 0 0 - 1) = true ∧ inB s 0 (S 0 2 - 1) = true then layS S (4 + i) s else S
def tieV (S : MS) (j s : Int) : Int := if inB j 0 (S 0 3 - 1) = true ∧ inB s 0 (S 0 2 - 1) = true then xorI (S 0 (16 + j)) (shI s) else -2
def tieS (S : MS) (j s : Int) : MS := if inB j 0 (S 0 3 - 1) = true ∧ inB s 0 (S 0 2 - 1) = true then layS S (16 + j) (xorI (S 0 (16 + j)) (shI s)) else S
def treadV (S : MS) (q j : Int) : Int := if inB q 0 (S 0 1 - 1) = true ∧ inB j 0 (S 0 3 - 1) = true then S 0 (22 + q) else -2
def treadS (S : MS) (q j : Int) : MS := if inB q 0 (S 0 1 - 1) = true ∧ inB j 0 (S 0 3 - 1) = true then layS S (22 + q) j else S
def warpV (S : MS) (i c : Int) : Int := if inB i 0 (S 0 0 - 1) = false then -2 else if inB c 0 9 = true then S 0 (34 + i) else -3
def warpS (S : MS) (i c : Int) : MS := if inB i 0 (S 0 0 - 1) = true ∧ inB c 0 9 = true then layS S (34 + i) c else S
def weftV (S : MS) (q c : Int) : Int := if inB q 0 (S 0 1 - 1) = false then -2 else if inB c 0 9 = true then S 0 (46 + q) else -3
def weftS (S : MS) (q c : Int) : MS := if inB q 0 (S 0 1 - 1) = true ∧ inB c 0 9 = true then layS S (46 + q) c else S
def undoV (S : MS) : Int := if S 10 2 = 0 then -4 else S 10 2 - 1
def undoS (S : MS) : MS := if S 10 2 = 0 then S else cpR (us S 10 2 (S 10 2 - 1)) (58 + 58 * (S 10 2 - 1)) 0
def keepV (S : MS) (k : Int) : Int := if inB k 0 1 = false then -2 else S 0 0
def keepS (S : MS) (k : Int) : MS := if inB k 0 1 = false then S else us (cpR S 0 (522 + 58 * k)) 2 k 1
def backV (S : MS) (k : Int) : Int := if inB k 0 1 = false then -2 else if S 2 k = 0 then -4 else S 0 (522 + 58 * k)
def backS (S : MS) (k : Int) : MS := if inB k 0 1 = false then S else if S 2 k = 0 then S else us (cpR S (522 + 58 * k) 0) 10 2 0
def spoolV (t : Int) : Int := if inB t 0 2 = false then -2 else 0
def spoolS (S : MS) (t : Int) : MS := if inB t 0 2 = false then S else us S 4 t 0
def windV (S : MS) (t v : Int) : Int := if inB t 0 2 = false then -2 else if inB v 1 99 = false then -3 else if S 4 t < 0 then -11 else if S 4 t = 8 then -13 else S 4 t + 1
def windS (S : MS) (t v : Int) : MS := if inB t 0 2 = true ∧ inB v 1 99 = true ∧ 0 ≤ S 4 t ∧ S 4 t ≠ 8 then us (us S 5 (8 * t + S 4 t) v) 4 t (S 4 t + 1) else S
def puS (t : Int) : Nat → MS → Int → MS
  | 0, S, _ => S
  | f + 1, S, left => if left ≤ 0 then S else if S 5 (8 * t + S 4 t - 1) ≤ left then puS t f (us S 4 t (S 4 t - 1)) (left - S 5 (8 * t + S 4 t - 1)) else us S 5 (8 * t + S 4 t - 1) (S 5 (8 * t + S 4 t - 1) - left)
def pullOk (S : MS) (t v : Int) : Prop := inB t 0 2 = true ∧ inB v 1 999 = true ∧ 0 ≤ S 4 t ∧ v ≤ allV S t
noncomputable def pullS (S : MS) (t v : Int) : MS := if inB t 0 2 = true ∧ inB v 1 999 = true ∧ 0 ≤ S 4 t ∧ v ≤ allV S t then puS t 1000 S v else S
noncomputable def pullV (S : MS) (t v : Int) : Int := if inB t 0 2 = false then -2 else if inB v 1 999 = false then -3 else if S 4 t < 0 then -11 else if allV S t < v then -14 else puS t 1000 S v 4 t
def minI (a b : Int) : Int := if b < a then b else a
def knotV (S : MS) (t : Int) : Int := if inB t 0 2 = false then -2 else if S 4 t < 0 then -11 else if S 4 t = 0 then -12 else if S 4 t = 1 then -4 else minI 99 (S 5 (8 * t + S 4 t - 2) + S 5 (8 * t + S 4 t - 1))
def knotS (S : MS) (t : Int) : MS := if inB t 0 2 = true ∧ 2 ≤ S 4 t then us (us S 4 t (S 4 t - 1)) 5 (8 * t + S 4 t - 2) (minI 99 (S 5 (8 * t + S 4 t - 2) + S 5 (8 * t + S 4 t - 1))) else S
def rwS (t o : Int) : Nat → MS → MS
  | 0, S => S
  | n + 1, S => rwS t o n (us (us (us S 4 t (S 4 t - 1)) 5 (8 * o + S 4 o) (S 5 (8 * t + (S 4 t - 1)))) 4 o (S 4 o + 1))
def rewindV (S : MS) (t o : Int) : Int := if inB t 0 2 = false ∨ inB o 0 2 = false ∨ t = o then -2 else if S 4 t < 0 ∨ S 4 o < 0 then -11 else if 8 < S 4 t + S 4 o then -13 else S 4 o + S 4 t
def rewindS (S : MS) (t o : Int) : MS := if inB t 0 2 = true ∧ inB o 0 2 = true ∧ t ≠ o ∧ 0 ≤ S 4 t ∧ 0 ≤ S 4 o ∧ S 4 t + S 4 o ≤ 8 then rwS t o (S 4 t).toNat S else S
def dropV (S : MS) (t : Int) : Int := if inB t 0 2 = false then -2 else if S 4 t < 0 then -11 else S 4 t
def dropS (S : MS) (t : Int) : MS := if inB t 0 2 = false then S else us S 4 t (-1)
/-- turn -/
def t9F (S : MS) (k j set : Int) : Int := orI set (if hasB (S 0 (16 + j)) k = true then shI j else 0)
def t9V (S : MS) (k : Int) : Int := fo (t9F S k) 0 (S 0 3).toNat
def t9K (S : MS) (k : Int) : MS := fun x j => if x = 9 ∧ 0 ≤ j ∧ j < k then t9V S j else S x j
theorem t9K_0 (S : MS) : t9K S 0 = S := by
  funext x j
  simp only [t9K]
  split
  · omega
  · rfl
theorem t9K_s (S : MS) (k : Int) (hk : 0 ≤ k) : us (t9K S k) 9 k (t9V S k) = t9K S (k + 1) := by
  funext x j
  simp only [us_eq, t9K]
  (repeat' split) <;> first | rfl | omega | (congr 1; omega)
theorem t9K_n (S : MS) (k : Int) {x : Nat} (h : x ≠ 9) : t9K S k x = S x := by
  funext j
  simp [t9K, h]
def t16K (S : MS) (k : Int) : MS := fun x j => if x = 0 ∧ 16 ≤ j ∧ j < 16 + k then S 9 (j - 16) else S x j
theorem t16K_0 (S : MS) : t16K S 0 = S := by
  funext x j
  simp only [t16K]
  split
  · omega
  · rfl
theorem t16K_n (S : MS) (k : Int) {x : Nat} (h : x ≠ 0) : t16K S k x = S x := by
  funext j
  simp [t16K, h]
theorem t16K_s (S : MS) (k : Int) (hk : 0 ≤ k) : us (t16K S k) 0 (16 + k) (S 9 k) = t16K S (k + 1) := by
  funext x j
  simp only [us_eq, t16K]
  (repeat' split) <;> first | rfl | omega | (congr 1; omega)
def swK (S : MS) (k : Int) : MS := fun x j => if x = 0 ∧ 4 ≤ j ∧ j < 4 + k then S 0 (j + 18) else if x = 0 ∧ 22 ≤ j ∧ j < 22 + k then S 0 (j - 18) else if x = 0 ∧ 34 ≤ j ∧ j < 34 + k then S 0 (j + 12) else if x = 0 ∧ 46 ≤ j ∧ j < 46 + k then S 0 (j - 12) else S x j
theorem swK_0 (S : MS) : swK S 0 = S := by
  funext x j
  simp only [swK]
  (repeat' split) <;> first | rfl | omega
theorem swK_s (S : MS) (k : Int) (hk : 0 ≤ k ∧ k < 12) : swapS (swapS (swK S k) (4 + k) (22 + k)) (34 + k) (46 + k) = swK S (k + 1) := by
  have r1 : swK S k 0 (22 + k) = S 0 (22 + k) := by simp only [swK]; (repeat' rw [if_neg (by omega)])
  have r2 : swK S k 0 (4 + k) = S 0 (4 + k) := by simp only [swK]; (repeat' rw [if_neg (by omega)])
  have r3 : swK S k 0 (34 + k) = S 0 (34 + k) := by simp only [swK]; (repeat' rw [if_neg (by omega)])
  have r4 : swK S k 0 (46 + k) = S 0 (46 + k) := by simp only [swK]; (repeat' rw [if_neg (by omega)])
  funext x j
  unfold swapS
  rw [r1, r2]
  simp only [us_eq, if_neg (show ¬ ((0 : Nat) = 0 ∧ 46 + k = 22 + k) by omega), if_neg (show ¬ ((0 : Nat) = 0 ∧ 46 + k = 4 + k) by omega), if_neg (show ¬ ((0 : Nat) = 0 ∧ 34 + k = 22 + k) by omega), if_neg (show ¬ ((0 : Nat) = 0 ∧ 34 + k = 4 + k) by omega), r3, r4]
  simp only [swK]
  (repeat' split) <;> first | rfl | omega | (congr 1; omega)
def turnS (S : MS) : MS := swK (swapS (swapS (t16K (t9K (kpS S) 6) 6) 0 1) 2 3) 12
def turnV (S : MS) : Int := S 0 1
/-- sample -/
def zK (S : MS) (k : Int) : MS := fun x j => if x = 0 ∧ 16 ≤ j ∧ j < 16 + k then 0 else S x j
theorem zK_0 (S : MS) : zK S 0 = S := by
  funext x j
  simp only [zK]
  split
  · omega
  · rfl
theorem zK_s (S : MS) (k : Int) (hk : 0 ≤ k) : us (zK S k) 0 (16 + k) 0 = zK S (k + 1) := by
  funext x j
  simp only [us_eq, zK]
  (repeat' split) <;> first | rfl | omega
def onK (u : Int → Int) (S : MS) (k : Int) : MS := fun x j => if x = 0 ∧ 4 ≤ j ∧ j < 4 + k then u (j - 4) else S x j
theorem onK_0 (u : Int → Int) (S : MS) : onK u S 0 = S := by
  funext x j
  simp only [onK]
  split
  · omega
  · rfl
theorem onK_s (u : Int → Int) (S : MS) (k : Int) (hk : 0 ≤ k) : us (onK u S k) 0 (4 + k) (u k) = onK u S (k + 1) := by
  funext x j
  simp only [us_eq, onK]
  (repeat' split) <;> first | rfl | omega | (congr 1; omega)
def shN (S : MS) (i : Int) : Int := numV (colV S) (S 10 1) i
def trN (S : MS) (r : Int) : Int := numV (S 1) (S 10 0) r
def smI (S : MS) (r i : Int) (T : MS) : MS := us T 0 (16 + trN S r) (orI (T 0 (16 + trN S r)) (if hasB (S 1 r) i = true then shI (shN S i) else 0))
def smR (S : MS) (r : Int) (T : MS) : MS := fo (smI S r) (us T 0 (22 + r) (trN S r)) (S 10 1).toNat
def sampleOk (S : MS) : Bool := decide (S 10 0 ≠ 0 ∧ lsV (colV S) (S 10 1) ≤ 6 ∧ lsV (S 1) (S 10 0) ≤ 6)
def smB (S : MS) : MS := onK (shN S) (zK (anewS (kpS S) (S 10 1) (S 10 0) (lsV (colV S) (S 10 1)) (lsV (S 1) (S 10 0))) 6) (S 10 1)
def sampleS (S : MS) : MS := if sampleOk S = true then fo (smR S) (smB S) (S 10 0).toNat else S
def sampleV (S : MS) : Int := if sampleOk S = true then lsV (colV S) (S 10 1) else -4
theorem ls_ge (u : Int → Int) (many : Int) (n : Nat) : ∀ i : Int, 0 ≤ i → i < n → numV u many i + 1 ≤ fo (lsF u many) 0 n := by
  induction n with
  | zero => intro i h0 h1; omega
  | succ n ih =>
    intro i h0 h1
    show _ ≤ lsF u many n (fo (lsF u many) 0 n)
    generalize fo (lsF u many) 0 n = x at ih ⊢
    unfold lsF
    by_cases hi : i < n
    · have := ih i h0 hi
      split <;> omega
    · rw [show i = (n : Int) by omega]
      split <;> omega
theorem numV_lt {u : Int → Int} {many i : Int} (h : 0 ≤ i ∧ i < many) : numV u many i < lsV u many := by
  have := ls_ge u many many.toNat i h.1 (by omega)
  unfold lsV
  omega
theorem lsV_pos {u : Int → Int} {many : Int} (h : 0 < many) : 1 ≤ lsV u many := by
  have h1 := numV_lt (u := u) (many := many) (i := 0) (by omega)
  have h2 := numV_rg u many 0 (by omega)
  omega
theorem colV_c {S T : MS} (h1 : T 1 = S 1) (h2 : T 10 0 = S 10 0) : colV T = colV S := by
  have e : colF T = colF S := by
    funext i r set
    unfold colF
    rw [h1]
  funext i
  unfold colV
  rw [e, h2]
def smOk (S T : MS) : Prop := (T 1 = S 1 ∧ T 10 0 = S 10 0 ∧ T 10 1 = S 10 1) ∧ ∀ j : Int, 0 ≤ j → j < 6 → 0 ≤ T 0 (16 + j) ∧ T 0 (16 + j) < 4096
theorem smOk.u {S T : MS} (h : smOk S T) {i v : Int} (hi : i < 16 ∨ 22 ≤ i ∨ (0 ≤ v ∧ v < 4096)) : smOk S (us T 0 i v) := by
  refine ⟨⟨by rw [us_n _ _ _ (by omega)]; exact h.1.1, by rw [us_n _ _ _ (by omega)]; exact h.1.2.1, by rw [us_n _ _ _ (by omega)]; exact h.1.2.2⟩, fun j j0 j1 => ?_⟩
  rw [us_eq]
  have := h.2 j j0 j1
  split <;> omega
theorem OkR.c {S T : MS} (h : OkR S) (h1 : T 1 = S 1) (h2 : T 10 0 = S 10 0) (h3 : T 10 1 = S 10 1) : OkR T := by
  unfold OkR
  rw [h1, h2, h3]
  exact h
