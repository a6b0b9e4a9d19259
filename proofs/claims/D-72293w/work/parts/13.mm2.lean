/-! THE REFERENCE AS FUNCTIONS of its state: what is found, counts, spools -/
set_option maxRecDepth 100000
def treadleV (S : MS) (j : Int) : Int := if inB j 0 (S 0 3 - 1) = true then S 0 (16 + j) else -2
def crossV (S : MS) (q i w : Int) : Int := if inB q 0 (S 0 1 - 1) = false ∨ inB i 0 (S 0 0 - 1) = false then -2 else if inB w 0 1 = false then -3 else if w = 0 then bI (upB S q i) else if upB S q i = true then S 0 (34 + i) else S 0 (46 + q)
def lgF (u : Int → Int) (n : Int) (a b : Bool) (i m : Int) : Int := mxI (mxI m (runV (u i) n a)) (runV (u i) n b)
def loeV (S : MS) : Int := fo (lgF (upEnd S) (S 0 1) true false) 0 (S 0 0).toNat
def lopV (S : MS) : Int := fo (lgF (upPick S) (S 0 0) false true) 0 (S 0 1).toNat
def repB (u : Int → Int) (n r : Int) : Bool := fo (fun i b => b && decide (u i = u (i + r))) true (n - r).toNat
def firstR (p : Int → Bool) : Nat → Int → Int
  | 0, r => r
  | f + 1, r => if p r = true then r else firstR p f (r + 1)
def repV (u : Int → Int) (n : Int) : Int := firstR (repB u n) 12 1
theorem firstR_t {p : Int → Bool} {f : Nat} {r : Int} (h : p r = true) (hf : 0 < f) : firstR p f r = r := by
  cases f with
  | zero => omega
  | succ f => simp [firstR, h]
theorem firstR_f {p : Int → Bool} {f : Int} {r : Int} (h : p r = false) (hf : 0 < f) : firstR p f.toNat r = firstR p (f - 1).toNat (r + 1) := by
  obtain ⟨g, hg⟩ : ∃ g : Nat, f.toNat = g + 1 := ⟨f.toNat - 1, by omega⟩
  rw [hg, show (f - 1).toNat = g by omega]
  simp [firstR, h]
def astV (S : MS) : Int := fo (fun q n => n + stV S q) 0 (S 0 1).toNat
def alikeF (S : MS) (a b j : Int) (x : Bool) : Bool := x && decide (hasB (S 0 (16 + j)) a = hasB (S 0 (16 + j)) b)
def alikeB (S : MS) (a b : Int) : Bool := fo (alikeF S a b) true (S 0 3).toNat
def alkF (S : MS) (a b n : Int) : Int := n + bI (alikeB S a b)
def alkV (S : MS) : Int := fo (fun a n => fo (alkF S a) n a.toNat) 0 (S 0 2).toNat
def clrI (s k : Int) : Int := if hasB s k = true then s - shI k else s
theorem clr_dec : ∀ s, s < 64 → ∀ k, k < 6 → (Int32.ofNat s &&& ((Int32.ofNat (2 ^ k)) ^^^ (-1))) = Int32.ofNat (if s.testBit k = true then s - 2 ^ k else s) ∧ (if s.testBit k = true then 2 ^ k ≤ s else True) := by decide +kernel
theorem clr_bits {s k : Int} (hs : 0 ≤ s ∧ s < 64) (hk : 0 ≤ k ∧ k < 6) : (zI s &&& (zI (shI k) ^^^ zI (-1))) = zI (clrI s k) := by
  obtain ⟨a, rfl⟩ := Int.eq_ofNat_of_zero_le hs.1
  obtain ⟨b, rfl⟩ := Int.eq_ofNat_of_zero_le hk.1
  have h := clr_dec a (by omega) b (by omega)
  unfold shI clrI hasB
  simp only [Int.toNat_natCast]
  rw [zI_nI, zI_nI, show zI (-1) = -1 by decide +kernel, h.1]
  have h2 := h.2
  by_cases ht : a.testBit b = true
  · rw [if_pos ht] at h2
    rw [if_pos ht, if_pos ht, ← zI_nI]
    unfold shI
    simp only [Int.toNat_natCast]
    congr 1
    omega
  · rw [if_neg ht, if_neg ht, ← zI_nI]
theorem clr_rg {s k : Int} (hs : 0 ≤ s ∧ s < 64) (hk : 0 ≤ k ∧ k < 6) : 0 ≤ clrI s k ∧ clrI s k < 64 := by
  obtain ⟨a, rfl⟩ := Int.eq_ofNat_of_zero_le hs.1
  obtain ⟨b, rfl⟩ := Int.eq_ofNat_of_zero_le hk.1
  have h := (clr_dec a (by omega) b (by omega)).2
  unfold clrI hasB shI
  simp only [Int.toNat_natCast]
  by_cases ht : a.testBit b = true
  · rw [if_pos ht] at h ⊢
    have := Nat.two_pow_pos b
    omega
  · rw [if_neg ht]; omega
def idleF (S : MS) (fr k set : Int) : Int := clrI set (S 0 (fr + k))
def idleV (S : MS) (many fr places : Int) : Int := fo (idleF S fr) (shI many - 1) places.toNat
def aupV (S : MS) : Int := fo (fun q n => n + onesV (upPick S q)) 0 (S 0 1).toNat
def OkR (S : MS) : Prop := (0 ≤ S 10 0 ∧ S 10 0 ≤ 12) ∧ (0 ≤ S 10 1 ∧ S 10 1 ≤ 12) ∧ ∀ r : Int, 0 ≤ r → r < S 10 0 → 0 ≤ S 1 r ∧ S 1 r < 4096
def sameF (S : MS) (r : Int) (b : Bool) : Bool := b && decide (upPick S r = S 1 r)
def same0 (S : MS) : Bool := decide (0 < S 10 0 ∧ S 10 0 = S 0 1 ∧ S 10 1 = S 0 0)
def sameB (S : MS) : Bool := fo (sameF S) (same0 S) (S 10 0).toNat
theorem fo_false {f : Int → Bool → Bool} (hf : ∀ k, f k false = false) {b : Bool} {r : Int} {n : Nat} (hr : 0 ≤ r ∧ r ≤ n) (h : fo f b r.toNat = false) : fo f b n = false := by
  have key : ∀ d : Nat, fo f b (r.toNat + d) = false := by
    intro d
    induction d with
    | zero => exact h
    | succ d ih =>
      show f _ (fo f b (r.toNat + d)) = false
      rw [ih]
      exact hf _
  have := key (n - r.toNat)
  rwa [show r.toNat + (n - r.toNat) = n by omega] at this
theorem sh13 {i : Int} (h : 0 ≤ i ∧ i ≤ 12) : 0 < shI i ∧ shI i ≤ 4096 := by
  have h2 : 0 < shI i := by unfold shI; have := Nat.two_pow_pos i.toNat; omega
  refine ⟨h2, ?_⟩
  unfold shI
  have := Nat.pow_le_pow_right (n := 2) (by omega) (show i.toNat ≤ 12 by omega)
  omega
def tmF (up e k set best : Int) : Int := if onesV set < best ∧ runV (xorI up set) e true ≤ k ∧ runV (xorI up set) e false ≤ k then onesV set else best
def tamedV (S : MS) (q k : Int) : Int := if inB q 0 (S 0 1 - 1) = false then -2 else if inB k 1 12 = false then -3 else fo (tmF (upPick S q) (S 0 0) k) (S 0 0) (shI (S 0 0)).toNat
def colF (S : MS) (i r set : Int) : Int := orI set (if hasB (S 1 r) i = true then shI r else 0)
def colV (S : MS) (i : Int) : Int := fo (colF S i) 0 (S 10 0).toNat
theorem colV_rg {S : MS} (i : Int) (h : OkR S) : 0 ≤ colV S i ∧ colV S i < 4096 := by
  refine rg_fo (S 10 0).toNat (fun _ x => 0 ≤ x ∧ x < 4096) (by omega) (fun k x h0 h1 hx => ?_)
  have h2 := h.1
  refine or12 ⟨hx, ?_⟩
  split
  · have := sh12 (i := k) (by omega); omega
  · omega
def newF (u : Int → Int) (k h : Int) (b : Bool) : Bool := b && decide (u h ≠ u k)
def newB (u : Int → Int) (k : Int) : Bool := fo (newF u k) true k.toNat
def cntN (u : Int → Int) (k : Int) : Int := fo (fun j n => n + bI (newB u j)) 0 k.toNat
def eqB (u : Int → Int) (i k : Int) : Bool := decide (u k = u i)
def numV (u : Int → Int) (many i : Int) : Int := cntN u (firstR (eqB u i) many.toNat 0)
theorem cntN_rg (u : Int → Int) (k : Int) (h : 0 ≤ k) : 0 ≤ cntN u k ∧ cntN u k ≤ k := by
  have := rg_fo (f := fun j n => n + bI (newB u j)) (s := 0) k.toNat (fun j x => 0 ≤ x ∧ x ≤ j) (by omega) (fun j x h0 h1 hx => by have := bI_rg (newB u j); omega)
  unfold cntN
  omega
theorem firstR_rg (p : Int → Bool) (f : Nat) (r : Int) : r ≤ firstR p f r ∧ firstR p f r ≤ r + f := by
  induction f generalizing r with
  | zero => simp [firstR]
  | succ f ih =>
    unfold firstR
    split
    · omega
    · have := ih (r + 1)
      omega
theorem numV_rg (u : Int → Int) (many i : Int) (h : 0 ≤ many) : 0 ≤ numV u many i ∧ numV u many i ≤ many := by
  have h1 := firstR_rg (eqB u i) many.toNat 0
  have h2 := cntN_rg u (firstR (eqB u i) many.toNat 0) h1.1
  unfold numV
  omega
def lsF (u : Int → Int) (many i m : Int) : Int := if m ≤ numV u many i then numV u many i + 1 else m
def lsV (u : Int → Int) (many : Int) : Int := fo (lsF u many) 0 many.toNat
theorem lsV_rg (u : Int → Int) (many : Int) (h : 0 ≤ many) (k : Nat) : 0 ≤ fo (lsF u many) 0 k ∧ fo (lsF u many) 0 k ≤ many + 1 := by
  refine rg_fo k (fun _ x => 0 ≤ x ∧ x ≤ many + 1) (by omega) (fun j x h0 h1 hx => ?_)
  have := numV_rg u many j h
  unfold lsF
  split <;> omega
def leastV (S : MS) (w : Int) : Int := if w = 0 then S 10 0 else if w = 1 then S 10 1 else if w = 2 then lsV (colV S) (S 10 1) else if w = 3 then lsV (S 1) (S 10 0) else if w = 4 then bI (sameB S) else -3
def sampledV (S : MS) (r i : Int) : Int := if r < 0 ∨ i < 0 then -3 else if S 10 0 ≤ r ∨ S 10 1 ≤ i then -1 else bI (hasB (S 1 r) i)
def OkT (S : MS) : Prop := ∀ t : Int, 0 ≤ t → t < 3 → (-1 ≤ S 4 t ∧ S 4 t ≤ 8) ∧ ∀ k : Int, 0 ≤ k → k < S 4 t → 1 ≤ S 5 (8 * t + k) ∧ S 5 (8 * t + k) ≤ 99
def allF (S : MS) (t k n : Int) : Int := n + S 5 (8 * t + k)
def allV (S : MS) (t : Int) : Int := fo (allF S t) 0 (S 4 t).toNat
theorem allV_rg {S : MS} (t : Int) (h : OkT S) (ht : 0 ≤ t ∧ t < 3) (n : Nat) (hn : n ≤ (S 4 t).toNat) : 0 ≤ fo (allF S t) 0 n ∧ fo (allF S t) 0 n ≤ 99 * n := by
  have h1 := h t ht.1 ht.2
  refine rg_fo n (fun j x => 0 ≤ x ∧ x ≤ 99 * j) (by omega) (fun j x h0 h1' hx => ?_)
  have := h1.2 j (by omega) (by omega)
  unfold allF
  omega
def atF (S : MS) (t n : Int) : Int := n + (if S 4 t < 0 then 0 else S 4 t)
def atV (S : MS) : Int := fo (atF S) 0 3
def msF (S : MS) (t k : Int) (x : Int × Int × Int) : Int × Int × Int := (x.1 + (if 0 < k ∧ x.2.2 < S 5 (8 * t + k) then 1 else 0), mxI x.2.1 (S 5 (8 * t + k)), S 5 (8 * t + k))
def msV (S : MS) (t : Int) : Int × Int × Int := fo (msF S t) (0, 0, 0) (S 4 t).toNat
theorem ms_rg {S : MS} (t : Int) (h : OkT S) (ht : 0 ≤ t ∧ t < 3) (n : Nat) (hn : n ≤ (S 4 t).toNat) : (0 ≤ (fo (msF S t) (0, 0, 0) n).1 ∧ (fo (msF S t) (0, 0, 0) n).1 ≤ n) ∧ (0 ≤ (fo (msF S t) (0, 0, 0) n).2.1 ∧ (fo (msF S t) (0, 0, 0) n).2.1 ≤ 99) ∧ 0 ≤ (fo (msF S t) (0, 0, 0) n).2.2 ∧ (fo (msF S t) (0, 0, 0) n).2.2 ≤ 99 := by
  have h1 := h t ht.1 ht.2
  induction n with
  | zero => simp [fo]
  | succ n ih =>
    have ih := ih (by omega)
    have e : fo (msF S t) (0, 0, 0) (n + 1) = msF S t n (fo (msF S t) (0, 0, 0) n) := rfl
    rw [e]
    generalize fo (msF S t) (0, 0, 0) n = x at ih ⊢
    have h2 := h1.2 (n : Int) (by omega) (by omega)
    have h3 := mxI_rg (a := x.2.1) (b := S 5 (8 * t + n)) (lo := 0) (hi := 99) (by omega)
    unfold msF
    simp only
    split <;> omega
def measureV (S : MS) (t w : Int) : Int := if inB t 0 2 = false then -2 else if inB w 0 3 = false then -3 else if S 4 t < 0 then -11 else if S 4 t = 0 ∧ inB w 1 2 = true then -12 else if w = 0 then allV S t else if w = 1 then (msV S t).2.1 else if w = 2 then (msV S t).2.2 else (msV S t).1
def countV (S : MS) (w : Int) : Int := if w = 0 ∨ w = 1 ∨ w = 2 ∨ w = 3 then S 0 w else if w = 4 then loeV S else if w = 5 then lopV S else if w = 6 then repV (upEnd S) (S 0 0) else if w = 7 then repV (upPick S) (S 0 1) else if w = 8 then astV S else if w = 9 then alkV S else if w = 10 then idleV S (S 0 2) 4 (S 0 0) else if w = 11 then idleV S (S 0 3) 22 (S 0 1) else if w = 12 then aupV S else if w = 13 then atV S else if w = 14 then S 10 2 else if w = 15 then S 10 3 else -3
def swapS (S : MS) (x y : Int) : MS := us (us S 0 x (S 0 y)) 0 y (S 0 x)
theorem swapS_2 (S : MS) (x y : Int) : swapS (swapS S x y) x y = S := by
  funext b j
  unfold swapS
  simp only [us_eq]
  by_cases hb : b = 0
  · subst hb
    by_cases h1 : j = y
    · subst h1
      by_cases h2 : x = j <;> simp [h2]
    · by_cases h2 : j = x
      · subst h2; simp [h1]
      · simp [h1, h2]
  · simp [hb]
theorem OkD_swap {S : MS} {a b : Int} (h : OkD (S 0)) (ha : 0 ≤ a ∧ a < 12) (hb : 0 ≤ b ∧ b < 12) : OkD (swapS S (4 + a) (4 + b) 0) := by
  obtain ⟨h1, h2, h3, h4, h5, h6⟩ := h
  have e : ∀ j : Int, ¬ (4 ≤ j ∧ j < 16) → swapS S (4 + a) (4 + b) 0 j = S 0 j := by
    intro j hj
    unfold swapS
    rw [us_eq, us_eq, if_neg (by omega), if_neg (by omega)]
  refine ⟨by rw [e 0 (by omega), e 1 (by omega), e 2 (by omega), e 3 (by omega)]; exact h1, fun k k0 k1 => ?_, fun k k0 k1 => by rw [e 3 (by omega), e (22 + k) (by omega)]; exact h3 k k0 k1, fun k k0 k1 => by rw [e 2 (by omega), e (16 + k) (by omega)]; exact h4 k k0 k1, fun k k0 k1 => by rw [e (34 + k) (by omega)]; exact h5 k k0 k1, fun k k0 k1 => by rw [e (46 + k) (by omega)]; exact h6 k k0 k1⟩
  rw [e 2 (by omega)]
  unfold swapS
  rw [us_eq, us_eq]
  have ea := h2 a ha.1 ha.2
  have eb := h2 b hb.1 hb.2
  have ek := h2 k k0 k1
  split
  · exact ea
  · split
    · exact eb
    · exact ek
def changedV (S : MS) (a b : Int) : Int := if inB a 0 (S 0 0 - 1) = false ∨ inB b 0 (S 0 0 - 1) = false ∨ a = b then -2 else lopV (swapS S (4 + a) (4 + b))
theorem lg_rg {u : Int → Int} {n : Int} {a b : Bool} (h : 0 ≤ n ∧ n ≤ 12) (k : Nat) : 0 ≤ fo (lgF u n a b) 0 k ∧ fo (lgF u n a b) 0 k ≤ 12 := by
  refine rg_fo k (fun _ x => 0 ≤ x ∧ x ≤ 12) (by omega) (fun j x h0 h1 hx => ?_)
  have r1 := runV_rg (u j) n a h.1
  have r2 := runV_rg (u j) n b h.1
  exact mxI_rg ⟨mxI_rg ⟨hx, by omega⟩, by omega⟩
theorem cntN_s (u : Int → Int) {k : Int} (hk : 0 ≤ k) : cntN u (k + 1) = cntN u k + bI (newB u k) := fo_s hk
theorem same0_r (S : MS) (h : same0 S = true) : 0 < S 10 0 ∧ S 10 0 = S 0 1 ∧ S 10 1 = S 0 0 := by simpa [same0] using h
