/-! THE REFERENCE AS FUNCTIONS of its state: what is seen of a draft -/
set_option maxRecDepth 100000
/-- a draft in one row is sound -/
def OkD (f : Int → Int) : Prop := ((1 ≤ f 0 ∧ f 0 ≤ 12) ∧ (1 ≤ f 1 ∧ f 1 ≤ 12) ∧ (1 ≤ f 2 ∧ f 2 ≤ 6) ∧ (1 ≤ f 3 ∧ f 3 ≤ 6)) ∧ (∀ k : Int, 0 ≤ k → k < 12 → 0 ≤ f (4 + k) ∧ f (4 + k) < f 2) ∧ (∀ k : Int, 0 ≤ k → k < 12 → 0 ≤ f (22 + k) ∧ f (22 + k) < f 3) ∧ (∀ k : Int, 0 ≤ k → k < 6 → 0 ≤ f (16 + k) ∧ f (16 + k) < shI (f 2)) ∧ (∀ k : Int, 0 ≤ k → k < 12 → 0 ≤ f (34 + k) ∧ f (34 + k) ≤ 9) ∧ (∀ k : Int, 0 ≤ k → k < 12 → 0 ≤ f (46 + k) ∧ f (46 + k) ≤ 9)
theorem sh12 {i : Int} (h : 0 ≤ i ∧ i < 12) : 0 < shI i ∧ shI i < 4096 := by
  have h1 := shI_lt (i := i) (k := 12) (by omega)
  have e : ((2 ^ 12 : Nat) : Int) = 4096 := by decide
  have h2 : 0 < shI i := by unfold shI; have := Nat.two_pow_pos i.toNat; omega
  omega
theorem sh6 {i : Int} (h : 0 ≤ i ∧ i ≤ 6) : 0 < shI i ∧ shI i ≤ 64 := by
  have h2 : 0 < shI i := by unfold shI; have := Nat.two_pow_pos i.toNat; omega
  refine ⟨h2, ?_⟩
  unfold shI
  have := Nat.pow_le_pow_right (n := 2) (by omega) (show i.toNat ≤ 6 by omega)
  omega
theorem or12 {a b : Int} (h : (0 ≤ a ∧ a < 4096) ∧ 0 ≤ b ∧ b < 4096) : 0 ≤ orI a b ∧ orI a b < 4096 := by
  have e : ((2 ^ 12 : Nat) : Int) = 4096 := by decide
  have := orI_lt (a := a) (b := b) (k := 12) (by rw [e]; exact h)
  rwa [e] at this
theorem xor12 {a b : Int} (h : (0 ≤ a ∧ a < 4096) ∧ 0 ≤ b ∧ b < 4096) : 0 ≤ xorI a b ∧ xorI a b < 4096 := by
  have e : ((2 ^ 12 : Nat) : Int) = 4096 := by decide
  have := xorI_lt (a := a) (b := b) (k := 12) (by rw [e]; exact h)
  rwa [e] at this
theorem OkD.tied {f : Int → Int} (h : OkD f) (k : Int) (hk : 0 ≤ k ∧ k < 6) : 0 ≤ f (16 + k) ∧ f (16 + k) < 64 := by
  have h1 := h.2.2.2.1 k hk.1 hk.2
  have h2 := sh6 (i := f 2) (by have := h.1; omega)
  omega
def upB (S : MS) (q i : Int) : Bool := hasB (S 0 (16 + S 0 (22 + q))) (S 0 (4 + i))
def upEndF (S : MS) (i q set : Int) : Int := orI set (if upB S q i = true then shI q else 0)
def upEnd (S : MS) (i : Int) : Int := fo (upEndF S i) 0 (S 0 1).toNat
def upPickF (S : MS) (q i set : Int) : Int := orI set (if upB S q i = true then shI i else 0)
def upPick (S : MS) (q : Int) : Int := fo (upPickF S q) 0 (S 0 0).toNat
def mxI (a b : Int) : Int := if a < b then b else a
theorem mxI_rg {a b lo hi : Int} (h : (lo ≤ a ∧ a ≤ hi) ∧ lo ≤ b ∧ b ≤ hi) : lo ≤ mxI a b ∧ mxI a b ≤ hi := by unfold mxI; split <;> omega
def runF (set : Int) (isIn : Bool) (k : Int) (x : Int × Int) : Int × Int := let now := if hasB set k = isIn then x.1 + 1 else 0; (now, mxI x.2 now)
def runV (set many : Int) (isIn : Bool) : Int := (fo (runF set isIn) (0, 0) many.toNat).2
def onesF (set k n : Int) : Int := n + bI (hasB set k)
def onesV (set : Int) : Int := fo (onesF set) 0 12
def stF (S : MS) (q i n : Int) : Int := n + (if (q % 2 = 0 ∧ i % 2 = 1 ∧ upB S q i = true) ∨ (q % 2 = 1 ∧ i % 2 = 0 ∧ upB S q i = false) then 1 else 0)
def stV (S : MS) (q : Int) : Int := fo (stF S q) 0 (S 0 0).toNat
def endV (S : MS) (i w : Int) : Int := if inB i 0 (S 0 0 - 1) = false then -2 else if w = 0 then S 0 (4 + i) else if w = 1 then S 0 (34 + i) else if w = 2 then runV (upEnd S i) (S 0 1) true else if w = 3 then runV (upEnd S i) (S 0 1) false else if w = 4 then upEnd S i else -3
def pickV (S : MS) (q w : Int) : Int := if inB q 0 (S 0 1 - 1) = false then -2 else if w = 0 then S 0 (22 + q) else if w = 1 then S 0 (46 + q) else if w = 2 then runV (upPick S q) (S 0 0) false else if w = 3 then runV (upPick S q) (S 0 0) true else if w = 4 then upPick S q else if w = 5 then (if 0 < stV S q then 1 else 0) else if w = 6 then stV S q else -3
theorem rg_fo {f : Int → Int → Int} {s : Int} (n : Nat) (I : Int → Int → Prop) (h0 : I 0 s) (hs : ∀ k x, 0 ≤ k → k < n → I k x → I (k + 1) (f k x)) : I n (fo f s n) := by
  have key : ∀ j : Nat, j ≤ n → I j (fo f s j) := by
    intro j
    induction j with
    | zero => intro _; exact h0
    | succ j ih => intro hj; exact hs j _ (by omega) (by omega) (ih (by omega))
  exact key n (Nat.le_refl _)
theorem upEnd_rg {S : MS} (i : Int) (h : OkD (S 0)) : 0 ≤ upEnd S i ∧ upEnd S i < 4096 := by
  refine rg_fo (S 0 1).toNat (fun _ x => 0 ≤ x ∧ x < 4096) (by omega) (fun k x h0 h1 hx => ?_)
  have h2 := h.1
  refine or12 ⟨hx, ?_⟩
  split
  · have := sh12 (i := k) (by omega); omega
  · omega
theorem upPick_rg {S : MS} (q : Int) (h : OkD (S 0)) : 0 ≤ upPick S q ∧ upPick S q < 4096 := by
  refine rg_fo (S 0 0).toNat (fun _ x => 0 ≤ x ∧ x < 4096) (by omega) (fun k x h0 h1 hx => ?_)
  have h2 := h.1
  refine or12 ⟨hx, ?_⟩
  split
  · have := sh12 (i := k) (by omega); omega
  · omega
theorem run_rg (set : Int) (b : Bool) (n : Nat) : (0 ≤ (fo (runF set b) (0, 0) n).1 ∧ (fo (runF set b) (0, 0) n).1 ≤ n) ∧ 0 ≤ (fo (runF set b) (0, 0) n).2 ∧ (fo (runF set b) (0, 0) n).2 ≤ n := by
  induction n with
  | zero => simp [fo]
  | succ n ih =>
    have e : fo (runF set b) (0, 0) (n + 1) = runF set b n (fo (runF set b) (0, 0) n) := rfl
    rw [e]
    generalize fo (runF set b) (0, 0) n = x at ih ⊢
    unfold runF mxI
    simp only
    split <;> split <;> omega
theorem runV_rg (set many : Int) (b : Bool) (h : 0 ≤ many) : 0 ≤ runV set many b ∧ runV set many b ≤ many := by
  have := run_rg set b many.toNat
  unfold runV
  omega
theorem ones_rg (set : Int) : 0 ≤ onesV set ∧ onesV set ≤ 12 := by
  refine rg_fo 12 (fun k x => 0 ≤ x ∧ x ≤ k) (by omega) (fun k x h0 h1 hx => ?_)
  have := bI_rg (hasB set k)
  unfold onesF
  omega
theorem st_rg {S : MS} (q : Int) (h : OkD (S 0)) : 0 ≤ stV S q ∧ stV S q ≤ 12 := by
  have h2 := h.1
  have := rg_fo (f := stF S q) (s := 0) (S 0 0).toNat (fun k x => 0 ≤ x ∧ x ≤ k) (by omega) (fun k x h0 h1 hx => by unfold stF; split <;> omega)
  unfold stV
  omega
