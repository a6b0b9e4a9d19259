/-! PURE ROWS: bits of whole numbers, folds -/
set_option maxRecDepth 100000
def orI (a b : Int) : Int := ((a.toNat ||| b.toNat : Nat) : Int)
def xorI (a b : Int) : Int := ((a.toNat ^^^ b.toNat : Nat) : Int)
def shI (k : Int) : Int := ((2 ^ k.toNat : Nat) : Int)
def hasB (s k : Int) : Bool := s.toNat.testBit k.toNat
theorem zI_m31 : ∀ k, k < 32 → (Int32.ofNat k &&& 31) = Int32.ofNat k := by decide +kernel
theorem zI_s32 : ∀ k, k < 32 → ((Int32.ofNat k).toBitVec.smod 32).toNat = k := by decide +kernel
theorem zI_shl {k : Int} (h : 0 ≤ k ∧ k ≤ 30) : zI 1 <<< (zI k &&& 31) = zI (shI k) := by
  obtain ⟨j, rfl⟩ := Int.eq_ofNat_of_zero_le h.1
  have hj : j ≤ 30 := by omega
  rw [zI_nI, zI_m31 j (by omega)]
  show zI ((1 : Nat) : Int) <<< _ = zI ((2 ^ (j : Int).toNat : Nat) : Int)
  rw [zI_nI, zI_nI, Int.toNat_natCast]
  have h2 : 1 * 2 ^ j < 2 ^ 32 := by
    have := Nat.pow_le_pow_right (n := 2) (by omega) hj
    omega
  have := pk_shlN (n := 1) (Int32.ofNat j) j (zI_s32 j (by omega)) h2
  rw [Nat.one_mul] at this
  exact this
theorem zI_shr {a k : Int} (ha : 0 ≤ a ∧ a < 2147483648) (h : 0 ≤ k ∧ k ≤ 31) : zI a >>> (zI k &&& 31) = zI ((a.toNat >>> k.toNat : Nat) : Int) := by
  obtain ⟨j, rfl⟩ := Int.eq_ofNat_of_zero_le h.1
  obtain ⟨b, rfl⟩ := Int.eq_ofNat_of_zero_le ha.1
  rw [zI_nI j, zI_m31 j (by omega), zI_nI, zI_nI]
  have := pk_shrN (n := b) (by omega) (Int32.ofNat j) j (zI_s32 j (by omega))
  rw [Int.toNat_natCast, Int.toNat_natCast, Nat.shiftRight_eq_div_pow]
  exact this
theorem zI_and1 {a : Int} (ha : 0 ≤ a ∧ a < 2147483648) : zI a &&& zI 1 = zI (a % 2) := by
  obtain ⟨b, rfl⟩ := Int.eq_ofNat_of_zero_le ha.1
  have e : ((b : Int) % 2) = ((b % 2 : Nat) : Int) := by omega
  rw [e, zI_nI, zI_nI]
  exact pk_andN (n := b) (m := 1) (by omega) 1 (by decide +kernel)
theorem zI_bv (n : Nat) : (zI (n : Int)).toBitVec = BitVec.ofNat 32 n := by rw [zI_nI]; rfl
theorem zI_or {a b : Int} (h : (0 ≤ a ∧ a < 2147483648) ∧ 0 ≤ b ∧ b < 2147483648) : zI a ||| zI b = zI (orI a b) := by
  obtain ⟨x, rfl⟩ := Int.eq_ofNat_of_zero_le h.1.1
  obtain ⟨y, rfl⟩ := Int.eq_ofNat_of_zero_le h.2.1
  unfold orI
  rw [Int.toNat_natCast, Int.toNat_natCast]
  apply Int32.toBitVec_inj.mp
  rw [Int32.toBitVec_or, zI_bv, zI_bv, zI_bv]
  apply BitVec.eq_of_toNat_eq
  have h1 : x ||| y < 2 ^ 32 := Nat.or_lt_two_pow (by omega) (by omega)
  rw [BitVec.toNat_or, BitVec.toNat_ofNat, BitVec.toNat_ofNat, BitVec.toNat_ofNat, Nat.mod_eq_of_lt (by omega), Nat.mod_eq_of_lt (by omega), Nat.mod_eq_of_lt h1]
theorem zI_xor {a b : Int} (h : (0 ≤ a ∧ a < 2147483648) ∧ 0 ≤ b ∧ b < 2147483648) : zI a ^^^ zI b = zI (xorI a b) := by
  obtain ⟨x, rfl⟩ := Int.eq_ofNat_of_zero_le h.1.1
  obtain ⟨y, rfl⟩ := Int.eq_ofNat_of_zero_le h.2.1
  unfold xorI
  rw [Int.toNat_natCast, Int.toNat_natCast]
  apply Int32.toBitVec_inj.mp
  rw [Int32.toBitVec_xor, zI_bv, zI_bv, zI_bv]
  apply BitVec.eq_of_toNat_eq
  have h1 : x ^^^ y < 2 ^ 32 := Nat.xor_lt_two_pow (by omega) (by omega)
  rw [BitVec.toNat_xor, BitVec.toNat_ofNat, BitVec.toNat_ofNat, BitVec.toNat_ofNat, Nat.mod_eq_of_lt (by omega), Nat.mod_eq_of_lt (by omega), Nat.mod_eq_of_lt h1]
theorem orI_lt {a b : Int} {k : Nat} (h : (0 ≤ a ∧ a < ((2 ^ k : Nat) : Int)) ∧ 0 ≤ b ∧ b < ((2 ^ k : Nat) : Int)) : 0 ≤ orI a b ∧ orI a b < ((2 ^ k : Nat) : Int) := by
  unfold orI
  have h1 : a.toNat ||| b.toNat < 2 ^ k := Nat.or_lt_two_pow (by omega) (by omega)
  omega
theorem xorI_lt {a b : Int} {k : Nat} (h : (0 ≤ a ∧ a < ((2 ^ k : Nat) : Int)) ∧ 0 ≤ b ∧ b < ((2 ^ k : Nat) : Int)) : 0 ≤ xorI a b ∧ xorI a b < ((2 ^ k : Nat) : Int) := by
  unfold xorI
  have h1 : a.toNat ^^^ b.toNat < 2 ^ k := Nat.xor_lt_two_pow (by omega) (by omega)
  omega
theorem shI_lt {i : Int} {k : Nat} (h : 0 ≤ i ∧ i < k) : 0 ≤ shI i ∧ shI i < ((2 ^ k : Nat) : Int) := by
  unfold shI
  have := Nat.pow_lt_pow_right (a := 2) (by omega) (show i.toNat < k by omega)
  have := Nat.two_pow_pos i.toNat
  omega
theorem shI_30 {i : Int} (h : 0 ≤ i ∧ i ≤ 30) : 0 ≤ shI i ∧ shI i < 2147483648 := by
  have := shI_lt (i := i) (k := 31) (by omega)
  have e : ((2 ^ 31 : Nat) : Int) = 2147483648 := by decide
  omega
/-- one bit: what '(set >> k & 1)' is -/
theorem hasB_mod {s k : Int} (hs : 0 ≤ s) (hk : 0 ≤ k) : (((s.toNat >>> k.toNat : Nat) : Int)) % 2 = bI (hasB s k) := by
  unfold hasB bI
  rw [Nat.testBit_eq_decide_div_mod_eq, Nat.shiftRight_eq_div_pow]
  by_cases h : s.toNat / 2 ^ k.toNat % 2 = 1
  · rw [if_pos (by simpa using h)]; omega
  · rw [if_neg (by simpa using h)]; omega
/-- folds: 'for k < n' -/
def fo {σ : Type} (f : Int → σ → σ) (s : σ) : Nat → σ
  | 0 => s
  | n + 1 => f (n : Int) (fo f s n)
theorem fo_s {σ : Type} {f : Int → σ → σ} {s : σ} {k : Int} (h : 0 ≤ k) : fo f s (k + 1).toNat = f k (fo f s k.toNat) := by
  have e : (k + 1).toNat = k.toNat + 1 := by omega
  rw [e]
  show f ((k.toNat : Nat) : Int) _ = _
  rw [Int.toNat_of_nonneg h]
theorem fo_ind {σ : Type} {f : Int → σ → σ} {s : σ} (I : Int → σ → Prop) (h0 : I 0 s) (hs : ∀ k x, 0 ≤ k → I k x → I (k + 1) (f k x)) : ∀ n : Nat, I n (fo f s n) := by
  intro n
  induction n with
  | zero => exact h0
  | succ n ih => exact hs n _ (by omega) ih
theorem shr_rg {a b : Int} (h : 0 ≤ a ∧ a < 2147483648) : 0 ≤ ((a.toNat >>> b.toNat : Nat) : Int) ∧ ((a.toNat >>> b.toNat : Nat) : Int) < 2147483648 := by
  rw [Nat.shiftRight_eq_div_pow]
  have := Nat.div_le_self a.toNat (2 ^ b.toNat)
  have h2 : ((a.toNat / 2 ^ b.toNat : Nat) : Int) ≤ (a.toNat : Int) := Int.ofNat_le.mpr this
  exact ⟨Int.natCast_nonneg _, by omega⟩
