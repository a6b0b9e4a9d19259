/-! THE REFERENCE: its object at m, its ten arrays behind it; its state S by number (0 row, 1 crosses, 2 isKept, 3 text, 4 sizes, 5 threads, 6 read, 7 numbers, 8 words, 9 ties, 10 the scalars: rows columns undos length first behind clauses doing) -/
set_option maxRecDepth 100000
abbrev MS : Type := Nat → Int → Int
def us (S : MS) (a : Nat) (i v : Int) : MS := fun b => if b = a then uI (S a) i v else S b
theorem us_s (S : MS) (a : Nat) (i v : Int) : us S a i v a = uI (S a) i v := by simp [us]
theorem us_n (S : MS) {a b : Nat} (i v : Int) (h : b ≠ a) : us S a i v b = S b := by simp [us, h]
theorem us_eq (S : MS) (a b : Nat) (i v j : Int) : us S a i v b j = if b = a ∧ j = i then v else S b j := by
  unfold us uI
  by_cases h : b = a
  · subst h; simp
  · simp [h]
def mO (m : Nat) (S : MS) : List Value := [.ref (m + 1), .ref (m + 2), vI (S 10 0), vI (S 10 1), vI (S 10 2), .ref (m + 3), .ref (m + 4), vI (S 10 3), .ref (m + 5), .ref (m + 6), vI (S 10 4), vI (S 10 5), .ref (m + 7), vI (S 10 6), vI (S 10 7), .ref (m + 8), .ref (m + 9), .ref (m + 10)]
def mcell (dA : Nat → ClassId) (m : Nat) (S : MS) : Nat → Option va_E
  | 0 => some (gO 4 (mO m S))
  | 1 => some (gI (dA 0) 638 (S 0))
  | 2 => some (gI (dA 0) 12 (S 1))
  | 3 => some (gI (dA 2) 2 (S 2))
  | 4 => some (gI (dA 0) 200 (S 3))
  | 5 => some (gI (dA 0) 3 (S 4))
  | 6 => some (gI (dA 0) 24 (S 5))
  | 7 => some (gI (dA 0) 6 (S 6))
  | 8 => some (gI (dA 0) 4 (S 7))
  | 9 => some (gI (dA 0) 40 (S 8))
  | 10 => some (gI (dA 0) 6 (S 9))
  | _ => none
def ovM (dA : Nat → ClassId) (m : Nat) (S : MS) (h : gH) : gH := fun q => if m ≤ q ∧ q < m + 11 then mcell dA m S (q - m) else h q
theorem ovM_at (dA : Nat → ClassId) (m : Nat) (S : MS) (h : gH) (i : Nat) (hi : i < 11) : ovM dA m S h (m + i) = mcell dA m S i := by
  unfold ovM
  rw [if_pos (by omega), Nat.add_sub_cancel_left]
theorem ovM_off (dA : Nat → ClassId) (m : Nat) (S : MS) (h : gH) {q : Nat} (hq : q < m ∨ m + 11 ≤ q) : ovM dA m S h q = h q := by
  unfold ovM
  rw [if_neg (by omega)]
theorem ovM_0 (dA : Nat → ClassId) (m : Nat) (S : MS) (h : gH) : ovM dA m S h m = some (gO 4 (mO m S)) := ovM_at dA m S h 0 (by omega)
theorem ovM_1 (dA : Nat → ClassId) (m : Nat) (S : MS) (h : gH) : ovM dA m S h (m + 1) = some (gI (dA 0) 638 (S 0)) := ovM_at dA m S h 1 (by omega)
theorem ovM_2 (dA : Nat → ClassId) (m : Nat) (S : MS) (h : gH) : ovM dA m S h (m + 2) = some (gI (dA 0) 12 (S 1)) := ovM_at dA m S h 2 (by omega)
theorem ovM_3 (dA : Nat → ClassId) (m : Nat) (S : MS) (h : gH) : ovM dA m S h (m + 3) = some (gI (dA 2) 2 (S 2)) := ovM_at dA m S h 3 (by omega)
theorem ovM_4 (dA : Nat → ClassId) (m : Nat) (S : MS) (h : gH) : ovM dA m S h (m + 4) = some (gI (dA 0) 200 (S 3)) := ovM_at dA m S h 4 (by omega)
theorem ovM_5 (dA : Nat → ClassId) (m : Nat) (S : MS) (h : gH) : ovM dA m S h (m + 5) = some (gI (dA 0) 3 (S 4)) := ovM_at dA m S h 5 (by omega)
theorem ovM_6 (dA : Nat → ClassId) (m : Nat) (S : MS) (h : gH) : ovM dA m S h (m + 6) = some (gI (dA 0) 24 (S 5)) := ovM_at dA m S h 6 (by omega)
theorem ovM_7 (dA : Nat → ClassId) (m : Nat) (S : MS) (h : gH) : ovM dA m S h (m + 7) = some (gI (dA 0) 6 (S 6)) := ovM_at dA m S h 7 (by omega)
theorem ovM_8 (dA : Nat → ClassId) (m : Nat) (S : MS) (h : gH) : ovM dA m S h (m + 8) = some (gI (dA 0) 4 (S 7)) := ovM_at dA m S h 8 (by omega)
theorem ovM_9 (dA : Nat → ClassId) (m : Nat) (S : MS) (h : gH) : ovM dA m S h (m + 9) = some (gI (dA 0) 40 (S 8)) := ovM_at dA m S h 9 (by omega)
theorem ovM_10 (dA : Nat → ClassId) (m : Nat) (S : MS) (h : gH) : ovM dA m S h (m + 10) = some (gI (dA 0) 6 (S 9)) := ovM_at dA m S h 10 (by omega)
theorem ovM_up (dA : Nat → ClassId) (m : Nat) (S S' : MS) (h : gH) (i : Nat) (x : va_E) (hi : i < 11) (h1 : mcell dA m S' i = some x) (h2 : ∀ j, j < 11 → j ≠ i → mcell dA m S' j = mcell dA m S j) : gup (ovM dA m S h) (m + i) x = ovM dA m S' h := by
  funext q
  by_cases hq : q = m + i
  · subst hq
    rw [gup_s, ovM_at dA m S' h i hi, h1]
  · rw [gup_n _ _ hq]
    unfold ovM
    by_cases hr : m ≤ q ∧ q < m + 11
    · rw [if_pos hr, if_pos hr]
      exact (h2 (q - m) (by omega) (by omega)).symm
    · rw [if_neg hr, if_neg hr]
theorem lt11 {P : Nat → Prop} (h0 : P 0) (h1 : P 1) (h2 : P 2) (h3 : P 3) (h4 : P 4) (h5 : P 5) (h6 : P 6) (h7 : P 7) (h8 : P 8) (h9 : P 9) (h10 : P 10) : ∀ j, j < 11 → P j := by
  intro j hj
  match j, hj with
  | 0, _ => exact h0
  | 1, _ => exact h1
  | 2, _ => exact h2
  | 3, _ => exact h3
  | 4, _ => exact h4
  | 5, _ => exact h5
  | 6, _ => exact h6
  | 7, _ => exact h7
  | 8, _ => exact h8
  | 9, _ => exact h9
  | 10, _ => exact h10
theorem ovM_w0 (dA : Nat → ClassId) (m : Nat) (S : MS) (h : gH) (i v : Int) : gup (ovM dA m S h) (m + 1) (gI (dA 0) 638 (uI (S 0) i v)) = ovM dA m (us S 0 i v) h :=
  ovM_up dA m S (us S 0 i v) h 1 _ (by omega) rfl (lt11 (fun _ => rfl) (fun z => absurd rfl z) (fun _ => rfl) (fun _ => rfl) (fun _ => rfl) (fun _ => rfl) (fun _ => rfl) (fun _ => rfl) (fun _ => rfl) (fun _ => rfl) (fun _ => rfl))
theorem ovM_w1 (dA : Nat → ClassId) (m : Nat) (S : MS) (h : gH) (i v : Int) : gup (ovM dA m S h) (m + 2) (gI (dA 0) 12 (uI (S 1) i v)) = ovM dA m (us S 1 i v) h :=
  ovM_up dA m S (us S 1 i v) h 2 _ (by omega) rfl (lt11 (fun _ => rfl) (fun _ => rfl) (fun z => absurd rfl z) (fun _ => rfl) (fun _ => rfl) (fun _ => rfl) (fun _ => rfl) (fun _ => rfl) (fun _ => rfl) (fun _ => rfl) (fun _ => rfl))
theorem ovM_w2 (dA : Nat → ClassId) (m : Nat) (S : MS) (h : gH) (i v : Int) : gup (ovM dA m S h) (m + 3) (gI (dA 2) 2 (uI (S 2) i v)) = ovM dA m (us S 2 i v) h :=
  ovM_up dA m S (us S 2 i v) h 3 _ (by omega) rfl (lt11 (fun _ => rfl) (fun _ => rfl) (fun _ => rfl) (fun z => absurd rfl z) (fun _ => rfl) (fun _ => rfl) (fun _ => rfl) (fun _ => rfl) (fun _ => rfl) (fun _ => rfl) (fun _ => rfl))
theorem ovM_w3 (dA : Nat → ClassId) (m : Nat) (S : MS) (h : gH) (i v : Int) : gup (ovM dA m S h) (m + 4) (gI (dA 0) 200 (uI (S 3) i v)) = ovM dA m (us S 3 i v) h :=
  ovM_up dA m S (us S 3 i v) h 4 _ (by omega) rfl (lt11 (fun _ => rfl) (fun _ => rfl) (fun _ => rfl) (fun _ => rfl) (fun z => absurd rfl z) (fun _ => rfl) (fun _ => rfl) (fun _ => rfl) (fun _ => rfl) (fun _ => rfl) (fun _ => rfl))
theorem ovM_w4 (dA : Nat → ClassId) (m : Nat) (S : MS) (h : gH) (i v : Int) : gup (ovM dA m S h) (m + 5) (gI (dA 0) 3 (uI (S 4) i v)) = ovM dA m (us S 4 i v) h :=
  ovM_up dA m S (us S 4 i v) h 5 _ (by omega) rfl (lt11 (fun _ => rfl) (fun _ => rfl) (fun _ => rfl) (fun _ => rfl) (fun _ => rfl) (fun z => absurd rfl z) (fun _ => rfl) (fun _ => rfl) (fun _ => rfl) (fun _ => rfl) (fun _ => rfl))
theorem ovM_w5 (dA : Nat → ClassId) (m : Nat) (S : MS) (h : gH) (i v : Int) : gup (ovM dA m S h) (m + 6) (gI (dA 0) 24 (uI (S 5) i v)) = ovM dA m (us S 5 i v) h :=
  ovM_up dA m S (us S 5 i v) h 6 _ (by omega) rfl (lt11 (fun _ => rfl) (fun _ => rfl) (fun _ => rfl) (fun _ => rfl) (fun _ => rfl) (fun _ => rfl) (fun z => absurd rfl z) (fun _ => rfl) (fun _ => rfl) (fun _ => rfl) (fun _ => rfl))
theorem ovM_w6 (dA : Nat → ClassId) (m : Nat) (S : MS) (h : gH) (i v : Int) : gup (ovM dA m S h) (m + 7) (gI (dA 0) 6 (uI (S 6) i v)) = ovM dA m (us S 6 i v) h :=
  ovM_up dA m S (us S 6 i v) h 7 _ (by omega) rfl (lt11 (fun _ => rfl) (fun _ => rfl) (fun _ => rfl) (fun _ => rfl) (fun _ => rfl) (fun _ => rfl) (fun _ => rfl) (fun z => absurd rfl z) (fun _ => rfl) (fun _ => rfl) (fun _ => rfl))
theorem ovM_w7 (dA : Nat → ClassId) (m : Nat) (S : MS) (h : gH) (i v : Int) : gup (ovM dA m S h) (m + 8) (gI (dA 0) 4 (uI (S 7) i v)) = ovM dA m (us S 7 i v) h :=
  ovM_up dA m S (us S 7 i v) h 8 _ (by omega) rfl (lt11 (fun _ => rfl) (fun _ => rfl) (fun _ => rfl) (fun _ => rfl) (fun _ => rfl) (fun _ => rfl) (fun _ => rfl) (fun _ => rfl) (fun z => absurd rfl z) (fun _ => rfl) (fun _ => rfl))
theorem ovM_w8 (dA : Nat → ClassId) (m : Nat) (S : MS) (h : gH) (i v : Int) : gup (ovM dA m S h) (m + 9) (gI (dA 0) 40 (uI (S 8) i v)) = ovM dA m (us S 8 i v) h :=
  ovM_up dA m S (us S 8 i v) h 9 _ (by omega) rfl (lt11 (fun _ => rfl) (fun _ => rfl) (fun _ => rfl) (fun _ => rfl) (fun _ => rfl) (fun _ => rfl) (fun _ => rfl) (fun _ => rfl) (fun _ => rfl) (fun z => absurd rfl z) (fun _ => rfl))
theorem ovM_w9 (dA : Nat → ClassId) (m : Nat) (S : MS) (h : gH) (i v : Int) : gup (ovM dA m S h) (m + 10) (gI (dA 0) 6 (uI (S 9) i v)) = ovM dA m (us S 9 i v) h :=
  ovM_up dA m S (us S 9 i v) h 10 _ (by omega) rfl (lt11 (fun _ => rfl) (fun _ => rfl) (fun _ => rfl) (fun _ => rfl) (fun _ => rfl) (fun _ => rfl) (fun _ => rfl) (fun _ => rfl) (fun _ => rfl) (fun _ => rfl) (fun z => absurd rfl z))
theorem ovM_f2 (dA : Nat → ClassId) (m : Nat) (S : MS) (h : gH) (v : Int) : gup (ovM dA m S h) m (gO 4 ((mO m S).set 2 (vI v))) = ovM dA m (us S 10 0 v) h :=
  ovM_up dA m S (us S 10 0 v) h 0 _ (by omega) rfl (lt11 (fun z => absurd rfl z) (fun _ => rfl) (fun _ => rfl) (fun _ => rfl) (fun _ => rfl) (fun _ => rfl) (fun _ => rfl) (fun _ => rfl) (fun _ => rfl) (fun _ => rfl) (fun _ => rfl))
theorem ovM_f3 (dA : Nat → ClassId) (m : Nat) (S : MS) (h : gH) (v : Int) : gup (ovM dA m S h) m (gO 4 ((mO m S).set 3 (vI v))) = ovM dA m (us S 10 1 v) h :=
  ovM_up dA m S (us S 10 1 v) h 0 _ (by omega) rfl (lt11 (fun z => absurd rfl z) (fun _ => rfl) (fun _ => rfl) (fun _ => rfl) (fun _ => rfl) (fun _ => rfl) (fun _ => rfl) (fun _ => rfl) (fun _ => rfl) (fun _ => rfl) (fun _ => rfl))
theorem ovM_f4 (dA : Nat → ClassId) (m : Nat) (S : MS) (h : gH) (v : Int) : gup (ovM dA m S h) m (gO 4 ((mO m S).set 4 (vI v))) = ovM dA m (us S 10 2 v) h :=
  ovM_up dA m S (us S 10 2 v) h 0 _ (by omega) rfl (lt11 (fun z => absurd rfl z) (fun _ => rfl) (fun _ => rfl) (fun _ => rfl) (fun _ => rfl) (fun _ => rfl) (fun _ => rfl) (fun _ => rfl) (fun _ => rfl) (fun _ => rfl) (fun _ => rfl))
theorem ovM_f7 (dA : Nat → ClassId) (m : Nat) (S : MS) (h : gH) (v : Int) : gup (ovM dA m S h) m (gO 4 ((mO m S).set 7 (vI v))) = ovM dA m (us S 10 3 v) h :=
  ovM_up dA m S (us S 10 3 v) h 0 _ (by omega) rfl (lt11 (fun z => absurd rfl z) (fun _ => rfl) (fun _ => rfl) (fun _ => rfl) (fun _ => rfl) (fun _ => rfl) (fun _ => rfl) (fun _ => rfl) (fun _ => rfl) (fun _ => rfl) (fun _ => rfl))
theorem ovM_f10 (dA : Nat → ClassId) (m : Nat) (S : MS) (h : gH) (v : Int) : gup (ovM dA m S h) m (gO 4 ((mO m S).set 10 (vI v))) = ovM dA m (us S 10 4 v) h :=
  ovM_up dA m S (us S 10 4 v) h 0 _ (by omega) rfl (lt11 (fun z => absurd rfl z) (fun _ => rfl) (fun _ => rfl) (fun _ => rfl) (fun _ => rfl) (fun _ => rfl) (fun _ => rfl) (fun _ => rfl) (fun _ => rfl) (fun _ => rfl) (fun _ => rfl))
theorem ovM_f11 (dA : Nat → ClassId) (m : Nat) (S : MS) (h : gH) (v : Int) : gup (ovM dA m S h) m (gO 4 ((mO m S).set 11 (vI v))) = ovM dA m (us S 10 5 v) h :=
  ovM_up dA m S (us S 10 5 v) h 0 _ (by omega) rfl (lt11 (fun z => absurd rfl z) (fun _ => rfl) (fun _ => rfl) (fun _ => rfl) (fun _ => rfl) (fun _ => rfl) (fun _ => rfl) (fun _ => rfl) (fun _ => rfl) (fun _ => rfl) (fun _ => rfl))
theorem ovM_f13 (dA : Nat → ClassId) (m : Nat) (S : MS) (h : gH) (v : Int) : gup (ovM dA m S h) m (gO 4 ((mO m S).set 13 (vI v))) = ovM dA m (us S 10 6 v) h :=
  ovM_up dA m S (us S 10 6 v) h 0 _ (by omega) rfl (lt11 (fun z => absurd rfl z) (fun _ => rfl) (fun _ => rfl) (fun _ => rfl) (fun _ => rfl) (fun _ => rfl) (fun _ => rfl) (fun _ => rfl) (fun _ => rfl) (fun _ => rfl) (fun _ => rfl))
theorem ovM_f14 (dA : Nat → ClassId) (m : Nat) (S : MS) (h : gH) (v : Int) : gup (ovM dA m S h) m (gO 4 ((mO m S).set 14 (vI v))) = ovM dA m (us S 10 7 v) h :=
  ovM_up dA m S (us S 10 7 v) h 0 _ (by omega) rfl (lt11 (fun z => absurd rfl z) (fun _ => rfl) (fun _ => rfl) (fun _ => rfl) (fun _ => rfl) (fun _ => rfl) (fun _ => rfl) (fun _ => rfl) (fun _ => rfl) (fun _ => rfl) (fun _ => rfl))
section MR
variable {X : gX} {cc : ByteArray} {own nm : String} {nL : Nat} {ret : Option FieldType} {D : va_G} {dA : Nat → ClassId} {N0 : Nat} {Y : State → Prop} {R : Room}
variable {k n m : Nat} {S : MS} {h : gH} {sz pc : Nat} {L : List (Option Value)} {st : List Value}
theorem M_get (C : gC X cc own nm nL ret D dA N0 Y R) (f : Nat) (hf : f < 18) {i : Nat} (hl : Cond.fieldLink own i RX5 (TX5 f).2.1 (TX5 f).2.2.1 ∈ lw_all) (hr : (TX5 f).1 = RX5) {v : Value} (hv : (mO m S)[f]? = some v) (hdg : decode cc pc = .ok (.getfield i, 3)) (kk : G X k n (ovM dA m S h) sz (pc + 3) L (v :: st)) : G X k n (ovM dA m S h) sz pc L (.ref m :: st) :=
  g_get C (ovM_0 dA m S h) rfl in_X5 f hf hl (Or.inl hr.symm) hv hdg kk
theorem M_g_row (C : gC X cc own nm nL ret D dA N0 Y R) {i : Nat} (hl : Cond.fieldLink own i "WeaveDraftModel" "row" "[I" ∈ lw_all) (hdg : decode cc pc = .ok (.getfield i, 3)) (kk : G X k n (ovM dA m S h) sz (pc + 3) L (.ref (m + 1) :: st)) : G X k n (ovM dA m S h) sz pc L (.ref m :: st) :=
  M_get C 0 (by decide) hl rfl rfl hdg kk
theorem M_g_crosses (C : gC X cc own nm nL ret D dA N0 Y R) {i : Nat} (hl : Cond.fieldLink own i "WeaveDraftModel" "crosses" "[I" ∈ lw_all) (hdg : decode cc pc = .ok (.getfield i, 3)) (kk : G X k n (ovM dA m S h) sz (pc + 3) L (.ref (m + 2) :: st)) : G X k n (ovM dA m S h) sz pc L (.ref m :: st) :=
  M_get C 1 (by decide) hl rfl rfl hdg kk
theorem M_g_rows (C : gC X cc own nm nL ret D dA N0 Y R) {i : Nat} (hl : Cond.fieldLink own i "WeaveDraftModel" "rows" "I" ∈ lw_all) (hdg : decode cc pc = .ok (.getfield i, 3)) (kk : G X k n (ovM dA m S h) sz (pc + 3) L (vI (S 10 0) :: st)) : G X k n (ovM dA m S h) sz pc L (.ref m :: st) :=
  M_get C 2 (by decide) hl rfl rfl hdg kk
theorem M_g_columns (C : gC X cc own nm nL ret D dA N0 Y R) {i : Nat} (hl : Cond.fieldLink own i "WeaveDraftModel" "columns" "I" ∈ lw_all) (hdg : decode cc pc = .ok (.getfield i, 3)) (kk : G X k n (ovM dA m S h) sz (pc + 3) L (vI (S 10 1) :: st)) : G X k n (ovM dA m S h) sz pc L (.ref m :: st) :=
  M_get C 3 (by decide) hl rfl rfl hdg kk
theorem M_g_undos (C : gC X cc own nm nL ret D dA N0 Y R) {i : Nat} (hl : Cond.fieldLink own i "WeaveDraftModel" "undos" "I" ∈ lw_all) (hdg : decode cc pc = .ok (.getfield i, 3)) (kk : G X k n (ovM dA m S h) sz (pc + 3) L (vI (S 10 2) :: st)) : G X k n (ovM dA m S h) sz pc L (.ref m :: st) :=
  M_get C 4 (by decide) hl rfl rfl hdg kk
theorem M_g_isKept (C : gC X cc own nm nL ret D dA N0 Y R) {i : Nat} (hl : Cond.fieldLink own i "WeaveDraftModel" "isKept" "[Z" ∈ lw_all) (hdg : decode cc pc = .ok (.getfield i, 3)) (kk : G X k n (ovM dA m S h) sz (pc + 3) L (.ref (m + 3) :: st)) : G X k n (ovM dA m S h) sz pc L (.ref m :: st) :=
  M_get C 5 (by decide) hl rfl rfl hdg kk
theorem M_g_text (C : gC X cc own nm nL ret D dA N0 Y R) {i : Nat} (hl : Cond.fieldLink own i "WeaveDraftModel" "text" "[I" ∈ lw_all) (hdg : decode cc pc = .ok (.getfield i, 3)) (kk : G X k n (ovM dA m S h) sz (pc + 3) L (.ref (m + 4) :: st)) : G X k n (ovM dA m S h) sz pc L (.ref m :: st) :=
  M_get C 6 (by decide) hl rfl rfl hdg kk
theorem M_g_length (C : gC X cc own nm nL ret D dA N0 Y R) {i : Nat} (hl : Cond.fieldLink own i "WeaveDraftModel" "length" "I" ∈ lw_all) (hdg : decode cc pc = .ok (.getfield i, 3)) (kk : G X k n (ovM dA m S h) sz (pc + 3) L (vI (S 10 3) :: st)) : G X k n (ovM dA m S h) sz pc L (.ref m :: st) :=
  M_get C 7 (by decide) hl rfl rfl hdg kk
theorem M_g_sizes (C : gC X cc own nm nL ret D dA N0 Y R) {i : Nat} (hl : Cond.fieldLink own i "WeaveDraftModel" "sizes" "[I" ∈ lw_all) (hdg : decode cc pc = .ok (.getfield i, 3)) (kk : G X k n (ovM dA m S h) sz (pc + 3) L (.ref (m + 5) :: st)) : G X k n (ovM dA m S h) sz pc L (.ref m :: st) :=
  M_get C 8 (by decide) hl rfl rfl hdg kk
theorem M_g_threads (C : gC X cc own nm nL ret D dA N0 Y R) {i : Nat} (hl : Cond.fieldLink own i "WeaveDraftModel" "threads" "[I" ∈ lw_all) (hdg : decode cc pc = .ok (.getfield i, 3)) (kk : G X k n (ovM dA m S h) sz (pc + 3) L (.ref (m + 6) :: st)) : G X k n (ovM dA m S h) sz pc L (.ref m :: st) :=
  M_get C 9 (by decide) hl rfl rfl hdg kk
theorem M_g_first (C : gC X cc own nm nL ret D dA N0 Y R) {i : Nat} (hl : Cond.fieldLink own i "WeaveDraftModel" "first" "I" ∈ lw_all) (hdg : decode cc pc = .ok (.getfield i, 3)) (kk : G X k n (ovM dA m S h) sz (pc + 3) L (vI (S 10 4) :: st)) : G X k n (ovM dA m S h) sz pc L (.ref m :: st) :=
  M_get C 10 (by decide) hl rfl rfl hdg kk
theorem M_g_behind (C : gC X cc own nm nL ret D dA N0 Y R) {i : Nat} (hl : Cond.fieldLink own i "WeaveDraftModel" "behind" "I" ∈ lw_all) (hdg : decode cc pc = .ok (.getfield i, 3)) (kk : G X k n (ovM dA m S h) sz (pc + 3) L (vI (S 10 5) :: st)) : G X k n (ovM dA m S h) sz pc L (.ref m :: st) :=
  M_get C 11 (by decide) hl rfl rfl hdg kk
theorem M_g_read (C : gC X cc own nm nL ret D dA N0 Y R) {i : Nat} (hl : Cond.fieldLink own i "WeaveDraftModel" "read" "[I" ∈ lw_all) (hdg : decode cc pc = .ok (.getfield i, 3)) (kk : G X k n (ovM dA m S h) sz (pc + 3) L (.ref (m + 7) :: st)) : G X k n (ovM dA m S h) sz pc L (.ref m :: st) :=
  M_get C 12 (by decide) hl rfl rfl hdg kk
theorem M_g_clauses (C : gC X cc own nm nL ret D dA N0 Y R) {i : Nat} (hl : Cond.fieldLink own i "WeaveDraftModel" "clauses" "I" ∈ lw_all) (hdg : decode cc pc = .ok (.getfield i, 3)) (kk : G X k n (ovM dA m S h) sz (pc + 3) L (vI (S 10 6) :: st)) : G X k n (ovM dA m S h) sz pc L (.ref m :: st) :=
  M_get C 13 (by decide) hl rfl rfl hdg kk
theorem M_g_doing (C : gC X cc own nm nL ret D dA N0 Y R) {i : Nat} (hl : Cond.fieldLink own i "WeaveDraftModel" "doing" "Z" ∈ lw_all) (hdg : decode cc pc = .ok (.getfield i, 3)) (kk : G X k n (ovM dA m S h) sz (pc + 3) L (vI (S 10 7) :: st)) : G X k n (ovM dA m S h) sz pc L (.ref m :: st) :=
  M_get C 14 (by decide) hl rfl rfl hdg kk
theorem M_g_numbers (C : gC X cc own nm nL ret D dA N0 Y R) {i : Nat} (hl : Cond.fieldLink own i "WeaveDraftModel" "numbers" "[I" ∈ lw_all) (hdg : decode cc pc = .ok (.getfield i, 3)) (kk : G X k n (ovM dA m S h) sz (pc + 3) L (.ref (m + 8) :: st)) : G X k n (ovM dA m S h) sz pc L (.ref m :: st) :=
  M_get C 15 (by decide) hl rfl rfl hdg kk
theorem M_g_words (C : gC X cc own nm nL ret D dA N0 Y R) {i : Nat} (hl : Cond.fieldLink own i "WeaveDraftModel" "words" "[I" ∈ lw_all) (hdg : decode cc pc = .ok (.getfield i, 3)) (kk : G X k n (ovM dA m S h) sz (pc + 3) L (.ref (m + 9) :: st)) : G X k n (ovM dA m S h) sz pc L (.ref m :: st) :=
  M_get C 16 (by decide) hl rfl rfl hdg kk
theorem M_g_ties (C : gC X cc own nm nL ret D dA N0 Y R) {i : Nat} (hl : Cond.fieldLink own i "WeaveDraftModel" "ties" "[I" ∈ lw_all) (hdg : decode cc pc = .ok (.getfield i, 3)) (kk : G X k n (ovM dA m S h) sz (pc + 3) L (.ref (m + 10) :: st)) : G X k n (ovM dA m S h) sz pc L (.ref m :: st) :=
  M_get C 17 (by decide) hl rfl rfl hdg kk
theorem M_p_rows (C : gC X cc own nm nL ret D dA N0 Y R) {i : Nat} {v : Int} (hl : Cond.fieldLink own i "WeaveDraftModel" "rows" "I" ∈ lw_all) (hdg : decode cc pc = .ok (.putfield i, 3)) (kk : G X k n (ovM dA m (us S 10 0 v) h) sz (pc + 3) L st) : G X k n (ovM dA m S h) sz pc L (vI v :: .ref m :: st) := by
  refine g_put C (ovM_0 dA m S h) rfl in_X5 2 (by decide) tyX5 tyX5_ok nmX5 hl (Or.inl rfl) rfl rfl rfl (Nat.le_of_ble_eq_true rfl) hdg ?_
  rw [ovM_f2]
  exact kk
theorem M_p_columns (C : gC X cc own nm nL ret D dA N0 Y R) {i : Nat} {v : Int} (hl : Cond.fieldLink own i "WeaveDraftModel" "columns" "I" ∈ lw_all) (hdg : decode cc pc = .ok (.putfield i, 3)) (kk : G X k n (ovM dA m (us S 10 1 v) h) sz (pc + 3) L st) : G X k n (ovM dA m S h) sz pc L (vI v :: .ref m :: st) := by
  refine g_put C (ovM_0 dA m S h) rfl in_X5 3 (by decide) tyX5 tyX5_ok nmX5 hl (Or.inl rfl) rfl rfl rfl (Nat.le_of_ble_eq_true rfl) hdg ?_
  rw [ovM_f3]
  exact kk
theorem M_p_undos (C : gC X cc own nm nL ret D dA N0 Y R) {i : Nat} {v : Int} (hl : Cond.fieldLink own i "WeaveDraftModel" "undos" "I" ∈ lw_all) (hdg : decode cc pc = .ok (.putfield i, 3)) (kk : G X k n (ovM dA m (us S 10 2 v) h) sz (pc + 3) L st) : G X k n (ovM dA m S h) sz pc L (vI v :: .ref m :: st) := by
  refine g_put C (ovM_0 dA m S h) rfl in_X5 4 (by decide) tyX5 tyX5_ok nmX5 hl (Or.inl rfl) rfl rfl rfl (Nat.le_of_ble_eq_true rfl) hdg ?_
  rw [ovM_f4]
  exact kk
theorem M_p_length (C : gC X cc own nm nL ret D dA N0 Y R) {i : Nat} {v : Int} (hl : Cond.fieldLink own i "WeaveDraftModel" "length" "I" ∈ lw_all) (hdg : decode cc pc = .ok (.putfield i, 3)) (kk : G X k n (ovM dA m (us S 10 3 v) h) sz (pc + 3) L st) : G X k n (ovM dA m S h) sz pc L (vI v :: .ref m :: st) := by
  refine g_put C (ovM_0 dA m S h) rfl in_X5 7 (by decide) tyX5 tyX5_ok nmX5 hl (Or.inl rfl) rfl rfl rfl (Nat.le_of_ble_eq_true rfl) hdg ?_
  rw [ovM_f7]
  exact kk
theorem M_p_first (C : gC X cc own nm nL ret D dA N0 Y R) {i : Nat} {v : Int} (hl : Cond.fieldLink own i "WeaveDraftModel" "first" "I" ∈ lw_all) (hdg : decode cc pc = .ok (.putfield i, 3)) (kk : G X k n (ovM dA m (us S 10 4 v) h) sz (pc + 3) L st) : G X k n (ovM dA m S h) sz pc L (vI v :: .ref m :: st) := by
  refine g_put C (ovM_0 dA m S h) rfl in_X5 10 (by decide) tyX5 tyX5_ok nmX5 hl (Or.inl rfl) rfl rfl rfl (Nat.le_of_ble_eq_true rfl) hdg ?_
  rw [ovM_f10]
  exact kk
theorem M_p_behind (C : gC X cc own nm nL ret D dA N0 Y R) {i : Nat} {v : Int} (hl : Cond.fieldLink own i "WeaveDraftModel" "behind" "I" ∈ lw_all) (hdg : decode cc pc = .ok (.putfield i, 3)) (kk : G X k n (ovM dA m (us S 10 5 v) h) sz (pc + 3) L st) : G X k n (ovM dA m S h) sz pc L (vI v :: .ref m :: st) := by
  refine g_put C (ovM_0 dA m S h) rfl in_X5 11 (by decide) tyX5 tyX5_ok nmX5 hl (Or.inl rfl) rfl rfl rfl (Nat.le_of_ble_eq_true rfl) hdg ?_
  rw [ovM_f11]
  exact kk
theorem M_p_clauses (C : gC X cc own nm nL ret D dA N0 Y R) {i : Nat} {v : Int} (hl : Cond.fieldLink own i "WeaveDraftModel" "clauses" "I" ∈ lw_all) (hdg : decode cc pc = .ok (.putfield i, 3)) (kk : G X k n (ovM dA m (us S 10 6 v) h) sz (pc + 3) L st) : G X k n (ovM dA m S h) sz pc L (vI v :: .ref m :: st) := by
  refine g_put C (ovM_0 dA m S h) rfl in_X5 13 (by decide) tyX5 tyX5_ok nmX5 hl (Or.inl rfl) rfl rfl rfl (Nat.le_of_ble_eq_true rfl) hdg ?_
  rw [ovM_f13]
  exact kk
theorem M_p_doing (C : gC X cc own nm nL ret D dA N0 Y R) {i : Nat} {v : Int} (hb : v = 0 ∨ v = 1) (hl : Cond.fieldLink own i "WeaveDraftModel" "doing" "Z" ∈ lw_all) (hdg : decode cc pc = .ok (.putfield i, 3)) (kk : G X k n (ovM dA m (us S 10 7 v) h) sz (pc + 3) L st) : G X k n (ovM dA m S h) sz pc L (vI v :: .ref m :: st) := by
  refine g_put C (ovM_0 dA m S h) rfl in_X5 14 (by decide) tyX5 tyX5_ok nmX5 hl (Or.inl rfl) rfl (by rcases hb with rfl | rfl <;> decide +kernel) (by rcases hb with rfl | rfl <;> decide +kernel) (Nat.le_of_ble_eq_true rfl) hdg ?_
  rw [ovM_f14]
  exact kk
theorem M_ld_row (C : gC X cc own nm nL ret D dA N0 Y R) {i : Int} (hi : 0 ≤ i ∧ i < 638) (hdg : decode cc pc = .ok (.iaload, 1)) (kk : G X k n (ovM dA m S h) sz (pc + 1) L (vI (S 0 i) :: st)) : G X k n (ovM dA m S h) sz pc L (vI i :: .ref (m + 1) :: st) :=
  g_iald C (ovM_1 dA m S h) (by omega) hdg kk
theorem M_st_row (C : gC X cc own nm nL ret D dA N0 Y R) {i v : Int} (hi : 0 ≤ i ∧ i < 638) (hdg : decode cc pc = .ok (.iastore, 1)) (kk : G X k n (ovM dA m (us S 0 i v) h) sz (pc + 1) L st) : G X k n (ovM dA m S h) sz pc L (vI v :: vI i :: .ref (m + 1) :: st) := by
  refine g_iast C (ovM_1 dA m S h) (by omega) hdg ?_
  rw [ovM_w0]
  exact kk
theorem M_ld_crosses (C : gC X cc own nm nL ret D dA N0 Y R) {i : Int} (hi : 0 ≤ i ∧ i < 12) (hdg : decode cc pc = .ok (.iaload, 1)) (kk : G X k n (ovM dA m S h) sz (pc + 1) L (vI (S 1 i) :: st)) : G X k n (ovM dA m S h) sz pc L (vI i :: .ref (m + 2) :: st) :=
  g_iald C (ovM_2 dA m S h) (by omega) hdg kk
theorem M_st_crosses (C : gC X cc own nm nL ret D dA N0 Y R) {i v : Int} (hi : 0 ≤ i ∧ i < 12) (hdg : decode cc pc = .ok (.iastore, 1)) (kk : G X k n (ovM dA m (us S 1 i v) h) sz (pc + 1) L st) : G X k n (ovM dA m S h) sz pc L (vI v :: vI i :: .ref (m + 2) :: st) := by
  refine g_iast C (ovM_2 dA m S h) (by omega) hdg ?_
  rw [ovM_w1]
  exact kk
theorem M_ld_isKept (C : gC X cc own nm nL ret D dA N0 Y R) {i : Int} (hi : 0 ≤ i ∧ i < 2) (hdg : decode cc pc = .ok (.baload, 1)) (kk : G X k n (ovM dA m S h) sz (pc + 1) L (vI (S 2 i) :: st)) : G X k n (ovM dA m S h) sz pc L (vI i :: .ref (m + 3) :: st) :=
  g_zald C (ovM_3 dA m S h) (by omega) hdg kk
theorem M_st_isKept (C : gC X cc own nm nL ret D dA N0 Y R) {i v : Int} (hi : 0 ≤ i ∧ i < 2) (hb : v = 0 ∨ v = 1) (hdg : decode cc pc = .ok (.bastore, 1)) (kk : G X k n (ovM dA m (us S 2 i v) h) sz (pc + 1) L st) : G X k n (ovM dA m S h) sz pc L (vI v :: vI i :: .ref (m + 3) :: st) := by
  refine g_zast C (r := v) (ovM_3 dA m S h) (by omega) (by rcases hb with rfl | rfl <;> decide +kernel) hdg ?_
  rw [ovM_w2]
  exact kk
theorem M_ld_text (C : gC X cc own nm nL ret D dA N0 Y R) {i : Int} (hi : 0 ≤ i ∧ i < 200) (hdg : decode cc pc = .ok (.iaload, 1)) (kk : G X k n (ovM dA m S h) sz (pc + 1) L (vI (S 3 i) :: st)) : G X k n (ovM dA m S h) sz pc L (vI i :: .ref (m + 4) :: st) :=
  g_iald C (ovM_4 dA m S h) (by omega) hdg kk
theorem M_st_text (C : gC X cc own nm nL ret D dA N0 Y R) {i v : Int} (hi : 0 ≤ i ∧ i < 200) (hdg : decode cc pc = .ok (.iastore, 1)) (kk : G X k n (ovM dA m (us S 3 i v) h) sz (pc + 1) L st) : G X k n (ovM dA m S h) sz pc L (vI v :: vI i :: .ref (m + 4) :: st) := by
  refine g_iast C (ovM_4 dA m S h) (by omega) hdg ?_
  rw [ovM_w3]
  exact kk
theorem M_ld_sizes (C : gC X cc own nm nL ret D dA N0 Y R) {i : Int} (hi : 0 ≤ i ∧ i < 3) (hdg : decode cc pc = .ok (.iaload, 1)) (kk : G X k n (ovM dA m S h) sz (pc + 1) L (vI (S 4 i) :: st)) : G X k n (ovM dA m S h) sz pc L (vI i :: .ref (m + 5) :: st) :=
  g_iald C (ovM_5 dA m S h) (by omega) hdg kk
theorem M_st_sizes (C : gC X cc own nm nL ret D dA N0 Y R) {i v : Int} (hi : 0 ≤ i ∧ i < 3) (hdg : decode cc pc = .ok (.iastore, 1)) (kk : G X k n (ovM dA m (us S 4 i v) h) sz (pc + 1) L st) : G X k n (ovM dA m S h) sz pc L (vI v :: vI i :: .ref (m + 5) :: st) := by
  refine g_iast C (ovM_5 dA m S h) (by omega) hdg ?_
  rw [ovM_w4]
  exact kk
theorem M_ld_threads (C : gC X cc own nm nL ret D dA N0 Y R) {i : Int} (hi : 0 ≤ i ∧ i < 24) (hdg : decode cc pc = .ok (.iaload, 1)) (kk : G X k n (ovM dA m S h) sz (pc + 1) L (vI (S 5 i) :: st)) : G X k n (ovM dA m S h) sz pc L (vI i :: .ref (m + 6) :: st) :=
  g_iald C (ovM_6 dA m S h) (by omega) hdg kk
theorem M_st_threads (C : gC X cc own nm nL ret D dA N0 Y R) {i v : Int} (hi : 0 ≤ i ∧ i < 24) (hdg : decode cc pc = .ok (.iastore, 1)) (kk : G X k n (ovM dA m (us S 5 i v) h) sz (pc + 1) L st) : G X k n (ovM dA m S h) sz pc L (vI v :: vI i :: .ref (m + 6) :: st) := by
  refine g_iast C (ovM_6 dA m S h) (by omega) hdg ?_
  rw [ovM_w5]
  exact kk
theorem M_ld_read (C : gC X cc own nm nL ret D dA N0 Y R) {i : Int} (hi : 0 ≤ i ∧ i < 6) (hdg : decode cc pc = .ok (.iaload, 1)) (kk : G X k n (ovM dA m S h) sz (pc + 1) L (vI (S 6 i) :: st)) : G X k n (ovM dA m S h) sz pc L (vI i :: .ref (m + 7) :: st) :=
  g_iald C (ovM_7 dA m S h) (by omega) hdg kk
theorem M_st_read (C : gC X cc own nm nL ret D dA N0 Y R) {i v : Int} (hi : 0 ≤ i ∧ i < 6) (hdg : decode cc pc = .ok (.iastore, 1)) (kk : G X k n (ovM dA m (us S 6 i v) h) sz (pc + 1) L st) : G X k n (ovM dA m S h) sz pc L (vI v :: vI i :: .ref (m + 7) :: st) := by
  refine g_iast C (ovM_7 dA m S h) (by omega) hdg ?_
  rw [ovM_w6]
  exact kk
theorem M_ld_numbers (C : gC X cc own nm nL ret D dA N0 Y R) {i : Int} (hi : 0 ≤ i ∧ i < 4) (hdg : decode cc pc = .ok (.iaload, 1)) (kk : G X k n (ovM dA m S h) sz (pc + 1) L (vI (S 7 i) :: st)) : G X k n (ovM dA m S h) sz pc L (vI i :: .ref (m + 8) :: st) :=
  g_iald C (ovM_8 dA m S h) (by omega) hdg kk
theorem M_st_numbers (C : gC X cc own nm nL ret D dA N0 Y R) {i v : Int} (hi : 0 ≤ i ∧ i < 4) (hdg : decode cc pc = .ok (.iastore, 1)) (kk : G X k n (ovM dA m (us S 7 i v) h) sz (pc + 1) L st) : G X k n (ovM dA m S h) sz pc L (vI v :: vI i :: .ref (m + 8) :: st) := by
  refine g_iast C (ovM_8 dA m S h) (by omega) hdg ?_
  rw [ovM_w7]
  exact kk
theorem M_ld_words (C : gC X cc own nm nL ret D dA N0 Y R) {i : Int} (hi : 0 ≤ i ∧ i < 40) (hdg : decode cc pc = .ok (.iaload, 1)) (kk : G X k n (ovM dA m S h) sz (pc + 1) L (vI (S 8 i) :: st)) : G X k n (ovM dA m S h) sz pc L (vI i :: .ref (m + 9) :: st) :=
  g_iald C (ovM_9 dA m S h) (by omega) hdg kk
theorem M_st_words (C : gC X cc own nm nL ret D dA N0 Y R) {i v : Int} (hi : 0 ≤ i ∧ i < 40) (hdg : decode cc pc = .ok (.iastore, 1)) (kk : G X k n (ovM dA m (us S 8 i v) h) sz (pc + 1) L st) : G X k n (ovM dA m S h) sz pc L (vI v :: vI i :: .ref (m + 9) :: st) := by
  refine g_iast C (ovM_9 dA m S h) (by omega) hdg ?_
  rw [ovM_w8]
  exact kk
theorem M_ld_ties (C : gC X cc own nm nL ret D dA N0 Y R) {i : Int} (hi : 0 ≤ i ∧ i < 6) (hdg : decode cc pc = .ok (.iaload, 1)) (kk : G X k n (ovM dA m S h) sz (pc + 1) L (vI (S 9 i) :: st)) : G X k n (ovM dA m S h) sz pc L (vI i :: .ref (m + 10) :: st) :=
  g_iald C (ovM_10 dA m S h) (by omega) hdg kk
theorem M_st_ties (C : gC X cc own nm nL ret D dA N0 Y R) {i v : Int} (hi : 0 ≤ i ∧ i < 6) (hdg : decode cc pc = .ok (.iastore, 1)) (kk : G X k n (ovM dA m (us S 9 i v) h) sz (pc + 1) L st) : G X k n (ovM dA m S h) sz pc L (vI v :: vI i :: .ref (m + 10) :: st) := by
  refine g_iast C (ovM_10 dA m S h) (by omega) hdg ?_
  rw [ovM_w9]
  exact kk
end MR
