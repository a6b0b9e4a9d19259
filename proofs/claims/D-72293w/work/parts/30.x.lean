/-! WeaveDraft: a block of 62 cells at x: the object, now (x+1..28), tried (x+29..56), kept (57), backs (58), rows (59), text (60), spools (61). S: its numbers in the reference's shape (0 now, 1 rows, 3 text, 6 tried, 10 the scalars); P: 0 kept, 1 backs, 2 spools -/
set_option maxRecDepth 100000
abbrev PS : Type := Nat → Int → Option Nat
def ud (S : MS) (a : Nat) (F : Int → Int) : MS := fun b => if b = a then F else S b
def up (P : PS) (a : Nat) (i : Int) (v : Option Nat) : PS := fun b => if b = a then uI (P a) i v else P b
theorem ud_s (S : MS) (a : Nat) (F : Int → Int) : ud S a F a = F := by simp [ud]
theorem ud_n (S : MS) {a b : Nat} (F : Int → Int) (h : b ≠ a) : ud S a F b = S b := by simp [ud, h]
theorem up_s (P : PS) (a : Nat) (i : Int) (v : Option Nat) : up P a i v a = uI (P a) i v := by simp [up]
theorem up_n (P : PS) {a b : Nat} (i : Int) (v : Option Nat) (h : b ≠ a) : up P a i v b = P b := by simp [up, h]
def xO (x : Nat) (S : MS) : List Value := [.ref (x + 1), .ref (x + 29), .ref (x + 57), .ref (x + 58), vI (S 10 2), .ref (x + 59), vI (S 10 0), vI (S 10 1), .ref (x + 60), vI (S 10 3), .ref (x + 61)]
def xcell (dA : Nat → ClassId) (x : Nat) (S : MS) (P : PS) (j : Nat) : va_E :=
  if j = 0 then gO 0 (xO x S) else if j < 29 then dcell dA x (x + 1) (S 0) (j - 1) else if j < 57 then dcell dA x (x + 29) (S 6) (j - 29)
  else if j = 57 then gR (dA 3) 2 (P 0) else if j = 58 then gR (dA 3) 8 (P 1) else if j = 59 then gI (dA 0) 12 (S 1) else if j = 60 then gI (dA 1) 200 (S 3) else gR (dA 6) 3 (P 2)
def ovX (dA : Nat → ClassId) (x : Nat) (S : MS) (P : PS) (h : gH) : gH := fun q => if x ≤ q ∧ q < x + 62 then some (xcell dA x S P (q - x)) else h q
theorem ovX_at (dA : Nat → ClassId) (x : Nat) (S : MS) (P : PS) (h : gH) {j : Nat} (hj : j < 62) : ovX dA x S P h (x + j) = some (xcell dA x S P j) := by
  unfold ovX
  rw [if_pos (by omega), Nat.add_sub_cancel_left]
theorem ovX_off (dA : Nat → ClassId) (x : Nat) (S : MS) (P : PS) (h : gH) {q : Nat} (hq : q < x ∨ x + 62 ≤ q) : ovX dA x S P h q = h q := by
  unfold ovX
  rw [if_neg (by omega)]
theorem ovX_gup (dA : Nat → ClassId) (x : Nat) (S : MS) (P : PS) (h : gH) {q : Nat} (e : va_E) (hq : q < x ∨ x + 62 ≤ q) : gup (ovX dA x S P h) q e = ovX dA x S P (gup h q e) := by
  funext p
  by_cases hp : p = q
  · subst hp
    rw [gup_s, ovX_off _ _ _ _ _ hq, gup_s]
  · rw [gup_n _ _ hp]
    unfold ovX
    split
    · rfl
    · rw [gup_n _ _ hp]
theorem ovX_ovD (dA : Nat → ClassId) (x y b : Nat) (S : MS) (P : PS) (F : Int → Int) (h : gH) (hq : b + 28 ≤ x ∨ x + 62 ≤ b) : ovD dA y b F (ovX dA x S P h) = ovX dA x S P (ovD dA y b F h) := by
  funext p
  simp only [ovX, ovD]
  by_cases h1 : b ≤ p ∧ p < b + 28
  · rw [if_pos h1, if_neg (by omega), if_pos h1]
  · rw [if_neg h1]
    by_cases h2 : x ≤ p ∧ p < x + 62
    · rw [if_pos h2, if_pos h2]
    · rw [if_neg h2, if_neg h2, if_neg h1]
theorem ovX_0 (dA : Nat → ClassId) (x : Nat) (S : MS) (P : PS) (h : gH) : ovX dA x S P h x = some (gO 0 (xO x S)) := ovX_at dA x S P h (j := 0) (by omega)
theorem xcell_now (dA : Nat → ClassId) (x : Nat) (S : MS) (P : PS) {j : Nat} (hj : j < 28) : xcell dA x S P (1 + j) = dcell dA x (x + 1) (S 0) j := by
  unfold xcell
  rw [if_neg (by omega), if_pos (by omega), Nat.add_sub_cancel_left]
theorem xcell_tried (dA : Nat → ClassId) (x : Nat) (S : MS) (P : PS) {j : Nat} (hj : j < 28) : xcell dA x S P (29 + j) = dcell dA x (x + 29) (S 6) j := by
  unfold xcell
  rw [if_neg (by omega), if_neg (by omega), if_pos (by omega), Nat.add_sub_cancel_left]
theorem isX_now (dA : Nat → ClassId) (x : Nat) (S : MS) (P : PS) (h : gH) : isD dA x (x + 1) (S 0) (ovX dA x S P h) := fun j hj => by
  rw [Nat.add_assoc, ovX_at _ _ _ _ _ (by omega), xcell_now _ _ _ _ hj]
theorem isX_tried (dA : Nat → ClassId) (x : Nat) (S : MS) (P : PS) (h : gH) : isD dA x (x + 29) (S 6) (ovX dA x S P h) := fun j hj => by
  rw [Nat.add_assoc, ovX_at _ _ _ _ _ (by omega), xcell_tried _ _ _ _ hj]
theorem isX_out {dA : Nat → ClassId} {x y b : Nat} {S : MS} {P : PS} {F : Int → Int} {h : gH} (hD : isD dA y b F h) (hq : b + 28 ≤ x ∨ x + 62 ≤ b) : isD dA y b F (ovX dA x S P h) := isD_off hD (fun q h1 h2 => ovX_off _ _ _ _ _ (by omega))
theorem xcell_ud {dA : Nat → ClassId} {x : Nat} {S S' : MS} {P P' : PS} {j : Nat} (h0 : j = 0 → S' 10 = S 10) (h1 : 1 ≤ j → j < 29 → S' 0 = S 0) (h2 : 29 ≤ j → j < 57 → S' 6 = S 6) (h3 : j = 57 → P' 0 = P 0) (h4 : j = 58 → P' 1 = P 1) (h5 : j = 59 → S' 1 = S 1) (h6 : j = 60 → S' 3 = S 3) (h7 : 61 ≤ j → P' 2 = P 2) : xcell dA x S' P' j = xcell dA x S P j := by
  unfold xcell
  by_cases g0 : j = 0
  · rw [if_pos g0, if_pos g0]; unfold xO; rw [h0 g0]
  rw [if_neg g0, if_neg g0]
  by_cases g1 : j < 29
  · rw [if_pos g1, if_pos g1, h1 (by omega) g1]
  rw [if_neg g1, if_neg g1]
  by_cases g2 : j < 57
  · rw [if_pos g2, if_pos g2, h2 (by omega) g2]
  rw [if_neg g2, if_neg g2]
  by_cases g3 : j = 57
  · rw [if_pos g3, if_pos g3, h3 g3]
  rw [if_neg g3, if_neg g3]
  by_cases g4 : j = 58
  · rw [if_pos g4, if_pos g4, h4 g4]
  rw [if_neg g4, if_neg g4]
  by_cases g5 : j = 59
  · rw [if_pos g5, if_pos g5, h5 g5]
  rw [if_neg g5, if_neg g5]
  by_cases g6 : j = 60
  · rw [if_pos g6, if_pos g6, h6 g6]
  rw [if_neg g6, if_neg g6, h7 (by omega)]
theorem ovX_up (dA : Nat → ClassId) (x : Nat) (S S' : MS) (P P' : PS) (h : gH) {j : Nat} {e : va_E} (hj : j < 62) (h1 : xcell dA x S' P' j = e) (h2 : ∀ i, i < 62 → i ≠ j → xcell dA x S' P' i = xcell dA x S P i) : gup (ovX dA x S P h) (x + j) e = ovX dA x S' P' h := by
  funext q
  by_cases hq : q = x + j
  · subst hq
    rw [gup_s, ovX_at _ _ _ _ _ hj, h1]
  · rw [gup_n _ _ hq]
    unfold ovX
    by_cases hr : x ≤ q ∧ q < x + 62
    · rw [if_pos hr, if_pos hr, h2 (q - x) (by omega) (by omega)]
    · rw [if_neg hr, if_neg hr]
theorem ovX_dn (dA : Nat → ClassId) (x : Nat) (S : MS) (P : PS) (F : Int → Int) (h : gH) : ovD dA x (x + 1) F (ovX dA x S P h) = ovX dA x (ud S 0 F) P h := by
  funext q
  unfold ovD ovX
  by_cases hq : x + 1 ≤ q ∧ q < x + 1 + 28
  · rw [if_pos hq, if_pos (by omega), show q - x = 1 + (q - (x + 1)) by omega, xcell_now _ _ _ _ (by omega), ud_s]
  · rw [if_neg hq]
    by_cases hr : x ≤ q ∧ q < x + 62
    · rw [if_pos hr, if_pos hr]
      congr 1
      exact (xcell_ud (fun _ => ud_n S F (by omega)) (fun _ _ => by omega) (fun _ _ => ud_n S F (by omega)) (fun _ => rfl) (fun _ => rfl) (fun _ => ud_n S F (by omega)) (fun _ => ud_n S F (by omega)) (fun _ => rfl)).symm
    · rw [if_neg hr, if_neg hr]
theorem ovX_dt (dA : Nat → ClassId) (x : Nat) (S : MS) (P : PS) (F : Int → Int) (h : gH) : ovD dA x (x + 29) F (ovX dA x S P h) = ovX dA x (ud S 6 F) P h := by
  funext q
  unfold ovD ovX
  by_cases hq : x + 29 ≤ q ∧ q < x + 29 + 28
  · rw [if_pos hq, if_pos (by omega), show q - x = 29 + (q - (x + 29)) by omega, xcell_tried _ _ _ _ (by omega), ud_s]
  · rw [if_neg hq]
    by_cases hr : x ≤ q ∧ q < x + 62
    · rw [if_pos hr, if_pos hr]
      congr 1
      exact (xcell_ud (fun _ => ud_n S F (by omega)) (fun _ _ => ud_n S F (by omega)) (fun _ _ => by omega) (fun _ => rfl) (fun _ => rfl) (fun _ => ud_n S F (by omega)) (fun _ => ud_n S F (by omega)) (fun _ => rfl)).symm
    · rw [if_neg hr, if_neg hr]
theorem ovX_now (dA : Nat → ClassId) (x : Nat) (S : MS) (P : PS) (h : gH) : ovX dA x S P h = ovD dA x (x + 1) (S 0) (ovX dA x S P h) := (ovD_same (isX_now dA x S P h)).symm
theorem ovX_tried (dA : Nat → ClassId) (x : Nat) (S : MS) (P : PS) (h : gH) : ovX dA x S P h = ovD dA x (x + 29) (S 6) (ovX dA x S P h) := (ovD_same (isX_tried dA x S P h)).symm
theorem ovX_57 (dA : Nat → ClassId) (x : Nat) (S : MS) (P : PS) (h : gH) : ovX dA x S P h (x + 57) = some (gR (dA 3) 2 (P 0)) := ovX_at dA x S P h (j := 57) (by omega)
theorem ovX_58 (dA : Nat → ClassId) (x : Nat) (S : MS) (P : PS) (h : gH) : ovX dA x S P h (x + 58) = some (gR (dA 3) 8 (P 1)) := ovX_at dA x S P h (j := 58) (by omega)
theorem ovX_59 (dA : Nat → ClassId) (x : Nat) (S : MS) (P : PS) (h : gH) : ovX dA x S P h (x + 59) = some (gI (dA 0) 12 (S 1)) := ovX_at dA x S P h (j := 59) (by omega)
theorem ovX_60 (dA : Nat → ClassId) (x : Nat) (S : MS) (P : PS) (h : gH) : ovX dA x S P h (x + 60) = some (gI (dA 1) 200 (S 3)) := ovX_at dA x S P h (j := 60) (by omega)
theorem ovX_61 (dA : Nat → ClassId) (x : Nat) (S : MS) (P : PS) (h : gH) : ovX dA x S P h (x + 61) = some (gR (dA 6) 3 (P 2)) := ovX_at dA x S P h (j := 61) (by omega)
theorem ovX_wkept (dA : Nat → ClassId) (x : Nat) (S : MS) (P : PS) (h : gH) (i : Int) (v : Option Nat) : gup (ovX dA x S P h) (x + 57) (gR (dA 3) 2 (uI (P 0) i v)) = ovX dA x S (up P 0 i v) h :=
  ovX_up dA x S S P (up P 0 i v) h (by omega) rfl (fun q hq hn => xcell_ud (fun z => rfl) (fun z z2 => rfl) (fun z z2 => rfl) (fun z => absurd z (by omega)) (fun z => up_n P i v (by omega)) (fun z => rfl) (fun z => rfl) (fun z => up_n P i v (by omega)))
theorem ovX_wbacks (dA : Nat → ClassId) (x : Nat) (S : MS) (P : PS) (h : gH) (i : Int) (v : Option Nat) : gup (ovX dA x S P h) (x + 58) (gR (dA 3) 8 (uI (P 1) i v)) = ovX dA x S (up P 1 i v) h :=
  ovX_up dA x S S P (up P 1 i v) h (by omega) rfl (fun q hq hn => xcell_ud (fun z => rfl) (fun z z2 => rfl) (fun z z2 => rfl) (fun z => up_n P i v (by omega)) (fun z => absurd z (by omega)) (fun z => rfl) (fun z => rfl) (fun z => up_n P i v (by omega)))
theorem ovX_wspools (dA : Nat → ClassId) (x : Nat) (S : MS) (P : PS) (h : gH) (i : Int) (v : Option Nat) : gup (ovX dA x S P h) (x + 61) (gR (dA 6) 3 (uI (P 2) i v)) = ovX dA x S (up P 2 i v) h :=
  ovX_up dA x S S P (up P 2 i v) h (by omega) rfl (fun q hq hn => xcell_ud (fun z => rfl) (fun z z2 => rfl) (fun z z2 => rfl) (fun z => up_n P i v (by omega)) (fun z => up_n P i v (by omega)) (fun z => rfl) (fun z => rfl) (fun z => absurd z (by omega)))
theorem ovX_wrows (dA : Nat → ClassId) (x : Nat) (S : MS) (P : PS) (h : gH) (i v : Int) : gup (ovX dA x S P h) (x + 59) (gI (dA 0) 12 (uI (S 1) i v)) = ovX dA x (us S 1 i v) P h :=
  ovX_up dA x S (us S 1 i v) P P h (by omega) rfl (fun q hq hn => xcell_ud (fun z => us_n S i v (by omega)) (fun z z2 => us_n S i v (by omega)) (fun z z2 => us_n S i v (by omega)) (fun z => rfl) (fun z => rfl) (fun z => absurd z (by omega)) (fun z => us_n S i v (by omega)) (fun z => rfl))
theorem ovX_wtext (dA : Nat → ClassId) (x : Nat) (S : MS) (P : PS) (h : gH) (i v : Int) : gup (ovX dA x S P h) (x + 60) (gI (dA 1) 200 (uI (S 3) i v)) = ovX dA x (us S 3 i v) P h :=
  ovX_up dA x S (us S 3 i v) P P h (by omega) rfl (fun q hq hn => xcell_ud (fun z => us_n S i v (by omega)) (fun z z2 => us_n S i v (by omega)) (fun z z2 => us_n S i v (by omega)) (fun z => rfl) (fun z => rfl) (fun z => us_n S i v (by omega)) (fun z => absurd z (by omega)) (fun z => rfl))
theorem ovX_fbackMany (dA : Nat → ClassId) (x : Nat) (S : MS) (P : PS) (h : gH) (v : Int) : gup (ovX dA x S P h) x (gO 0 ((xO x S).set 4 (vI v))) = ovX dA x (us S 10 2 v) P h :=
  ovX_up dA x S (us S 10 2 v) P P h (j := 0) (by omega) rfl (fun q hq hn => xcell_ud (fun z => absurd z (by omega)) (fun z z2 => us_n S _ v (by omega)) (fun z z2 => us_n S _ v (by omega)) (fun z => rfl) (fun z => rfl) (fun z => us_n S _ v (by omega)) (fun z => us_n S _ v (by omega)) (fun z => rfl))
theorem ovX_frowMany (dA : Nat → ClassId) (x : Nat) (S : MS) (P : PS) (h : gH) (v : Int) : gup (ovX dA x S P h) x (gO 0 ((xO x S).set 6 (vI v))) = ovX dA x (us S 10 0 v) P h :=
  ovX_up dA x S (us S 10 0 v) P P h (j := 0) (by omega) rfl (fun q hq hn => xcell_ud (fun z => absurd z (by omega)) (fun z z2 => us_n S _ v (by omega)) (fun z z2 => us_n S _ v (by omega)) (fun z => rfl) (fun z => rfl) (fun z => us_n S _ v (by omega)) (fun z => us_n S _ v (by omega)) (fun z => rfl))
theorem ovX_fwide (dA : Nat → ClassId) (x : Nat) (S : MS) (P : PS) (h : gH) (v : Int) : gup (ovX dA x S P h) x (gO 0 ((xO x S).set 7 (vI v))) = ovX dA x (us S 10 1 v) P h :=
  ovX_up dA x S (us S 10 1 v) P P h (j := 0) (by omega) rfl (fun q hq hn => xcell_ud (fun z => absurd z (by omega)) (fun z z2 => us_n S _ v (by omega)) (fun z z2 => us_n S _ v (by omega)) (fun z => rfl) (fun z => rfl) (fun z => us_n S _ v (by omega)) (fun z => us_n S _ v (by omega)) (fun z => rfl))
theorem ovX_fletters (dA : Nat → ClassId) (x : Nat) (S : MS) (P : PS) (h : gH) (v : Int) : gup (ovX dA x S P h) x (gO 0 ((xO x S).set 9 (vI v))) = ovX dA x (us S 10 3 v) P h :=
  ovX_up dA x S (us S 10 3 v) P P h (j := 0) (by omega) rfl (fun q hq hn => xcell_ud (fun z => absurd z (by omega)) (fun z z2 => us_n S _ v (by omega)) (fun z z2 => us_n S _ v (by omega)) (fun z => rfl) (fun z => rfl) (fun z => us_n S _ v (by omega)) (fun z => us_n S _ v (by omega)) (fun z => rfl))
section XR
variable {X : gX} {cc : ByteArray} {own nm : String} {nL : Nat} {ret : Option FieldType} {D : va_G} {dA : Nat → ClassId} {N0 : Nat} {Y : State → Prop} {R : Room}
variable {k n x : Nat} {S : MS} {P : PS} {h : gH} {sz pc : Nat} {L : List (Option Value)} {st : List Value}
theorem X_g_now (C : gC X cc own nm nL ret D dA N0 Y R) {i : Nat} (hl : Cond.fieldLink own i "WeaveDraft" "now" "LWeaveDraft$Draft;" ∈ lw_all) (hdg : decode cc pc = .ok (.getfield i, 3)) (kk : G X k n (ovX dA x S P h) sz (pc + 3) L (.ref (x + 1) :: st)) : G X k n (ovX dA x S P h) sz pc L (.ref x :: st) :=
  g_get C (ovX_0 dA x S P h) rfl in_X0 0 (by decide) hl (Or.inl rfl) rfl hdg kk
theorem X_n_now (C : gC X cc own nm nL ret D dA N0 Y R) {i : Nat} {host : String} (hl : va_Nw (.fieldLinkNest own i "WeaveDraft" "now" "LWeaveDraft$Draft;" host) (gs X)) (hdg : decode cc pc = .ok (.getfield i, 3)) (kk : G X k n (ovX dA x S P h) sz (pc + 3) L (.ref (x + 1) :: st)) : G X k n (ovX dA x S P h) sz pc L (.ref x :: st) :=
  g_getN C (ovX_0 dA x S P h) rfl in_X0 0 (by decide) hl rfl rfl hdg kk
theorem X_g_tried (C : gC X cc own nm nL ret D dA N0 Y R) {i : Nat} (hl : Cond.fieldLink own i "WeaveDraft" "tried" "LWeaveDraft$Draft;" ∈ lw_all) (hdg : decode cc pc = .ok (.getfield i, 3)) (kk : G X k n (ovX dA x S P h) sz (pc + 3) L (.ref (x + 29) :: st)) : G X k n (ovX dA x S P h) sz pc L (.ref x :: st) :=
  g_get C (ovX_0 dA x S P h) rfl in_X0 1 (by decide) hl (Or.inl rfl) rfl hdg kk
theorem X_g_kept (C : gC X cc own nm nL ret D dA N0 Y R) {i : Nat} (hl : Cond.fieldLink own i "WeaveDraft" "kept" "[LWeaveDraft$Draft;" ∈ lw_all) (hdg : decode cc pc = .ok (.getfield i, 3)) (kk : G X k n (ovX dA x S P h) sz (pc + 3) L (.ref (x + 57) :: st)) : G X k n (ovX dA x S P h) sz pc L (.ref x :: st) :=
  g_get C (ovX_0 dA x S P h) rfl in_X0 2 (by decide) hl (Or.inl rfl) rfl hdg kk
theorem X_g_backs (C : gC X cc own nm nL ret D dA N0 Y R) {i : Nat} (hl : Cond.fieldLink own i "WeaveDraft" "backs" "[LWeaveDraft$Draft;" ∈ lw_all) (hdg : decode cc pc = .ok (.getfield i, 3)) (kk : G X k n (ovX dA x S P h) sz (pc + 3) L (.ref (x + 58) :: st)) : G X k n (ovX dA x S P h) sz pc L (.ref x :: st) :=
  g_get C (ovX_0 dA x S P h) rfl in_X0 3 (by decide) hl (Or.inl rfl) rfl hdg kk
theorem X_g_backMany (C : gC X cc own nm nL ret D dA N0 Y R) {i : Nat} (hl : Cond.fieldLink own i "WeaveDraft" "backMany" "I" ∈ lw_all) (hdg : decode cc pc = .ok (.getfield i, 3)) (kk : G X k n (ovX dA x S P h) sz (pc + 3) L (vI (S 10 2) :: st)) : G X k n (ovX dA x S P h) sz pc L (.ref x :: st) :=
  g_get C (ovX_0 dA x S P h) rfl in_X0 4 (by decide) hl (Or.inl rfl) rfl hdg kk
theorem X_p_backMany (C : gC X cc own nm nL ret D dA N0 Y R) {i : Nat} {v : Int} (hl : Cond.fieldLink own i "WeaveDraft" "backMany" "I" ∈ lw_all) (hdg : decode cc pc = .ok (.putfield i, 3)) (kk : G X k n (ovX dA x (us S 10 2 v) P h) sz (pc + 3) L st) : G X k n (ovX dA x S P h) sz pc L (vI v :: .ref x :: st) := by
  refine g_put C (ovX_0 dA x S P h) rfl in_X0 4 (by decide) tyX0 tyX0_ok nmX0 hl (Or.inl rfl) rfl rfl rfl (Nat.le_of_ble_eq_true rfl) hdg ?_
  rw [ovX_fbackMany]
  exact kk
theorem X_g_rows (C : gC X cc own nm nL ret D dA N0 Y R) {i : Nat} (hl : Cond.fieldLink own i "WeaveDraft" "rows" "[I" ∈ lw_all) (hdg : decode cc pc = .ok (.getfield i, 3)) (kk : G X k n (ovX dA x S P h) sz (pc + 3) L (.ref (x + 59) :: st)) : G X k n (ovX dA x S P h) sz pc L (.ref x :: st) :=
  g_get C (ovX_0 dA x S P h) rfl in_X0 5 (by decide) hl (Or.inl rfl) rfl hdg kk
theorem X_n_rows (C : gC X cc own nm nL ret D dA N0 Y R) {i : Nat} {host : String} (hl : va_Nw (.fieldLinkNest own i "WeaveDraft" "rows" "[I" host) (gs X)) (hdg : decode cc pc = .ok (.getfield i, 3)) (kk : G X k n (ovX dA x S P h) sz (pc + 3) L (.ref (x + 59) :: st)) : G X k n (ovX dA x S P h) sz pc L (.ref x :: st) :=
  g_getN C (ovX_0 dA x S P h) rfl in_X0 5 (by decide) hl rfl rfl hdg kk
theorem X_g_rowMany (C : gC X cc own nm nL ret D dA N0 Y R) {i : Nat} (hl : Cond.fieldLink own i "WeaveDraft" "rowMany" "I" ∈ lw_all) (hdg : decode cc pc = .ok (.getfield i, 3)) (kk : G X k n (ovX dA x S P h) sz (pc + 3) L (vI (S 10 0) :: st)) : G X k n (ovX dA x S P h) sz pc L (.ref x :: st) :=
  g_get C (ovX_0 dA x S P h) rfl in_X0 6 (by decide) hl (Or.inl rfl) rfl hdg kk
theorem X_n_rowMany (C : gC X cc own nm nL ret D dA N0 Y R) {i : Nat} {host : String} (hl : va_Nw (.fieldLinkNest own i "WeaveDraft" "rowMany" "I" host) (gs X)) (hdg : decode cc pc = .ok (.getfield i, 3)) (kk : G X k n (ovX dA x S P h) sz (pc + 3) L (vI (S 10 0) :: st)) : G X k n (ovX dA x S P h) sz pc L (.ref x :: st) :=
  g_getN C (ovX_0 dA x S P h) rfl in_X0 6 (by decide) hl rfl rfl hdg kk
theorem X_p_rowMany (C : gC X cc own nm nL ret D dA N0 Y R) {i : Nat} {v : Int} (hl : Cond.fieldLink own i "WeaveDraft" "rowMany" "I" ∈ lw_all) (hdg : decode cc pc = .ok (.putfield i, 3)) (kk : G X k n (ovX dA x (us S 10 0 v) P h) sz (pc + 3) L st) : G X k n (ovX dA x S P h) sz pc L (vI v :: .ref x :: st) := by
  refine g_put C (ovX_0 dA x S P h) rfl in_X0 6 (by decide) tyX0 tyX0_ok nmX0 hl (Or.inl rfl) rfl rfl rfl (Nat.le_of_ble_eq_true rfl) hdg ?_
  rw [ovX_frowMany]
  exact kk
theorem X_g_wide (C : gC X cc own nm nL ret D dA N0 Y R) {i : Nat} (hl : Cond.fieldLink own i "WeaveDraft" "wide" "I" ∈ lw_all) (hdg : decode cc pc = .ok (.getfield i, 3)) (kk : G X k n (ovX dA x S P h) sz (pc + 3) L (vI (S 10 1) :: st)) : G X k n (ovX dA x S P h) sz pc L (.ref x :: st) :=
  g_get C (ovX_0 dA x S P h) rfl in_X0 7 (by decide) hl (Or.inl rfl) rfl hdg kk
theorem X_n_wide (C : gC X cc own nm nL ret D dA N0 Y R) {i : Nat} {host : String} (hl : va_Nw (.fieldLinkNest own i "WeaveDraft" "wide" "I" host) (gs X)) (hdg : decode cc pc = .ok (.getfield i, 3)) (kk : G X k n (ovX dA x S P h) sz (pc + 3) L (vI (S 10 1) :: st)) : G X k n (ovX dA x S P h) sz pc L (.ref x :: st) :=
  g_getN C (ovX_0 dA x S P h) rfl in_X0 7 (by decide) hl rfl rfl hdg kk
theorem X_p_wide (C : gC X cc own nm nL ret D dA N0 Y R) {i : Nat} {v : Int} (hl : Cond.fieldLink own i "WeaveDraft" "wide" "I" ∈ lw_all) (hdg : decode cc pc = .ok (.putfield i, 3)) (kk : G X k n (ovX dA x (us S 10 1 v) P h) sz (pc + 3) L st) : G X k n (ovX dA x S P h) sz pc L (vI v :: .ref x :: st) := by
  refine g_put C (ovX_0 dA x S P h) rfl in_X0 7 (by decide) tyX0 tyX0_ok nmX0 hl (Or.inl rfl) rfl rfl rfl (Nat.le_of_ble_eq_true rfl) hdg ?_
  rw [ovX_fwide]
  exact kk
theorem X_g_text (C : gC X cc own nm nL ret D dA N0 Y R) {i : Nat} (hl : Cond.fieldLink own i "WeaveDraft" "text" "[B" ∈ lw_all) (hdg : decode cc pc = .ok (.getfield i, 3)) (kk : G X k n (ovX dA x S P h) sz (pc + 3) L (.ref (x + 60) :: st)) : G X k n (ovX dA x S P h) sz pc L (.ref x :: st) :=
  g_get C (ovX_0 dA x S P h) rfl in_X0 8 (by decide) hl (Or.inl rfl) rfl hdg kk
theorem X_n_text (C : gC X cc own nm nL ret D dA N0 Y R) {i : Nat} {host : String} (hl : va_Nw (.fieldLinkNest own i "WeaveDraft" "text" "[B" host) (gs X)) (hdg : decode cc pc = .ok (.getfield i, 3)) (kk : G X k n (ovX dA x S P h) sz (pc + 3) L (.ref (x + 60) :: st)) : G X k n (ovX dA x S P h) sz pc L (.ref x :: st) :=
  g_getN C (ovX_0 dA x S P h) rfl in_X0 8 (by decide) hl rfl rfl hdg kk
theorem X_g_letters (C : gC X cc own nm nL ret D dA N0 Y R) {i : Nat} (hl : Cond.fieldLink own i "WeaveDraft" "letters" "I" ∈ lw_all) (hdg : decode cc pc = .ok (.getfield i, 3)) (kk : G X k n (ovX dA x S P h) sz (pc + 3) L (vI (S 10 3) :: st)) : G X k n (ovX dA x S P h) sz pc L (.ref x :: st) :=
  g_get C (ovX_0 dA x S P h) rfl in_X0 9 (by decide) hl (Or.inl rfl) rfl hdg kk
theorem X_n_letters (C : gC X cc own nm nL ret D dA N0 Y R) {i : Nat} {host : String} (hl : va_Nw (.fieldLinkNest own i "WeaveDraft" "letters" "I" host) (gs X)) (hdg : decode cc pc = .ok (.getfield i, 3)) (kk : G X k n (ovX dA x S P h) sz (pc + 3) L (vI (S 10 3) :: st)) : G X k n (ovX dA x S P h) sz pc L (.ref x :: st) :=
  g_getN C (ovX_0 dA x S P h) rfl in_X0 9 (by decide) hl rfl rfl hdg kk
theorem X_p_letters (C : gC X cc own nm nL ret D dA N0 Y R) {i : Nat} {v : Int} (hl : Cond.fieldLink own i "WeaveDraft" "letters" "I" ∈ lw_all) (hdg : decode cc pc = .ok (.putfield i, 3)) (kk : G X k n (ovX dA x (us S 10 3 v) P h) sz (pc + 3) L st) : G X k n (ovX dA x S P h) sz pc L (vI v :: .ref x :: st) := by
  refine g_put C (ovX_0 dA x S P h) rfl in_X0 9 (by decide) tyX0 tyX0_ok nmX0 hl (Or.inl rfl) rfl rfl rfl (Nat.le_of_ble_eq_true rfl) hdg ?_
  rw [ovX_fletters]
  exact kk
theorem X_g_spools (C : gC X cc own nm nL ret D dA N0 Y R) {i : Nat} (hl : Cond.fieldLink own i "WeaveDraft" "spools" "[LWeaveDraft$Spool;" ∈ lw_all) (hdg : decode cc pc = .ok (.getfield i, 3)) (kk : G X k n (ovX dA x S P h) sz (pc + 3) L (.ref (x + 61) :: st)) : G X k n (ovX dA x S P h) sz pc L (.ref x :: st) :=
  g_get C (ovX_0 dA x S P h) rfl in_X0 10 (by decide) hl (Or.inl rfl) rfl hdg kk
theorem X_ld_rows (C : gC X cc own nm nL ret D dA N0 Y R) {i : Int} (hi : 0 ≤ i ∧ i < 12) (hdg : decode cc pc = .ok (.iaload, 1)) (kk : G X k n (ovX dA x S P h) sz (pc + 1) L (vI (S 1 i) :: st)) : G X k n (ovX dA x S P h) sz pc L (vI i :: .ref (x + 59) :: st) :=
  g_iald C (ovX_59 dA x S P h) (by omega) hdg kk
theorem X_st_rows (C : gC X cc own nm nL ret D dA N0 Y R) {i v : Int} (hi : 0 ≤ i ∧ i < 12) (hdg : decode cc pc = .ok (.iastore, 1)) (kk : G X k n (ovX dA x (us S 1 i v) P h) sz (pc + 1) L st) : G X k n (ovX dA x S P h) sz pc L (vI v :: vI i :: .ref (x + 59) :: st) := by
  refine g_iast C (ovX_59 dA x S P h) (by omega) hdg ?_
  rw [ovX_wrows]
  exact kk
theorem X_ld_text (C : gC X cc own nm nL ret D dA N0 Y R) {i : Int} (hi : 0 ≤ i ∧ i < 200) (hdg : decode cc pc = .ok (.baload, 1)) (kk : G X k n (ovX dA x S P h) sz (pc + 1) L (vI (S 3 i) :: st)) : G X k n (ovX dA x S P h) sz pc L (vI i :: .ref (x + 60) :: st) :=
  g_bald C (ovX_60 dA x S P h) (by omega) hdg kk
theorem X_st_text (C : gC X cc own nm nL ret D dA N0 Y R) {i v r : Int} (hr : narrow .byte (vI v) = vI r) (hi : 0 ≤ i ∧ i < 200) (hdg : decode cc pc = .ok (.bastore, 1)) (kk : G X k n (ovX dA x (us S 3 i r) P h) sz (pc + 1) L st) : G X k n (ovX dA x S P h) sz pc L (vI v :: vI i :: .ref (x + 60) :: st) := by
  refine g_bast C (ovX_60 dA x S P h) (by omega) hr hdg ?_
  rw [ovX_wtext]
  exact kk
theorem X_alen_text (C : gC X cc own nm nL ret D dA N0 Y R) (hdg : decode cc pc = .ok (.arraylength, 1)) (kk : G X k n (ovX dA x S P h) sz (pc + 1) L (vI 200 :: st)) : G X k n (ovX dA x S P h) sz pc L (.ref (x + 60) :: st) :=
  g_alen C 1 rfl (ovX_60 dA x S P h) hdg kk
theorem X_ld_kept (C : gC X cc own nm nL ret D dA N0 Y R) {i : Int} (hi : 0 ≤ i ∧ i < 2) (hdg : decode cc pc = .ok (.aaload, 1)) (kk : G X k n (ovX dA x S P h) sz (pc + 1) L (va_rf (P 0 i) :: st)) : G X k n (ovX dA x S P h) sz pc L (vI i :: .ref (x + 57) :: st) :=
  g_aald C 3 rfl rfl (ovX_57 dA x S P h) (by omega) hdg kk
theorem X_st_kept (C : gC X cc own nm nL ret D dA N0 Y R) {i : Int} {b : Nat} {fs : List Value} (hb : ovX dA x S P h b = some (gO 1 fs)) (hi : 0 ≤ i ∧ i < 2) (hdg : decode cc pc = .ok (.aastore, 1)) (kk : G X k n (ovX dA x S (up P 0 i (some b)) h) sz (pc + 1) L st) : G X k n (ovX dA x S P h) sz pc L (.ref b :: vI i :: .ref (x + 57) :: st) := by
  refine g_aastK C 3 rfl (ovX_57 dA x S P h) hb (ci := 1) rfl (by omega) hdg ?_
  rw [ovX_wkept]
  exact kk
theorem X_sn_kept (C : gC X cc own nm nL ret D dA N0 Y R) {i : Int} (hi : 0 ≤ i ∧ i < 2) (hdg : decode cc pc = .ok (.aastore, 1)) (kk : G X k n (ovX dA x S (up P 0 i none) h) sz (pc + 1) L st) : G X k n (ovX dA x S P h) sz pc L (.null :: vI i :: .ref (x + 57) :: st) := by
  refine g_aastN C 3 rfl (ovX_57 dA x S P h) (by omega) hdg ?_
  rw [ovX_wkept]
  exact kk
theorem X_ld_backs (C : gC X cc own nm nL ret D dA N0 Y R) {i : Int} (hi : 0 ≤ i ∧ i < 8) (hdg : decode cc pc = .ok (.aaload, 1)) (kk : G X k n (ovX dA x S P h) sz (pc + 1) L (va_rf (P 1 i) :: st)) : G X k n (ovX dA x S P h) sz pc L (vI i :: .ref (x + 58) :: st) :=
  g_aald C 3 rfl rfl (ovX_58 dA x S P h) (by omega) hdg kk
theorem X_st_backs (C : gC X cc own nm nL ret D dA N0 Y R) {i : Int} {b : Nat} {fs : List Value} (hb : ovX dA x S P h b = some (gO 1 fs)) (hi : 0 ≤ i ∧ i < 8) (hdg : decode cc pc = .ok (.aastore, 1)) (kk : G X k n (ovX dA x S (up P 1 i (some b)) h) sz (pc + 1) L st) : G X k n (ovX dA x S P h) sz pc L (.ref b :: vI i :: .ref (x + 58) :: st) := by
  refine g_aastK C 3 rfl (ovX_58 dA x S P h) hb (ci := 1) rfl (by omega) hdg ?_
  rw [ovX_wbacks]
  exact kk
theorem X_sn_backs (C : gC X cc own nm nL ret D dA N0 Y R) {i : Int} (hi : 0 ≤ i ∧ i < 8) (hdg : decode cc pc = .ok (.aastore, 1)) (kk : G X k n (ovX dA x S (up P 1 i none) h) sz (pc + 1) L st) : G X k n (ovX dA x S P h) sz pc L (.null :: vI i :: .ref (x + 58) :: st) := by
  refine g_aastN C 3 rfl (ovX_58 dA x S P h) (by omega) hdg ?_
  rw [ovX_wbacks]
  exact kk
theorem X_ld_spools (C : gC X cc own nm nL ret D dA N0 Y R) {i : Int} (hi : 0 ≤ i ∧ i < 3) (hdg : decode cc pc = .ok (.aaload, 1)) (kk : G X k n (ovX dA x S P h) sz (pc + 1) L (va_rf (P 2 i) :: st)) : G X k n (ovX dA x S P h) sz pc L (vI i :: .ref (x + 61) :: st) :=
  g_aald C 6 rfl rfl (ovX_61 dA x S P h) (by omega) hdg kk
theorem X_st_spools (C : gC X cc own nm nL ret D dA N0 Y R) {i : Int} {b : Nat} {fs : List Value} (hb : ovX dA x S P h b = some (gO 9 fs)) (hi : 0 ≤ i ∧ i < 3) (hdg : decode cc pc = .ok (.aastore, 1)) (kk : G X k n (ovX dA x S (up P 2 i (some b)) h) sz (pc + 1) L st) : G X k n (ovX dA x S P h) sz pc L (.ref b :: vI i :: .ref (x + 61) :: st) := by
  refine g_aastK C 6 rfl (ovX_61 dA x S P h) hb (ci := 9) rfl (by omega) hdg ?_
  rw [ovX_wspools]
  exact kk
theorem X_sn_spools (C : gC X cc own nm nL ret D dA N0 Y R) {i : Int} (hi : 0 ≤ i ∧ i < 3) (hdg : decode cc pc = .ok (.aastore, 1)) (kk : G X k n (ovX dA x S (up P 2 i none) h) sz (pc + 1) L st) : G X k n (ovX dA x S P h) sz pc L (.null :: vI i :: .ref (x + 61) :: st) := by
  refine g_aastN C 6 rfl (ovX_61 dA x S P h) (by omega) hdg ?_
  rw [ovX_wspools]
  exact kk
theorem XN_pE_tied (C : gC X cc own nm nL ret D dA N0 Y R) {ref : String} {z v : Int} (hz : 0 ≤ z ∧ z < 12) {i : Nat} (hs : ref = "WeaveDraft$Strand" ∨ Cond.sameField ref "WeaveDraft$Strand" "tied" "I" ∈ lw_all) (hl : Cond.fieldLink own i ref "tied" "I" ∈ lw_all) (hdg : decode cc pc = .ok (.putfield i, 3)) (kk : G X k n (ovX dA x (us S 0 (4 + z) v) P h) sz (pc + 3) L st) : G X k n (ovX dA x S P h) sz pc L (vI v :: .ref (x + 1 + 4 + 2 * z.toNat) :: st) := by
  rw [ovX_now]
  refine D_pE_tied C hz hs hl hdg ?_
  rw [ovX_dn]
  exact kk
theorem XT_pE_tied (C : gC X cc own nm nL ret D dA N0 Y R) {ref : String} {z v : Int} (hz : 0 ≤ z ∧ z < 12) {i : Nat} (hs : ref = "WeaveDraft$Strand" ∨ Cond.sameField ref "WeaveDraft$Strand" "tied" "I" ∈ lw_all) (hl : Cond.fieldLink own i ref "tied" "I" ∈ lw_all) (hdg : decode cc pc = .ok (.putfield i, 3)) (kk : G X k n (ovX dA x (us S 6 (4 + z) v) P h) sz (pc + 3) L st) : G X k n (ovX dA x S P h) sz pc L (vI v :: .ref (x + 29 + 4 + 2 * z.toNat) :: st) := by
  rw [ovX_tried]
  refine D_pE_tied C hz hs hl hdg ?_
  rw [ovX_dt]
  exact kk
theorem XN_pE_colour (C : gC X cc own nm nL ret D dA N0 Y R) {ref : String} {z v : Int} (hz : 0 ≤ z ∧ z < 12) {i : Nat} (hs : ref = "WeaveDraft$Strand" ∨ Cond.sameField ref "WeaveDraft$Strand" "colour" "I" ∈ lw_all) (hl : Cond.fieldLink own i ref "colour" "I" ∈ lw_all) (hdg : decode cc pc = .ok (.putfield i, 3)) (kk : G X k n (ovX dA x (us S 0 (34 + z) v) P h) sz (pc + 3) L st) : G X k n (ovX dA x S P h) sz pc L (vI v :: .ref (x + 1 + 4 + 2 * z.toNat) :: st) := by
  rw [ovX_now]
  refine D_pE_colour C hz hs hl hdg ?_
  rw [ovX_dn]
  exact kk
theorem XN_pP_tied (C : gC X cc own nm nL ret D dA N0 Y R) {ref : String} {z v : Int} (hz : 0 ≤ z ∧ z < 12) {i : Nat} (hs : ref = "WeaveDraft$Strand" ∨ Cond.sameField ref "WeaveDraft$Strand" "tied" "I" ∈ lw_all) (hl : Cond.fieldLink own i ref "tied" "I" ∈ lw_all) (hdg : decode cc pc = .ok (.putfield i, 3)) (kk : G X k n (ovX dA x (us S 0 (22 + z) v) P h) sz (pc + 3) L st) : G X k n (ovX dA x S P h) sz pc L (vI v :: .ref (x + 1 + 5 + 2 * z.toNat) :: st) := by
  rw [ovX_now]
  refine D_pP_tied C hz hs hl hdg ?_
  rw [ovX_dn]
  exact kk
theorem XN_pP_colour (C : gC X cc own nm nL ret D dA N0 Y R) {ref : String} {z v : Int} (hz : 0 ≤ z ∧ z < 12) {i : Nat} (hs : ref = "WeaveDraft$Strand" ∨ Cond.sameField ref "WeaveDraft$Strand" "colour" "I" ∈ lw_all) (hl : Cond.fieldLink own i ref "colour" "I" ∈ lw_all) (hdg : decode cc pc = .ok (.putfield i, 3)) (kk : G X k n (ovX dA x (us S 0 (46 + z) v) P h) sz (pc + 3) L st) : G X k n (ovX dA x S P h) sz pc L (vI v :: .ref (x + 1 + 5 + 2 * z.toNat) :: st) := by
  rw [ovX_now]
  refine D_pP_colour C hz hs hl hdg ?_
  rw [ovX_dn]
  exact kk
theorem XN_st_ties (C : gC X cc own nm nL ret D dA N0 Y R) {i v : Int} (hi : 0 ≤ i ∧ i < 6) (hdg : decode cc pc = .ok (.iastore, 1)) (kk : G X k n (ovX dA x (us S 0 (16 + i) v) P h) sz (pc + 1) L st) : G X k n (ovX dA x S P h) sz pc L (vI v :: vI i :: .ref (x + 1 + 1) :: st) := by
  rw [ovX_now]
  refine D_st_ties C hi hdg ?_
  rw [ovX_dn]
  exact kk
end XR
