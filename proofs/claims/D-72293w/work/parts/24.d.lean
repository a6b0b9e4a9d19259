/-! THE DRAFTS: a block of 28 cells at b (the draft, its ties, warp, weft, then end k at b+4+2k, pick k at b+5+2k), of the WeaveDraft at x; F: its 58 numbers (as the reference's row) -/
set_option maxRecDepth 100000
def tiF (F : Int → Int) : Int → Int := fun j => if 0 ≤ j ∧ j < 6 then F (16 + j) else 0
def dk (j : Nat) : Int := ((j - 4) / 2 : Nat)
def dO (x b : Nat) (F : Int → Int) : List Value := [vI (F 0), vI (F 1), vI (F 2), vI (F 3), .ref (b + 1), .ref (b + 2), .ref (b + 3), .ref x]
def dE (b : Nat) (F : Int → Int) (k : Int) : List Value := [vI (F (4 + k)), vI (F (34 + k)), vI k, .ref b]
def dP (b : Nat) (F : Int → Int) (k : Int) : List Value := [vI (F (22 + k)), vI (F (46 + k)), vI k, .ref b]
def wpF (b : Nat) : Int → Option Nat := fun j => if 0 ≤ j ∧ j < 12 then some (b + 4 + 2 * j.toNat) else none
def wfF (b : Nat) : Int → Option Nat := fun j => if 0 ≤ j ∧ j < 12 then some (b + 5 + 2 * j.toNat) else none
def dcell (dA : Nat → ClassId) (x b : Nat) (F : Int → Int) (j : Nat) : va_E :=
  if j = 0 then gO 1 (dO x b F) else if j = 1 then gI (dA 0) 6 (tiF F) else if j = 2 then gR (dA 4) 12 (wpF b) else if j = 3 then gR (dA 5) 12 (wfF b)
  else if j % 2 = 0 then gO 2 (dE b F (dk j)) else gO 3 (dP b F (dk j))
def isD (dA : Nat → ClassId) (x b : Nat) (F : Int → Int) (h : gH) : Prop := ∀ j, j < 28 → h (b + j) = some (dcell dA x b F j)
def ovD (dA : Nat → ClassId) (x b : Nat) (F : Int → Int) (h : gH) : gH := fun q => if b ≤ q ∧ q < b + 28 then some (dcell dA x b F (q - b)) else h q
theorem isD_ov (dA : Nat → ClassId) (x b : Nat) (F : Int → Int) (h : gH) : isD dA x b F (ovD dA x b F h) := by
  intro j hj
  unfold ovD
  rw [if_pos (by omega), Nat.add_sub_cancel_left]
theorem ovD_off (dA : Nat → ClassId) (x b : Nat) (F : Int → Int) (h : gH) {q : Nat} (hq : q < b ∨ b + 28 ≤ q) : ovD dA x b F h q = h q := by
  unfold ovD
  rw [if_neg (by omega)]
theorem ovD_same {dA : Nat → ClassId} {x b : Nat} {F : Int → Int} {h : gH} (hD : isD dA x b F h) : ovD dA x b F h = h := by
  funext q
  unfold ovD
  split
  · have := hD (q - b) (by omega)
    rw [show b + (q - b) = q by omega] at this
    exact this.symm
  · rfl
theorem ovD_ov (dA : Nat → ClassId) (x b : Nat) (F F' : Int → Int) (h : gH) : ovD dA x b F (ovD dA x b F' h) = ovD dA x b F h := by
  funext q
  unfold ovD
  split <;> rfl
theorem isD_off {dA : Nat → ClassId} {x b : Nat} {F : Int → Int} {h h' : gH} (hD : isD dA x b F h) (he : ∀ q, b ≤ q → q < b + 28 → h' q = h q) : isD dA x b F h' := fun j hj => (he (b + j) (by omega) (by omega)).trans (hD j hj)
theorem isD_ovo {dA : Nat → ClassId} {x y b c : Nat} {F G1 : Int → Int} {h : gH} (hD : isD dA x b F h) (hn : b + 28 ≤ c ∨ c + 28 ≤ b) : isD dA x b F (ovD dA y c G1 h) := isD_off hD (fun q h1 h2 => ovD_off _ _ _ _ _ (by omega))
theorem isD_gup {dA : Nat → ClassId} {x b q : Nat} {F : Int → Int} {h : gH} {e : va_E} (hD : isD dA x b F h) (hn : q < b ∨ b + 28 ≤ q) : isD dA x b F (gup h q e) := isD_off hD (fun p h1 h2 => gup_n _ _ (by omega))
theorem ovD_gup (dA : Nat → ClassId) (x b : Nat) (F : Int → Int) (h : gH) {q : Nat} {e : va_E} (hn : q < b ∨ b + 28 ≤ q) : gup (ovD dA x b F h) q e = ovD dA x b F (gup h q e) := by
  funext p
  by_cases hp : p = q
  · subst hp
    rw [gup_s, ovD_off _ _ _ _ _ hn, gup_s]
  · rw [gup_n _ _ hp]
    unfold ovD
    split
    · rfl
    · rw [gup_n _ _ hp]
theorem isD_0 {dA : Nat → ClassId} {x b : Nat} {F : Int → Int} {h : gH} (hD : isD dA x b F h) : h b = some (gO 1 (dO x b F)) := hD 0 (by omega)
theorem isD_1 {dA : Nat → ClassId} {x b : Nat} {F : Int → Int} {h : gH} (hD : isD dA x b F h) : h (b + 1) = some (gI (dA 0) 6 (tiF F)) := hD 1 (by omega)
theorem isD_2 {dA : Nat → ClassId} {x b : Nat} {F : Int → Int} {h : gH} (hD : isD dA x b F h) : h (b + 2) = some (gR (dA 4) 12 (wpF b)) := hD 2 (by omega)
theorem isD_3 {dA : Nat → ClassId} {x b : Nat} {F : Int → Int} {h : gH} (hD : isD dA x b F h) : h (b + 3) = some (gR (dA 5) 12 (wfF b)) := hD 3 (by omega)
theorem dcell_E (dA : Nat → ClassId) (x b : Nat) (F : Int → Int) {k : Int} (hk : 0 ≤ k ∧ k < 12) : dcell dA x b F (4 + 2 * k.toNat) = gO 2 (dE b F k) := by
  have e : dk (4 + 2 * k.toNat) = k := by unfold dk; omega
  unfold dcell
  rw [if_neg (by omega), if_neg (by omega), if_neg (by omega), if_neg (by omega), if_pos (by omega), e]
theorem dcell_P (dA : Nat → ClassId) (x b : Nat) (F : Int → Int) {k : Int} (hk : 0 ≤ k ∧ k < 12) : dcell dA x b F (5 + 2 * k.toNat) = gO 3 (dP b F k) := by
  have e : dk (5 + 2 * k.toNat) = k := by unfold dk; omega
  unfold dcell
  rw [if_neg (by omega), if_neg (by omega), if_neg (by omega), if_neg (by omega), if_neg (by omega), e]
theorem isD_E {dA : Nat → ClassId} {x b : Nat} {F : Int → Int} {h : gH} (hD : isD dA x b F h) {k : Int} (hk : 0 ≤ k ∧ k < 12) : h (b + 4 + 2 * k.toNat) = some (gO 2 (dE b F k)) := by
  have := hD (4 + 2 * k.toNat) (by omega)
  rw [dcell_E dA x b F hk, ← Nat.add_assoc] at this
  exact this
theorem isD_P {dA : Nat → ClassId} {x b : Nat} {F : Int → Int} {h : gH} (hD : isD dA x b F h) {k : Int} (hk : 0 ≤ k ∧ k < 12) : h (b + 5 + 2 * k.toNat) = some (gO 3 (dP b F k)) := by
  have := hD (5 + 2 * k.toNat) (by omega)
  rw [dcell_P dA x b F hk, ← Nat.add_assoc] at this
  exact this
/-- which numbers a cell of the block shows -/
def dpl (i : Nat) (p : Int) : Prop := if i = 0 then 0 ≤ p ∧ p < 4 else if i = 1 then 16 ≤ p ∧ p < 22 else if i = 2 ∨ i = 3 then False else if i % 2 = 0 then p = 4 + dk i ∨ p = 34 + dk i else p = 22 + dk i ∨ p = 46 + dk i
theorem dcell_n (dA : Nat → ClassId) (x b : Nat) (F : Int → Int) {i : Nat} {p : Int} (v : Int) (hn : ¬ dpl i p) : dcell dA x b (uI F p v) i = dcell dA x b F i := by
  unfold dpl at hn
  unfold dcell
  by_cases h0 : i = 0
  · subst h0
    simp only [if_pos] at hn ⊢
    unfold dO
    rw [uI_n _ _ (by omega), uI_n _ _ (by omega), uI_n _ _ (by omega), uI_n _ _ (by omega)]
  · rw [if_neg h0] at hn ⊢
    rw [if_neg h0]
    by_cases h1 : i = 1
    · subst h1
      simp only [if_pos] at hn ⊢
      congr 1
      funext j
      unfold tiF
      split
      · exact uI_n _ _ (by omega)
      · rfl
    · rw [if_neg h1] at hn ⊢
      rw [if_neg h1]
      by_cases h2 : i = 2
      · rw [if_pos h2, if_pos h2]
      · rw [if_neg h2, if_neg h2]
        by_cases h3 : i = 3
        · rw [if_pos h3, if_pos h3]
        · rw [if_neg h3, if_neg h3]
          rw [if_neg (by omega)] at hn
          by_cases h4 : i % 2 = 0
          · rw [if_pos h4] at hn
            rw [if_pos h4, if_pos h4]
            unfold dE
            rw [uI_n _ _ (by omega), uI_n _ _ (by omega)]
          · rw [if_neg h4] at hn
            rw [if_neg h4, if_neg h4]
            unfold dP
            rw [uI_n _ _ (by omega), uI_n _ _ (by omega)]
theorem ovD_up (dA : Nat → ClassId) (x b : Nat) (F F' : Int → Int) (h : gH) (j : Nat) (e : va_E) (hj : j < 28) (h1 : dcell dA x b F' j = e) (h2 : ∀ i, i < 28 → i ≠ j → dcell dA x b F' i = dcell dA x b F i) : gup (ovD dA x b F h) (b + j) e = ovD dA x b F' h := by
  funext q
  by_cases hq : q = b + j
  · subst hq
    rw [gup_s]
    unfold ovD
    rw [if_pos (by omega), Nat.add_sub_cancel_left, h1]
  · rw [gup_n _ _ hq]
    unfold ovD
    by_cases hr : b ≤ q ∧ q < b + 28
    · rw [if_pos hr, if_pos hr, h2 (q - b) (by omega) (by omega)]
    · rw [if_neg hr, if_neg hr]
theorem dpl_no {i j : Nat} {p : Int} (hi : i < 28) (hn : i ≠ j) (hp : dpl j p) (hj : j < 28) : ¬ dpl i p := by
  unfold dpl dk at *
  intro hq
  (repeat' split at hp) <;> (repeat' split at hq) <;> omega
theorem ovD_up1 (dA : Nat → ClassId) (x b : Nat) (F : Int → Int) (h : gH) (j : Nat) (p v : Int) (e : va_E) (hj : j < 28) (hp : dpl j p) (h1 : dcell dA x b (uI F p v) j = e) : gup (ovD dA x b F h) (b + j) e = ovD dA x b (uI F p v) h :=
  ovD_up dA x b F (uI F p v) h j e hj h1 (fun i hi hn => dcell_n dA x b F v (dpl_no hi hn hp hj))
theorem ovD_f0 (dA : Nat → ClassId) (x b : Nat) (F : Int → Int) (h : gH) (v : Int) : gup (ovD dA x b F h) b (gO 1 ((dO x b F).set 0 (vI v))) = ovD dA x b (uI F 0 v) h := by
  refine ovD_up1 dA x b F h 0 0 v _ (by omega) (by unfold dpl; rw [if_pos rfl]; omega) ?_
  show gO 1 (dO x b (uI F 0 v)) = _
  unfold dO
  simp [uI]
theorem ovD_f1 (dA : Nat → ClassId) (x b : Nat) (F : Int → Int) (h : gH) (v : Int) : gup (ovD dA x b F h) b (gO 1 ((dO x b F).set 1 (vI v))) = ovD dA x b (uI F 1 v) h := by
  refine ovD_up1 dA x b F h 0 1 v _ (by omega) (by unfold dpl; rw [if_pos rfl]; omega) ?_
  show gO 1 (dO x b (uI F 1 v)) = _
  unfold dO
  simp [uI]
theorem ovD_f2 (dA : Nat → ClassId) (x b : Nat) (F : Int → Int) (h : gH) (v : Int) : gup (ovD dA x b F h) b (gO 1 ((dO x b F).set 2 (vI v))) = ovD dA x b (uI F 2 v) h := by
  refine ovD_up1 dA x b F h 0 2 v _ (by omega) (by unfold dpl; rw [if_pos rfl]; omega) ?_
  show gO 1 (dO x b (uI F 2 v)) = _
  unfold dO
  simp [uI]
theorem ovD_f3 (dA : Nat → ClassId) (x b : Nat) (F : Int → Int) (h : gH) (v : Int) : gup (ovD dA x b F h) b (gO 1 ((dO x b F).set 3 (vI v))) = ovD dA x b (uI F 3 v) h := by
  refine ovD_up1 dA x b F h 0 3 v _ (by omega) (by unfold dpl; rw [if_pos rfl]; omega) ?_
  show gO 1 (dO x b (uI F 3 v)) = _
  unfold dO
  simp [uI]
theorem ovD_t (dA : Nat → ClassId) (x b : Nat) (F : Int → Int) (h : gH) {t : Int} (v : Int) (ht : 0 ≤ t ∧ t < 6) : gup (ovD dA x b F h) (b + 1) (gI (dA 0) 6 (uI (tiF F) t v)) = ovD dA x b (uI F (16 + t) v) h := by
  refine ovD_up1 dA x b F h 1 (16 + t) v _ (by omega) (by unfold dpl; simp; omega) ?_
  show gI (dA 0) 6 (tiF (uI F (16 + t) v)) = _
  congr 1
  funext j
  unfold tiF uI
  by_cases hj : j = t
  · subst hj; rw [if_pos ht, if_pos rfl, if_pos rfl]
  · show (if 0 ≤ j ∧ j < 6 then (if 16 + j = 16 + t then v else F (16 + j)) else 0) = (if j = t then v else if 0 ≤ j ∧ j < 6 then F (16 + j) else 0)
    rw [if_neg hj]
    split
    · rw [if_neg (by omega)]
    · rfl
theorem ovD_E0 (dA : Nat → ClassId) (x b : Nat) (F : Int → Int) (h : gH) {k : Int} (v : Int) (hk : 0 ≤ k ∧ k < 12) : gup (ovD dA x b F h) (b + 4 + 2 * k.toNat) (gO 2 ((dE b F k).set 0 (vI v))) = ovD dA x b (uI F (4 + k) v) h := by
  rw [Nat.add_assoc]
  refine ovD_up1 dA x b F h (4 + 2 * k.toNat) (4 + k) v _ (by omega) (by unfold dpl dk; rw [if_neg (by omega), if_neg (by omega), if_neg (by omega)]; split <;> omega) ?_
  rw [dcell_E dA x b _ hk]
  unfold dE
  simp only [uI_s, List.set]
  rw [uI_n _ _ (by omega)]
theorem ovD_E1 (dA : Nat → ClassId) (x b : Nat) (F : Int → Int) (h : gH) {k : Int} (v : Int) (hk : 0 ≤ k ∧ k < 12) : gup (ovD dA x b F h) (b + 4 + 2 * k.toNat) (gO 2 ((dE b F k).set 1 (vI v))) = ovD dA x b (uI F (34 + k) v) h := by
  rw [Nat.add_assoc]
  refine ovD_up1 dA x b F h (4 + 2 * k.toNat) (34 + k) v _ (by omega) (by unfold dpl dk; rw [if_neg (by omega), if_neg (by omega), if_neg (by omega)]; split <;> omega) ?_
  rw [dcell_E dA x b _ hk]
  unfold dE
  simp only [uI_s, List.set]
  rw [uI_n _ _ (by omega)]
theorem ovD_P0 (dA : Nat → ClassId) (x b : Nat) (F : Int → Int) (h : gH) {k : Int} (v : Int) (hk : 0 ≤ k ∧ k < 12) : gup (ovD dA x b F h) (b + 5 + 2 * k.toNat) (gO 3 ((dP b F k).set 0 (vI v))) = ovD dA x b (uI F (22 + k) v) h := by
  rw [Nat.add_assoc]
  refine ovD_up1 dA x b F h (5 + 2 * k.toNat) (22 + k) v _ (by omega) (by unfold dpl dk; rw [if_neg (by omega), if_neg (by omega), if_neg (by omega)]; split <;> omega) ?_
  rw [dcell_P dA x b _ hk]
  unfold dP
  simp only [uI_s, List.set]
  rw [uI_n _ _ (by omega)]
theorem ovD_P1 (dA : Nat → ClassId) (x b : Nat) (F : Int → Int) (h : gH) {k : Int} (v : Int) (hk : 0 ≤ k ∧ k < 12) : gup (ovD dA x b F h) (b + 5 + 2 * k.toNat) (gO 3 ((dP b F k).set 1 (vI v))) = ovD dA x b (uI F (46 + k) v) h := by
  rw [Nat.add_assoc]
  refine ovD_up1 dA x b F h (5 + 2 * k.toNat) (46 + k) v _ (by omega) (by unfold dpl dk; rw [if_neg (by omega), if_neg (by omega), if_neg (by omega)]; split <;> omega) ?_
  rw [dcell_P dA x b _ hk]
  unfold dP
  simp only [uI_s, List.set]
  rw [uI_n _ _ (by omega)]
section DR
variable {X : gX} {cc : ByteArray} {own nm : String} {nL : Nat} {ret : Option FieldType} {D : va_G} {dA : Nat → ClassId} {N0 : Nat} {Y : State → Prop} {R : Room}
variable {k n x b : Nat} {F : Int → Int} {h : gH} {sz pc : Nat} {L : List (Option Value)} {st : List Value}
theorem D_g_ends (C : gC X cc own nm nL ret D dA N0 Y R) (hD : isD dA x b F h) {i : Nat} (hl : Cond.fieldLink own i "WeaveDraft$Draft" "ends" "I" ∈ lw_all) (hdg : decode cc pc = .ok (.getfield i, 3)) (kk : G X k n h sz (pc + 3) L (vI (F 0) :: st)) : G X k n h sz pc L (.ref b :: st) :=
  g_get C (isD_0 hD) rfl in_X1 0 (by decide) hl (Or.inl rfl) rfl hdg kk
theorem D_g_picks (C : gC X cc own nm nL ret D dA N0 Y R) (hD : isD dA x b F h) {i : Nat} (hl : Cond.fieldLink own i "WeaveDraft$Draft" "picks" "I" ∈ lw_all) (hdg : decode cc pc = .ok (.getfield i, 3)) (kk : G X k n h sz (pc + 3) L (vI (F 1) :: st)) : G X k n h sz pc L (.ref b :: st) :=
  g_get C (isD_0 hD) rfl in_X1 1 (by decide) hl (Or.inl rfl) rfl hdg kk
theorem D_g_shafts (C : gC X cc own nm nL ret D dA N0 Y R) (hD : isD dA x b F h) {i : Nat} (hl : Cond.fieldLink own i "WeaveDraft$Draft" "shafts" "I" ∈ lw_all) (hdg : decode cc pc = .ok (.getfield i, 3)) (kk : G X k n h sz (pc + 3) L (vI (F 2) :: st)) : G X k n h sz pc L (.ref b :: st) :=
  g_get C (isD_0 hD) rfl in_X1 2 (by decide) hl (Or.inl rfl) rfl hdg kk
theorem D_g_treadles (C : gC X cc own nm nL ret D dA N0 Y R) (hD : isD dA x b F h) {i : Nat} (hl : Cond.fieldLink own i "WeaveDraft$Draft" "treadles" "I" ∈ lw_all) (hdg : decode cc pc = .ok (.getfield i, 3)) (kk : G X k n h sz (pc + 3) L (vI (F 3) :: st)) : G X k n h sz pc L (.ref b :: st) :=
  g_get C (isD_0 hD) rfl in_X1 3 (by decide) hl (Or.inl rfl) rfl hdg kk
theorem D_g_ties (C : gC X cc own nm nL ret D dA N0 Y R) (hD : isD dA x b F h) {i : Nat} (hl : Cond.fieldLink own i "WeaveDraft$Draft" "ties" "[I" ∈ lw_all) (hdg : decode cc pc = .ok (.getfield i, 3)) (kk : G X k n h sz (pc + 3) L (.ref (b + 1) :: st)) : G X k n h sz pc L (.ref b :: st) :=
  g_get C (isD_0 hD) rfl in_X1 4 (by decide) hl (Or.inl rfl) rfl hdg kk
theorem D_g_warp (C : gC X cc own nm nL ret D dA N0 Y R) (hD : isD dA x b F h) {i : Nat} (hl : Cond.fieldLink own i "WeaveDraft$Draft" "warp" "[LWeaveDraft$Draft$End;" ∈ lw_all) (hdg : decode cc pc = .ok (.getfield i, 3)) (kk : G X k n h sz (pc + 3) L (.ref (b + 2) :: st)) : G X k n h sz pc L (.ref b :: st) :=
  g_get C (isD_0 hD) rfl in_X1 5 (by decide) hl (Or.inl rfl) rfl hdg kk
theorem D_g_weft (C : gC X cc own nm nL ret D dA N0 Y R) (hD : isD dA x b F h) {i : Nat} (hl : Cond.fieldLink own i "WeaveDraft$Draft" "weft" "[LWeaveDraft$Draft$Pick;" ∈ lw_all) (hdg : decode cc pc = .ok (.getfield i, 3)) (kk : G X k n h sz (pc + 3) L (.ref (b + 3) :: st)) : G X k n h sz pc L (.ref b :: st) :=
  g_get C (isD_0 hD) rfl in_X1 6 (by decide) hl (Or.inl rfl) rfl hdg kk
theorem D_g_this0 (C : gC X cc own nm nL ret D dA N0 Y R) (hD : isD dA x b F h) {i : Nat} (hl : Cond.fieldLink own i "WeaveDraft$Draft" "this$0" "LWeaveDraft;" ∈ lw_all) (hdg : decode cc pc = .ok (.getfield i, 3)) (kk : G X k n h sz (pc + 3) L (.ref x :: st)) : G X k n h sz pc L (.ref b :: st) :=
  g_get C (isD_0 hD) rfl in_X1 7 (by decide) hl (Or.inl rfl) rfl hdg kk
theorem D_p_ends (C : gC X cc own nm nL ret D dA N0 Y R) {i : Nat} {v : Int} (hl : Cond.fieldLink own i "WeaveDraft$Draft" "ends" "I" ∈ lw_all) (hdg : decode cc pc = .ok (.putfield i, 3)) (kk : G X k n (ovD dA x b (uI F 0 v) h) sz (pc + 3) L st) : G X k n (ovD dA x b F h) sz pc L (vI v :: .ref b :: st) := by
  refine g_put C (isD_0 (isD_ov dA x b F h)) rfl in_X1 0 (by decide) tyX1 tyX1_ok nmX1 hl (Or.inl rfl) rfl rfl rfl (Nat.le_of_ble_eq_true rfl) hdg ?_
  rw [ovD_f0]
  exact kk
theorem D_p_picks (C : gC X cc own nm nL ret D dA N0 Y R) {i : Nat} {v : Int} (hl : Cond.fieldLink own i "WeaveDraft$Draft" "picks" "I" ∈ lw_all) (hdg : decode cc pc = .ok (.putfield i, 3)) (kk : G X k n (ovD dA x b (uI F 1 v) h) sz (pc + 3) L st) : G X k n (ovD dA x b F h) sz pc L (vI v :: .ref b :: st) := by
  refine g_put C (isD_0 (isD_ov dA x b F h)) rfl in_X1 1 (by decide) tyX1 tyX1_ok nmX1 hl (Or.inl rfl) rfl rfl rfl (Nat.le_of_ble_eq_true rfl) hdg ?_
  rw [ovD_f1]
  exact kk
theorem D_p_shafts (C : gC X cc own nm nL ret D dA N0 Y R) {i : Nat} {v : Int} (hl : Cond.fieldLink own i "WeaveDraft$Draft" "shafts" "I" ∈ lw_all) (hdg : decode cc pc = .ok (.putfield i, 3)) (kk : G X k n (ovD dA x b (uI F 2 v) h) sz (pc + 3) L st) : G X k n (ovD dA x b F h) sz pc L (vI v :: .ref b :: st) := by
  refine g_put C (isD_0 (isD_ov dA x b F h)) rfl in_X1 2 (by decide) tyX1 tyX1_ok nmX1 hl (Or.inl rfl) rfl rfl rfl (Nat.le_of_ble_eq_true rfl) hdg ?_
  rw [ovD_f2]
  exact kk
theorem D_p_treadles (C : gC X cc own nm nL ret D dA N0 Y R) {i : Nat} {v : Int} (hl : Cond.fieldLink own i "WeaveDraft$Draft" "treadles" "I" ∈ lw_all) (hdg : decode cc pc = .ok (.putfield i, 3)) (kk : G X k n (ovD dA x b (uI F 3 v) h) sz (pc + 3) L st) : G X k n (ovD dA x b F h) sz pc L (vI v :: .ref b :: st) := by
  refine g_put C (isD_0 (isD_ov dA x b F h)) rfl in_X1 3 (by decide) tyX1 tyX1_ok nmX1 hl (Or.inl rfl) rfl rfl rfl (Nat.le_of_ble_eq_true rfl) hdg ?_
  rw [ovD_f3]
  exact kk
theorem D_ld_ties (C : gC X cc own nm nL ret D dA N0 Y R) (hD : isD dA x b F h) {i : Int} (hi : 0 ≤ i ∧ i < 6) (hdg : decode cc pc = .ok (.iaload, 1)) (kk : G X k n h sz (pc + 1) L (vI (F (16 + i)) :: st)) : G X k n h sz pc L (vI i :: .ref (b + 1) :: st) := by
  refine g_iald C (isD_1 hD) (by omega) hdg ?_
  rw [show tiF F i = F (16 + i) by unfold tiF; rw [if_pos hi]]
  exact kk
theorem D_st_ties (C : gC X cc own nm nL ret D dA N0 Y R) {i v : Int} (hi : 0 ≤ i ∧ i < 6) (hdg : decode cc pc = .ok (.iastore, 1)) (kk : G X k n (ovD dA x b (uI F (16 + i) v) h) sz (pc + 1) L st) : G X k n (ovD dA x b F h) sz pc L (vI v :: vI i :: .ref (b + 1) :: st) := by
  refine g_iast C (isD_1 (isD_ov dA x b F h)) (by omega) hdg ?_
  rw [ovD_t _ _ _ _ _ _ hi]
  exact kk
theorem D_ld_warp (C : gC X cc own nm nL ret D dA N0 Y R) (hD : isD dA x b F h) {i : Int} (hi : 0 ≤ i ∧ i < 12) (hdg : decode cc pc = .ok (.aaload, 1)) (kk : G X k n h sz (pc + 1) L (.ref (b + 4 + 2 * i.toNat) :: st)) : G X k n h sz pc L (vI i :: .ref (b + 2) :: st) := by
  refine g_aald C 4 rfl rfl (isD_2 hD) (by omega) hdg ?_
  rw [show wpF b i = some (b + 4 + 2 * i.toNat) by unfold wpF; rw [if_pos hi]]
  exact kk
theorem D_ld_weft (C : gC X cc own nm nL ret D dA N0 Y R) (hD : isD dA x b F h) {i : Int} (hi : 0 ≤ i ∧ i < 12) (hdg : decode cc pc = .ok (.aaload, 1)) (kk : G X k n h sz (pc + 1) L (.ref (b + 5 + 2 * i.toNat) :: st)) : G X k n h sz pc L (vI i :: .ref (b + 3) :: st) := by
  refine g_aald C 5 rfl rfl (isD_3 hD) (by omega) hdg ?_
  rw [show wfF b i = some (b + 5 + 2 * i.toNat) by unfold wfF; rw [if_pos hi]]
  exact kk
theorem D_gE_tied (C : gC X cc own nm nL ret D dA N0 Y R) {ref : String} (hD : isD dA x b F h) {z : Int} (hz : 0 ≤ z ∧ z < 12) {i : Nat} (hs : ref = "WeaveDraft$Strand" ∨ Cond.sameField ref "WeaveDraft$Strand" "tied" "I" ∈ lw_all) (hl : Cond.fieldLink own i ref "tied" "I" ∈ lw_all) (hdg : decode cc pc = .ok (.getfield i, 3)) (kk : G X k n h sz (pc + 3) L (vI (F (4 + z)) :: st)) : G X k n h sz pc L (.ref (b + 4 + 2 * z.toNat) :: st) :=
  g_get C (isD_E hD hz) rfl in_X3 0 (by decide) hl hs rfl hdg kk
theorem D_pE_tied (C : gC X cc own nm nL ret D dA N0 Y R) {ref : String} {z v : Int} (hz : 0 ≤ z ∧ z < 12) {i : Nat} (hs : ref = "WeaveDraft$Strand" ∨ Cond.sameField ref "WeaveDraft$Strand" "tied" "I" ∈ lw_all) (hl : Cond.fieldLink own i ref "tied" "I" ∈ lw_all) (hdg : decode cc pc = .ok (.putfield i, 3)) (kk : G X k n (ovD dA x b (uI F (4 + z) v) h) sz (pc + 3) L st) : G X k n (ovD dA x b F h) sz pc L (vI v :: .ref (b + 4 + 2 * z.toNat) :: st) := by
  refine g_put C (isD_E (isD_ov dA x b F h) hz) rfl in_X3 0 (by decide) tyX3 tyX3_ok nmX3 hl hs rfl rfl rfl (Nat.le_of_ble_eq_true rfl) hdg ?_
  rw [ovD_E0 _ _ _ _ _ _ hz]
  exact kk
theorem D_gE_colour (C : gC X cc own nm nL ret D dA N0 Y R) {ref : String} (hD : isD dA x b F h) {z : Int} (hz : 0 ≤ z ∧ z < 12) {i : Nat} (hs : ref = "WeaveDraft$Strand" ∨ Cond.sameField ref "WeaveDraft$Strand" "colour" "I" ∈ lw_all) (hl : Cond.fieldLink own i ref "colour" "I" ∈ lw_all) (hdg : decode cc pc = .ok (.getfield i, 3)) (kk : G X k n h sz (pc + 3) L (vI (F (34 + z)) :: st)) : G X k n h sz pc L (.ref (b + 4 + 2 * z.toNat) :: st) :=
  g_get C (isD_E hD hz) rfl in_X3 1 (by decide) hl hs rfl hdg kk
theorem D_pE_colour (C : gC X cc own nm nL ret D dA N0 Y R) {ref : String} {z v : Int} (hz : 0 ≤ z ∧ z < 12) {i : Nat} (hs : ref = "WeaveDraft$Strand" ∨ Cond.sameField ref "WeaveDraft$Strand" "colour" "I" ∈ lw_all) (hl : Cond.fieldLink own i ref "colour" "I" ∈ lw_all) (hdg : decode cc pc = .ok (.putfield i, 3)) (kk : G X k n (ovD dA x b (uI F (34 + z) v) h) sz (pc + 3) L st) : G X k n (ovD dA x b F h) sz pc L (vI v :: .ref (b + 4 + 2 * z.toNat) :: st) := by
  refine g_put C (isD_E (isD_ov dA x b F h) hz) rfl in_X3 1 (by decide) tyX3 tyX3_ok nmX3 hl hs rfl rfl rfl (Nat.le_of_ble_eq_true rfl) hdg ?_
  rw [ovD_E1 _ _ _ _ _ _ hz]
  exact kk
theorem D_gE_number (C : gC X cc own nm nL ret D dA N0 Y R) (hD : isD dA x b F h) {z : Int} (hz : 0 ≤ z ∧ z < 12) {i : Nat} (hl : Cond.fieldLink own i "WeaveDraft$Draft$End" "number" "I" ∈ lw_all) (hdg : decode cc pc = .ok (.getfield i, 3)) (kk : G X k n h sz (pc + 3) L (vI z :: st)) : G X k n h sz pc L (.ref (b + 4 + 2 * z.toNat) :: st) :=
  g_get C (isD_E hD hz) rfl in_X3 2 (by decide) hl (Or.inl rfl) rfl hdg kk
theorem D_gE_this1 (C : gC X cc own nm nL ret D dA N0 Y R) (hD : isD dA x b F h) {z : Int} (hz : 0 ≤ z ∧ z < 12) {i : Nat} (hl : Cond.fieldLink own i "WeaveDraft$Draft$End" "this$1" "LWeaveDraft$Draft;" ∈ lw_all) (hdg : decode cc pc = .ok (.getfield i, 3)) (kk : G X k n h sz (pc + 3) L (.ref b :: st)) : G X k n h sz pc L (.ref (b + 4 + 2 * z.toNat) :: st) :=
  g_get C (isD_E hD hz) rfl in_X3 3 (by decide) hl (Or.inl rfl) rfl hdg kk
theorem D_gP_tied (C : gC X cc own nm nL ret D dA N0 Y R) {ref : String} (hD : isD dA x b F h) {z : Int} (hz : 0 ≤ z ∧ z < 12) {i : Nat} (hs : ref = "WeaveDraft$Strand" ∨ Cond.sameField ref "WeaveDraft$Strand" "tied" "I" ∈ lw_all) (hl : Cond.fieldLink own i ref "tied" "I" ∈ lw_all) (hdg : decode cc pc = .ok (.getfield i, 3)) (kk : G X k n h sz (pc + 3) L (vI (F (22 + z)) :: st)) : G X k n h sz pc L (.ref (b + 5 + 2 * z.toNat) :: st) :=
  g_get C (isD_P hD hz) rfl in_X4 0 (by decide) hl hs rfl hdg kk
theorem D_pP_tied (C : gC X cc own nm nL ret D dA N0 Y R) {ref : String} {z v : Int} (hz : 0 ≤ z ∧ z < 12) {i : Nat} (hs : ref = "WeaveDraft$Strand" ∨ Cond.sameField ref "WeaveDraft$Strand" "tied" "I" ∈ lw_all) (hl : Cond.fieldLink own i ref "tied" "I" ∈ lw_all) (hdg : decode cc pc = .ok (.putfield i, 3)) (kk : G X k n (ovD dA x b (uI F (22 + z) v) h) sz (pc + 3) L st) : G X k n (ovD dA x b F h) sz pc L (vI v :: .ref (b + 5 + 2 * z.toNat) :: st) := by
  refine g_put C (isD_P (isD_ov dA x b F h) hz) rfl in_X4 0 (by decide) tyX4 tyX4_ok nmX4 hl hs rfl rfl rfl (Nat.le_of_ble_eq_true rfl) hdg ?_
  rw [ovD_P0 _ _ _ _ _ _ hz]
  exact kk
theorem D_gP_colour (C : gC X cc own nm nL ret D dA N0 Y R) {ref : String} (hD : isD dA x b F h) {z : Int} (hz : 0 ≤ z ∧ z < 12) {i : Nat} (hs : ref = "WeaveDraft$Strand" ∨ Cond.sameField ref "WeaveDraft$Strand" "colour" "I" ∈ lw_all) (hl : Cond.fieldLink own i ref "colour" "I" ∈ lw_all) (hdg : decode cc pc = .ok (.getfield i, 3)) (kk : G X k n h sz (pc + 3) L (vI (F (46 + z)) :: st)) : G X k n h sz pc L (.ref (b + 5 + 2 * z.toNat) :: st) :=
  g_get C (isD_P hD hz) rfl in_X4 1 (by decide) hl hs rfl hdg kk
theorem D_pP_colour (C : gC X cc own nm nL ret D dA N0 Y R) {ref : String} {z v : Int} (hz : 0 ≤ z ∧ z < 12) {i : Nat} (hs : ref = "WeaveDraft$Strand" ∨ Cond.sameField ref "WeaveDraft$Strand" "colour" "I" ∈ lw_all) (hl : Cond.fieldLink own i ref "colour" "I" ∈ lw_all) (hdg : decode cc pc = .ok (.putfield i, 3)) (kk : G X k n (ovD dA x b (uI F (46 + z) v) h) sz (pc + 3) L st) : G X k n (ovD dA x b F h) sz pc L (vI v :: .ref (b + 5 + 2 * z.toNat) :: st) := by
  refine g_put C (isD_P (isD_ov dA x b F h) hz) rfl in_X4 1 (by decide) tyX4 tyX4_ok nmX4 hl hs rfl rfl rfl (Nat.le_of_ble_eq_true rfl) hdg ?_
  rw [ovD_P1 _ _ _ _ _ _ hz]
  exact kk
theorem D_gP_number (C : gC X cc own nm nL ret D dA N0 Y R) (hD : isD dA x b F h) {z : Int} (hz : 0 ≤ z ∧ z < 12) {i : Nat} (hl : Cond.fieldLink own i "WeaveDraft$Draft$Pick" "number" "I" ∈ lw_all) (hdg : decode cc pc = .ok (.getfield i, 3)) (kk : G X k n h sz (pc + 3) L (vI z :: st)) : G X k n h sz pc L (.ref (b + 5 + 2 * z.toNat) :: st) :=
  g_get C (isD_P hD hz) rfl in_X4 2 (by decide) hl (Or.inl rfl) rfl hdg kk
theorem D_gP_this1 (C : gC X cc own nm nL ret D dA N0 Y R) (hD : isD dA x b F h) {z : Int} (hz : 0 ≤ z ∧ z < 12) {i : Nat} (hl : Cond.fieldLink own i "WeaveDraft$Draft$Pick" "this$1" "LWeaveDraft$Draft;" ∈ lw_all) (hdg : decode cc pc = .ok (.getfield i, 3)) (kk : G X k n h sz (pc + 3) L (.ref b :: st)) : G X k n h sz pc L (.ref (b + 5 + 2 * z.toNat) :: st) :=
  g_get C (isD_P hD hz) rfl in_X4 3 (by decide) hl (Or.inl rfl) rfl hdg kk
end DR
