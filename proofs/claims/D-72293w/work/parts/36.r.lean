/-! WeaveDraft's drafts and spools: thirteen slots (0..7 backs, 8 9 kept, 10.. spools), each null or a block of its own beside the object -/
set_option maxRecDepth 100000
def rfS (P : PS) (i : Int) : Option Nat := if i < 8 then P 1 i else if i < 10 then P 0 (i - 8) else P 2 (i - 10)
def lnS (i : Int) : Nat := if i < 10 then 28 else 2
def bkF (S : MS) (i : Int) : Int → Int := fun j => S 0 (58 + 58 * i + j)
def live (S : MS) (i : Int) : Prop := if i < 8 then i < S 10 2 else if i < 10 then S 2 (i - 8) = 1 else 0 ≤ S 4 (i - 10)
def slotOk (dA : Nat → ClassId) (x : Nat) (S : MS) (h : gH) (i : Int) (p : Nat) : Prop :=
  if i < 10 then ∃ F, isD dA x p F h ∧ (live S i → ∀ j : Int, 0 ≤ j → j < 58 → F j = bkF S i j)
  else ∃ L1 : Int → Int, h p = some (gO 9 [.ref (p + 1), vI (S 4 (i - 10))]) ∧ h (p + 1) = some (gI (dA 0) 8 L1) ∧ ∀ j : Int, 0 ≤ j → j < S 4 (i - 10) → L1 j = S 5 (8 * (i - 10) + j)
def rep (dA : Nat → ClassId) (x : Nat) (S : MS) (P : PS) (h : gH) (sz : Nat) : Prop :=
  ((0 ≤ S 10 2 ∧ S 10 2 ≤ 8) ∧ x + 73 ≤ sz) ∧
  (∀ i : Int, 0 ≤ i → i < 13 → (rfS P i = none → ¬ live S i) ∧ ∀ p : Nat, rfS P i = some p → (8 ≤ i → live S i) ∧ x + 73 ≤ p ∧ p + lnS i ≤ sz ∧ slotOk dA x S h i p) ∧
  ∀ (i j : Int) (p q : Nat), 0 ≤ i → i < j → j < 13 → rfS P i = some p → rfS P j = some q → p + lnS i ≤ q ∨ q + lnS j ≤ p
theorem slotOk_fr {dA : Nat → ClassId} {x p : Nat} {S S' : MS} {h h' : gH} {i : Int} (hs : slotOk dA x S h i p) (he : ∀ q : Nat, p ≤ q → q < p + lnS i → h' q = h q)
    (h1 : i < 10 → live S' i → live S i ∧ ∀ j : Int, 0 ≤ j → j < 58 → bkF S' i j = bkF S i j) (h2 : 10 ≤ i → S' 4 (i - 10) = S 4 (i - 10) ∧ ∀ j : Int, 0 ≤ j → j < S 4 (i - 10) → S' 5 (8 * (i - 10) + j) = S 5 (8 * (i - 10) + j)) : slotOk dA x S' h' i p := by
  unfold slotOk lnS at *
  by_cases hi : i < 10
  · rw [if_pos hi] at hs he ⊢
    obtain ⟨F, f1, f2⟩ := hs
    refine ⟨F, isD_off f1 he, fun hl j j0 j1 => ?_⟩
    obtain ⟨g1, g2⟩ := h1 hi hl
    rw [f2 g1 j j0 j1, g2 j j0 j1]
  · rw [if_neg hi] at hs he ⊢
    obtain ⟨L1, f1, f2, f3⟩ := hs
    obtain ⟨g1, g2⟩ := h2 (by omega)
    refine ⟨L1, ?_, ?_, fun j j0 j1 => ?_⟩
    · rw [he p (by omega) (by omega), f1, g1]
    · rw [he (p + 1) (by omega) (by omega), f2]
    · rw [g1] at j1
      rw [f3 j j0 j1, g2 j j0 j1]
/-- one slot gets a block (its own or a new one) with new contents; the others stay -/
theorem rep_step {dA : Nat → ClassId} {x sz sz' : Nat} {S S' : MS} {P P' : PS} {h h' : gH} (hr : rep dA x S P h sz) (hb : 0 ≤ S' 10 2 ∧ S' 10 2 ≤ 8) (hz : sz ≤ sz') (i0 : Int) (hi0 : 0 ≤ i0 ∧ i0 < 13) (p0 : Nat)
    (hP : ∀ i : Int, 0 ≤ i → i < 13 → i ≠ i0 → rfS P' i = rfS P i) (hP0 : rfS P' i0 = some p0) (hfr : rfS P i0 = some p0 ∨ sz ≤ p0) (hx : x + 73 ≤ p0 ∧ p0 + lnS i0 ≤ sz')
    (he : ∀ q : Nat, q < sz → (q < p0 ∨ p0 + lnS i0 ≤ q) → h' q = h q) (hl0 : 8 ≤ i0 → live S' i0) (hs0 : slotOk dA x S' h' i0 p0)
    (hS : ∀ i : Int, 0 ≤ i → i < 13 → i ≠ i0 → (live S' i ↔ live S i) ∧ (i < 10 → live S i → ∀ j : Int, 0 ≤ j → j < 58 → bkF S' i j = bkF S i j) ∧ (10 ≤ i → S' 4 (i - 10) = S 4 (i - 10) ∧ ∀ j : Int, 0 ≤ j → j < S 4 (i - 10) → S' 5 (8 * (i - 10) + j) = S 5 (8 * (i - 10) + j))) : rep dA x S' P' h' sz' := by
  obtain ⟨⟨r1, r1x⟩, r2, r3⟩ := hr
  have hdis : ∀ (i : Int) (p : Nat), 0 ≤ i → i < 13 → i ≠ i0 → rfS P i = some p → p + lnS i ≤ p0 ∨ p0 + lnS i0 ≤ p := by
    intro i p a b c d
    rcases hfr with hf | hf
    · rcases Int.lt_or_gt_of_ne c with z | z
      · exact r3 i i0 p p0 a z hi0.2 d hf
      · exact (r3 i0 i p0 p hi0.1 z b hf d).symm
    · have := (((r2 i a b).2 p d).2.2).1
      omega
  refine ⟨⟨hb, by omega⟩, fun i a b => ?_, fun i j p q a b c d e => ?_⟩
  · by_cases hi : i = i0
    · subst hi
      refine ⟨fun z => (by rw [hP0] at z; cases z), fun p hp => ?_⟩
      rw [hP0] at hp
      cases hp
      exact ⟨hl0, hx.1, hx.2, hs0⟩
    · obtain ⟨s1, s2, s3⟩ := hS i a b hi
      rw [hP i a b hi]
      refine ⟨fun z w => (r2 i a b).1 z (s1.mp w), fun p hp => ?_⟩
      obtain ⟨t1, t2, t3, t4⟩ := (r2 i a b).2 p hp
      have hd := hdis i p a b hi hp
      exact ⟨fun z => s1.mpr (t1 z), t2, by omega, slotOk_fr t4 (fun q q1 q2 => he q (by omega) (by omega)) (fun z w => ⟨s1.mp w, s2 z (s1.mp w)⟩) s3⟩
  · by_cases hi : i = i0
    · subst hi
      rw [hP0] at d
      cases d
      rw [hP j (by omega) c (by omega)] at e
      exact (hdis j q (by omega) c (by omega) e).symm
    · by_cases hj : j = i0
      · subst hj
        rw [hP0] at e
        cases e
        rw [hP i a (by omega) hi] at d
        exact hdis i p a (by omega) hi d
      · rw [hP i a (by omega) hi] at d
        rw [hP j (by omega) c hj] at e
        exact r3 i j p q a b c d e
/-- nothing changes in the slots -/
theorem rep_same {dA : Nat → ClassId} {x sz sz' : Nat} {S S' : MS} {P : PS} {h h' : gH} (hr : rep dA x S P h sz) (hz : sz ≤ sz') (he : ∀ q : Nat, q < sz → h' q = h q) (hb : 0 ≤ S' 10 2 ∧ S' 10 2 ≤ S 10 2) (h2 : ∀ k : Int, 0 ≤ k → k < 2 → S' 2 k = S 2 k) (h4 : ∀ k : Int, 0 ≤ k → k < 3 → S' 4 k = S 4 k) (h5 : ∀ k : Int, 0 ≤ k → k < 24 → S' 5 k = S 5 k) (h8 : ∀ k : Int, 0 ≤ k → k < 3 → S 4 k ≤ 8) (h0 : ∀ j : Int, 58 ≤ j → j < 638 → S' 0 j = S 0 j) : rep dA x S' P h' sz' := by
  obtain ⟨⟨r1, r1x⟩, r2, r3⟩ := hr
  have hl : ∀ i : Int, 0 ≤ i → i < 13 → (live S' i → live S i) ∧ (8 ≤ i → live S i → live S' i) := by
    intro i a b
    unfold live
    by_cases g1 : i < 8
    · rw [if_pos g1, if_pos g1]; omega
    rw [if_neg g1, if_neg g1]
    by_cases g2 : i < 10
    · rw [if_pos g2, if_pos g2, h2 _ (by omega) (by omega)]
      exact ⟨fun z => z, fun _ z => z⟩
    rw [if_neg g2, if_neg g2, h4 _ (by omega) (by omega)]
    exact ⟨fun z => z, fun _ z => z⟩
  refine ⟨⟨by omega, by omega⟩, fun i a b => ⟨fun z w => (r2 i a b).1 z ((hl i a b).1 w), fun p hp => ?_⟩, r3⟩
  obtain ⟨t1, t2, t3, t4⟩ := (r2 i a b).2 p hp
  refine ⟨fun z => (hl i a b).2 z (t1 z), t2, by omega, slotOk_fr t4 (fun q q1 q2 => he q (by omega)) (fun z w => ⟨(hl i a b).1 w, fun j j0 j1 => h0 _ (by omega) (by omega)⟩) (fun z => ⟨h4 _ (by omega) (by omega), fun j j0 j1 => ?_⟩)⟩
  have := h8 (i - 10) (by omega) (by omega)
  exact h5 _ (by omega) (by omega)
def uq (P : PS) (a : Nat) (G1 : Int → Option Nat) : PS := fun b => if b = a then G1 else P b
theorem uq_s (P : PS) (a : Nat) (G1 : Int → Option Nat) : uq P a G1 a = G1 := by simp [uq]
theorem uq_n (P : PS) {a b : Nat} (G1 : Int → Option Nat) (h : b ≠ a) : uq P a G1 b = P b := by simp [uq, h]
theorem dcell_ext {dA : Nat → ClassId} {x b : Nat} {F G1 : Int → Int} (he : ∀ j : Int, 0 ≤ j → j < 58 → F j = G1 j) {i : Nat} (hi : i < 28) : dcell dA x b F i = dcell dA x b G1 i := by
  unfold dcell
  by_cases h0 : i = 0
  · rw [if_pos h0, if_pos h0]
    unfold dO
    rw [he 0 (by omega) (by omega), he 1 (by omega) (by omega), he 2 (by omega) (by omega), he 3 (by omega) (by omega)]
  rw [if_neg h0, if_neg h0]
  by_cases h1 : i = 1
  · rw [if_pos h1, if_pos h1]
    congr 1
    funext j
    unfold tiF
    split
    · exact he _ (by omega) (by omega)
    · rfl
  rw [if_neg h1, if_neg h1]
  by_cases h2 : i = 2
  · rw [if_pos h2, if_pos h2]
  rw [if_neg h2, if_neg h2]
  by_cases h3 : i = 3
  · rw [if_pos h3, if_pos h3]
  rw [if_neg h3, if_neg h3]
  have hd : 0 ≤ dk i ∧ dk i < 12 := by unfold dk; omega
  by_cases h4 : i % 2 = 0
  · rw [if_pos h4, if_pos h4]
    unfold dE
    rw [he _ (by omega) (by omega), he _ (by omega) (by omega)]
  · rw [if_neg h4, if_neg h4]
    unfold dP
    rw [he _ (by omega) (by omega), he _ (by omega) (by omega)]
theorem xcell_ext {dA : Nat → ClassId} {x : Nat} {S S' : MS} {P : PS} {j : Nat} (hj : j < 62) (h10 : S' 10 = S 10) (h0 : ∀ j : Int, 0 ≤ j → j < 58 → S' 0 j = S 0 j) (h6 : S' 6 = S 6) (h1 : S' 1 = S 1) (h3 : S' 3 = S 3) : xcell dA x S' P j = xcell dA x S P j := by
  unfold xcell
  by_cases g0 : j = 0
  · rw [if_pos g0, if_pos g0]; unfold xO; rw [h10]
  rw [if_neg g0, if_neg g0]
  by_cases g1 : j < 29
  · rw [if_pos g1, if_pos g1]
    exact dcell_ext h0 (by omega)
  rw [if_neg g1, if_neg g1, h6, h1, h3]
theorem ovX_ext {dA : Nat → ClassId} {x : Nat} {S S' : MS} {P : PS} {h : gH} (h10 : S' 10 = S 10) (h0 : ∀ j : Int, 0 ≤ j → j < 58 → S' 0 j = S 0 j) (h6 : S' 6 = S 6) (h1 : S' 1 = S 1) (h3 : S' 3 = S 3) : ovX dA x S' P h = ovX dA x S P h := by
  funext q
  unfold ovX
  by_cases hr : x ≤ q ∧ q < x + 62
  · rw [if_pos hr, if_pos hr, xcell_ext (by omega) h10 h0 h6 h1 h3]
  · rw [if_neg hr, if_neg hr]
theorem ovX_wQ (dA : Nat → ClassId) (x : Nat) (S : MS) (P : PS) (h : gH) (G1 : Int → Option Nat) : gup (ovX dA x S P h) (x + 58) (gR (dA 3) 8 G1) = ovX dA x S (uq P 1 G1) h :=
  ovX_up dA x S S P (uq P 1 G1) h (by omega) rfl (fun q hq hn => xcell_ud (fun _ => rfl) (fun _ _ => rfl) (fun _ _ => rfl) (fun _ => rfl) (fun z => absurd z (by omega)) (fun _ => rfl) (fun _ => rfl) (fun _ => rfl))
/-- the backs go round by one -/
def rot (P : PS) : PS := up (uq P 1 (cpI (P 1) (P 1) 1 0 7)) 1 7 (P 1 0)
theorem rot_rf (P : PS) {i : Int} (hi : 0 ≤ i ∧ i < 13) : rfS (rot P) i = rfS P (if i < 7 then i + 1 else if i = 7 then 0 else i) := by
  unfold rot rfS
  by_cases h1 : i < 7
  · rw [if_pos (show i < 8 by omega), if_pos h1, if_pos (by omega), up_s, uI_n _ _ (by omega), uq_s]
    unfold cpI
    rw [if_pos (by omega)]
    congr 1
    omega
  rw [if_neg h1]
  by_cases h2 : i = 7
  · rw [if_pos (show i < 8 by omega), if_pos h2, if_pos (by omega), up_s, h2, uI_s]
  rw [if_neg h2, if_neg (show ¬ i < 8 by omega), if_neg (show ¬ i < 8 by omega)]
  by_cases h3 : i < 10
  · rw [if_pos h3, if_pos h3, up_n _ _ _ (by omega), uq_n _ _ (by omega)]
  · rw [if_neg h3, if_neg h3, up_n _ _ _ (by omega), uq_n _ _ (by omega)]
theorem rep_rot {dA : Nat → ClassId} {x sz : Nat} {S : MS} {P : PS} {h : gH} (hr : rep dA x S P h sz) (h8 : S 10 2 = 8) : rep dA x (us (shK S 406) 10 2 7) (rot P) h sz := by
  obtain ⟨⟨r1, r1x⟩, r2, r3⟩ := hr
  have e10 : us (shK S 406) 10 2 7 10 2 = 7 := by rw [us_s, uI_s]
  have e0 : us (shK S 406) 10 2 7 0 = shK S 406 0 := us_n _ _ _ (by omega)
  have e2 : us (shK S 406) 10 2 7 2 = S 2 := by rw [us_n _ _ _ (by omega)]; funext j; unfold shK; rw [if_neg (by omega)]
  have e4 : us (shK S 406) 10 2 7 4 = S 4 := by rw [us_n _ _ _ (by omega)]; funext j; unfold shK; rw [if_neg (by omega)]
  have e5 : us (shK S 406) 10 2 7 5 = S 5 := by rw [us_n _ _ _ (by omega)]; funext j; unfold shK; rw [if_neg (by omega)]
  have hln : ∀ i : Int, 0 ≤ i → i < 13 → lnS (if i < 7 then i + 1 else if i = 7 then 0 else i) = lnS i := by
    intro i a b
    unfold lnS
    by_cases h1 : i < 7
    · rw [if_pos h1, if_pos (by omega), if_pos (by omega)]
    rw [if_neg h1]
    by_cases h2 : i = 7
    · rw [if_pos h2, if_pos (by omega), if_pos (by omega)]
    rw [if_neg h2]
  have hl8 : ∀ i : Int, 8 ≤ i → (live (us (shK S 406) 10 2 7) i ↔ live S i) := by
    intro i a
    unfold live
    rw [if_neg (show ¬ i < 8 by omega), if_neg (show ¬ i < 8 by omega), e2, e4]
  refine ⟨⟨by omega, r1x⟩, fun i a b => ?_, fun i j p q a b c d e => ?_⟩
  · rw [rot_rf P ⟨a, b⟩]
    have hσ : 0 ≤ (if i < 7 then i + 1 else if i = 7 then 0 else i) ∧ (if i < 7 then i + 1 else if i = 7 then 0 else i) < 13 := by (repeat' split) <;> omega
    obtain ⟨s1, s2⟩ := r2 _ hσ.1 hσ.2
    refine ⟨fun z w => ?_, fun p hp => ?_⟩
    · by_cases g : i < 8
      · have hw : i < 7 := by unfold live at w; rw [if_pos g, e10] at w; exact w
        refine s1 z ?_
        rw [if_pos hw]
        unfold live
        split
        · omega
        · omega
      · rw [if_neg (by omega), if_neg (by omega)] at s1 z
        exact s1 z ((hl8 i (by omega)).mp w)
    · obtain ⟨t1, t2, t3, t4⟩ := s2 p hp
      rw [hln i a b] at t3
      refine ⟨fun z => ?_, t2, t3, ?_⟩
      · rw [if_neg (by omega), if_neg (by omega)] at t1
        exact (hl8 i z).mpr (t1 z)
      · by_cases g : i < 8
        · unfold slotOk at t4 ⊢
          rw [if_pos (by (repeat' split) <;> omega)] at t4
          rw [if_pos (by omega)]
          obtain ⟨F, f1, f2⟩ := t4
          refine ⟨F, f1, fun w j j0 j1 => ?_⟩
          have hw : i < 7 := by unfold live at w; rw [if_pos g, e10] at w; exact w
          rw [if_pos hw] at f2
          rw [f2 (by unfold live; split <;> omega) j j0 j1]
          unfold bkF
          rw [e0]
          unfold shK
          rw [if_pos (by omega)]
          congr 1
          omega
        · rw [if_neg (by omega), if_neg (by omega)] at t4
          refine slotOk_fr t4 (fun q _ _ => rfl) (fun z w => ⟨(hl8 i (by omega)).mp w, fun j j0 j1 => ?_⟩) (fun z => ⟨by rw [e4], fun j j0 j1 => by rw [e5]⟩)
          unfold bkF
          rw [e0]
          unfold shK
          rw [if_neg (by omega)]
  · rw [rot_rf P ⟨a, by omega⟩] at d
    rw [rot_rf P ⟨by omega, c⟩] at e
    have hne : (if i < 7 then i + 1 else if i = 7 then 0 else i) ≠ (if j < 7 then j + 1 else if j = 7 then 0 else j) := by (repeat' split) <;> omega
    have hσi : 0 ≤ (if i < 7 then i + 1 else if i = 7 then 0 else i) ∧ (if i < 7 then i + 1 else if i = 7 then 0 else i) < 13 := by (repeat' split) <;> omega
    have hσj : 0 ≤ (if j < 7 then j + 1 else if j = 7 then 0 else j) ∧ (if j < 7 then j + 1 else if j = 7 then 0 else j) < 13 := by (repeat' split) <;> omega
    rw [← hln i a (by omega), ← hln j (by omega) c]
    rcases Int.lt_or_gt_of_ne hne with z | z
    · exact r3 _ _ p q hσi.1 z hσj.2 d e
    · exact (r3 _ _ q p hσj.1 z hσi.2 e d).symm
theorem rep_new {dA : Nat → ClassId} {x sz : Nat} {S : MS} {P : PS} {h : gH} {F : Int → Int} (hr : rep dA x S P h sz) (hb : S 10 2 ≤ 7) : rep dA x S (up P 1 (S 10 2) (some sz)) (ovD dA x sz F h) (sz + 28) := by
  have h1 := hr.1
  refine rep_step hr h1.1 (by omega) (S 10 2) (by omega) sz (fun i a b c => ?_) ?_ (Or.inr (Nat.le_refl _)) ⟨h1.2, by unfold lnS; rw [if_pos (by omega)]; omega⟩ (fun q q1 _ => ovD_off _ _ _ _ _ (Or.inl q1)) (fun z => by omega) ?_ (fun i a b c => ⟨Iff.rfl, fun _ _ j _ _ => rfl, fun _ => ⟨rfl, fun j _ _ => rfl⟩⟩)
  · unfold rfS
    by_cases g1 : i < 8
    · rw [if_pos g1, if_pos g1, up_s, uI_n _ _ c]
    rw [if_neg g1, if_neg g1]
    by_cases g2 : i < 10
    · rw [if_pos g2, if_pos g2, up_n _ _ _ (by omega)]
    · rw [if_neg g2, if_neg g2, up_n _ _ _ (by omega)]
  · unfold rfS
    rw [if_pos (by omega), up_s, uI_s]
  · unfold slotOk
    rw [if_pos (by omega)]
    exact ⟨F, isD_ov _ _ _ _ _, fun w => by unfold live at w; rw [if_pos (by omega)] at w; omega⟩
theorem rep_note {dA : Nat → ClassId} {x sz p : Nat} {S : MS} {P : PS} {h : gH} {F : Int → Int} (hr : rep dA x S P h sz) (hb : S 10 2 ≤ 7) (hp : P 1 (S 10 2) = some p) : rep dA x (us (cpR S 0 (58 + 58 * S 10 2)) 10 2 (S 10 2 + 1)) P (ovD dA x p (dSet F (S 0)) h) sz := by
  have h1 := hr.1
  have hrf : rfS P (S 10 2) = some p := by unfold rfS; rw [if_pos (by omega)]; exact hp
  obtain ⟨t1, t2, t3, t4⟩ := (hr.2.1 (S 10 2) (by omega) (by omega)).2 p hrf
  have hl : lnS (S 10 2) = 28 := by unfold lnS; rw [if_pos (by omega)]
  have e10 : us (cpR S 0 (58 + 58 * S 10 2)) 10 2 (S 10 2 + 1) 10 2 = S 10 2 + 1 := by rw [us_s, uI_s]
  have e0 : us (cpR S 0 (58 + 58 * S 10 2)) 10 2 (S 10 2 + 1) 0 = cpR S 0 (58 + 58 * S 10 2) 0 := us_n _ _ _ (by omega)
  have en : ∀ a : Nat, a ≠ 0 → a ≠ 10 → us (cpR S 0 (58 + 58 * S 10 2)) 10 2 (S 10 2 + 1) a = S a := by
    intro a a0 a1
    rw [us_n _ _ _ a1]
    funext j
    unfold cpR cpK
    rw [if_neg (by omega)]
  refine rep_step hr (by omega) (Nat.le_refl _) (S 10 2) (by omega) p (fun _ _ _ _ => rfl) hrf (Or.inl hrf) ⟨t2, t3⟩ (fun q _ q2 => ovD_off _ _ _ _ _ (by rw [hl] at q2; exact q2)) (fun z => by omega) ?_ (fun i a b c => ⟨?_, fun g w j j0 j1 => ?_, fun _ => ⟨by rw [en 4 (by omega) (by omega)], fun j _ _ => by rw [en 5 (by omega) (by omega)]⟩⟩)
  · unfold slotOk
    rw [if_pos (by omega)]
    refine ⟨_, isD_ov _ _ _ _ _, fun _ j j0 j1 => ?_⟩
    unfold bkF dSet
    rw [e0, if_pos ⟨j0, j1⟩]
    unfold cpR cpK
    rw [if_pos (by omega)]
    congr 1
    omega
  · unfold live
    by_cases g1 : i < 8
    · rw [if_pos g1, if_pos g1, e10]; omega
    rw [if_neg g1, if_neg g1, en 2 (by omega) (by omega), en 4 (by omega) (by omega)]
  · unfold bkF
    rw [e0]
    unfold cpR cpK
    rw [if_neg (by omega)]
