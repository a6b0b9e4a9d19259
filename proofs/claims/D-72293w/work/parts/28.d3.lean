/-! THE COMPONENT: what writes a draft -/
set_option maxRecDepth 100000
theorem gd {dA : Nat → ClassId} {x b : Nat} {F G1 : Int → Int} {h : gH} (e : F = G1) : ovD dA x b F h = ovD dA x b G1 h := by rw [e]
theorem gh2 {h h' : gH} (e : h = h') : h = h' := e
theorem uI_uI {α : Type} (F : Int → α) (i : Int) (v w : α) : uI (uI F i v) i w = uI F i w := by
  funext j
  unfold uI
  split <;> rfl
def dS1 (F : Int → Int) (e p s t : Int) : Int → Int := uI (uI (uI (uI F 0 e) 1 p) 2 s) 3 t
def dS2 (F : Int → Int) (s k : Int) : Int → Int := fun j => if 16 ≤ j ∧ j < 16 + k then shI ((j - 16) % s) else F j
def dS3 (F : Int → Int) (s t k : Int) : Int → Int := fun j => if 4 ≤ j ∧ j < 4 + k then (j - 4) % s else if 34 ≤ j ∧ j < 34 + k then 0 else if 22 ≤ j ∧ j < 22 + k then (j - 22) % t else if 46 ≤ j ∧ j < 46 + k then 1 else F j
def dStart (F : Int → Int) (e p s t : Int) : Int → Int := dS3 (dS2 (dS1 F e p s t) s 6) s t 12
theorem dS2_0 (F : Int → Int) (s : Int) : dS2 F s 0 = F := by
  funext j; unfold dS2; rw [if_neg (by omega)]
theorem dS2_s (F : Int → Int) (s : Int) {k : Int} (hk : 0 ≤ k) : uI (dS2 F s k) (16 + k) (shI (k % s)) = dS2 F s (k + 1) := by
  funext j
  simp only [dS2, uI]
  by_cases h : j = 16 + k
  · rw [if_pos h, if_pos (by omega), show j - 16 = k by omega]
  · rw [if_neg h]
    by_cases h2 : 16 ≤ j ∧ j < 16 + k
    · rw [if_pos h2, if_pos (by omega)]
    · rw [if_neg h2, if_neg (by omega)]
theorem dS3_0 (F : Int → Int) (s t : Int) : dS3 F s t 0 = F := by
  funext j; unfold dS3; (repeat' rw [if_neg (by omega)])
theorem dS3_s (F : Int → Int) (s t : Int) {k : Int} (hk : 0 ≤ k ∧ k < 12) : uI (uI (uI (uI (dS3 F s t k) (4 + k) (k % s)) (34 + k) 0) (22 + k) (k % t)) (46 + k) 1 = dS3 F s t (k + 1) := by
  funext j
  simp only [dS3, uI]
  by_cases h1 : j = 46 + k
  · rw [if_pos h1, if_neg (by omega), if_neg (by omega), if_neg (by omega), if_pos (by omega)]
  rw [if_neg h1]
  by_cases h2 : j = 22 + k
  · rw [if_pos h2, if_neg (by omega), if_neg (by omega), if_pos (by omega), show j - 22 = k by omega]
  rw [if_neg h2]
  by_cases h3 : j = 34 + k
  · rw [if_pos h3]; rw [if_neg (by omega), if_pos (by omega)]
  rw [if_neg h3]
  by_cases h4 : j = 4 + k
  · rw [if_pos h4, if_pos (by omega), show j - 4 = k by omega]
  rw [if_neg h4]
  by_cases g1 : 4 ≤ j ∧ j < 4 + k
  · rw [if_pos g1, if_pos (by omega)]
  rw [if_neg g1, if_neg (show ¬ (4 ≤ j ∧ j < 4 + (k + 1)) by omega)]
  by_cases g2 : 34 ≤ j ∧ j < 34 + k
  · rw [if_pos g2, if_pos (by omega)]
  rw [if_neg g2, if_neg (show ¬ (34 ≤ j ∧ j < 34 + (k + 1)) by omega)]
  by_cases g3 : 22 ≤ j ∧ j < 22 + k
  · rw [if_pos g3, if_pos (by omega)]
  rw [if_neg g3, if_neg (show ¬ (22 ≤ j ∧ j < 22 + (k + 1)) by omega)]
  by_cases g4 : 46 ≤ j ∧ j < 46 + k
  · rw [if_pos g4, if_pos (by omega)]
  rw [if_neg g4, if_neg (show ¬ (46 ≤ j ∧ j < 46 + (k + 1)) by omega)]
/-- set: from the draft G -/
def dC1 (F G1 : Int → Int) : Int → Int := uI (uI (uI (uI F 0 (G1 0)) 1 (G1 1)) 2 (G1 2)) 3 (G1 3)
def dC2 (F G1 : Int → Int) : Int → Int := fun j => if 16 ≤ j ∧ j < 22 then G1 j else F j
def dC3 (F G1 : Int → Int) (k : Int) : Int → Int := fun j => if (4 ≤ j ∧ j < 4 + k) ∨ (34 ≤ j ∧ j < 34 + k) ∨ (22 ≤ j ∧ j < 22 + k) ∨ (46 ≤ j ∧ j < 46 + k) then G1 j else F j
def dSet (F G1 : Int → Int) : Int → Int := fun j => if 0 ≤ j ∧ j < 58 then G1 j else F j
theorem dC3_0 (F G1 : Int → Int) : dC3 F G1 0 = F := by
  funext j; unfold dC3; rw [if_neg (by omega)]
theorem dC3_s (F G1 : Int → Int) {k : Int} (hk : 0 ≤ k ∧ k < 12) : uI (uI (uI (uI (dC3 F G1 k) (4 + k) (G1 (4 + k))) (34 + k) (G1 (34 + k))) (22 + k) (G1 (22 + k))) (46 + k) (G1 (46 + k)) = dC3 F G1 (k + 1) := by
  funext j
  simp only [dC3, uI]
  by_cases h1 : j = 46 + k
  · rw [if_pos h1, if_pos (by omega), h1]
  rw [if_neg h1]
  by_cases h2 : j = 22 + k
  · rw [if_pos h2, if_pos (by omega), h2]
  rw [if_neg h2]
  by_cases h3 : j = 34 + k
  · rw [if_pos h3, if_pos (by omega), h3]
  rw [if_neg h3]
  by_cases h4 : j = 4 + k
  · rw [if_pos h4, if_pos (by omega), h4]
  rw [if_neg h4]
  by_cases g : (4 ≤ j ∧ j < 4 + k) ∨ (34 ≤ j ∧ j < 34 + k) ∨ (22 ≤ j ∧ j < 22 + k) ∨ (46 ≤ j ∧ j < 46 + k)
  · rw [if_pos g, if_pos (by omega)]
  · rw [if_neg g, if_neg (by omega)]
theorem dC_all (F G1 : Int → Int) : dC3 (dC2 (dC1 F G1) G1) G1 12 = dSet F G1 := by
  funext j
  simp only [dC3, dC2, dC1, dSet, uI]
  by_cases g : (4 ≤ j ∧ j < 4 + 12) ∨ (34 ≤ j ∧ j < 34 + 12) ∨ (22 ≤ j ∧ j < 22 + 12) ∨ (46 ≤ j ∧ j < 46 + 12)
  · rw [if_pos g, if_pos (by omega)]
  rw [if_neg g]
  by_cases g2 : 16 ≤ j ∧ j < 22
  · rw [if_pos g2, if_pos (by omega)]
  rw [if_neg g2]
  by_cases h3 : j = 3
  · rw [if_pos h3, if_pos (by omega), h3]
  rw [if_neg h3]
  by_cases h2 : j = 2
  · rw [if_pos h2, if_pos (by omega), h2]
  rw [if_neg h2]
  by_cases h1 : j = 1
  · rw [if_pos h1, if_pos (by omega), h1]
  rw [if_neg h1]
  by_cases h0 : j = 0
  · rw [if_pos h0, if_pos (by omega), h0]
  rw [if_neg h0, if_neg (by omega)]
theorem ovD_cp (dA : Nat → ClassId) (x b : Nat) (F G1 : Int → Int) (h : gH) : gup (ovD dA x b F h) (b + 1) (gI (dA 0) 6 (cpI (tiF G1) (tiF F) 0 0 6)) = ovD dA x b (dC2 F G1) h := by
  have e : cpI (tiF G1) (tiF F) 0 0 6 = tiF (dC2 F G1) := by
    funext j
    simp only [cpI, tiF, dC2]
    by_cases hj : 0 ≤ j ∧ j < 6
    · rw [if_pos (by omega), if_pos (by omega), if_pos hj, if_pos (by omega)]
      congr 1
      omega
    · rw [if_neg (by omega), if_neg hj, if_neg hj]
  rw [e]
  refine ovD_up dA x b F (dC2 F G1) h 1 _ (by omega) rfl (fun i hi hn => ?_)
  unfold dcell
  by_cases h0 : i = 0
  · rw [if_pos h0, if_pos h0]
    unfold dO dC2
    rw [if_neg (by omega), if_neg (by omega), if_neg (by omega), if_neg (by omega)]
  rw [if_neg h0, if_neg h0, if_neg hn, if_neg hn]
  by_cases h2 : i = 2
  · rw [if_pos h2, if_pos h2]
  rw [if_neg h2, if_neg h2]
  by_cases h3 : i = 3
  · rw [if_pos h3, if_pos h3]
  rw [if_neg h3, if_neg h3]
  have hd : 0 ≤ dk i ∧ dk i < 12 := by unfold dk; omega
  by_cases h4 : i % 2 = 0
  · rw [if_pos h4, if_pos h4]
    unfold dE dC2
    rw [if_neg (by omega), if_neg (by omega)]
  · rw [if_neg h4, if_neg h4]
    unfold dP dC2
    rw [if_neg (by omega), if_neg (by omega)]
/-- turn -/
def tvF (F : Int → Int) (t s set : Int) : Int := orI set (if (s < F 3 ∧ t < F 2) ∧ hasB (F (16 + s)) t = true then shI s else 0)
def dTv (F : Int → Int) (t : Int) : Int := fo (tvF F t) 0 6
def dT1 (F : Int → Int) (t : Int) : Int → Int := fun j => if 16 ≤ j ∧ j < 16 + t then dTv F (j - 16) else F j
def dT2 (F : Int → Int) (k : Int) : Int → Int := fun j => if 4 ≤ j ∧ j < 4 + k then F (j + 18) else if 22 ≤ j ∧ j < 22 + k then F (j - 18) else if 34 ≤ j ∧ j < 34 + k then F (j + 12) else if 46 ≤ j ∧ j < 46 + k then F (j - 12) else F j
def dTurn (F : Int → Int) : Int → Int := uI (uI (uI (uI (dT2 (dT1 F 6) 12) 0 (F 1)) 1 (F 0)) 2 (F 3)) 3 (F 2)
theorem dT1_0 (F : Int → Int) : dT1 F 0 = F := by
  funext j; unfold dT1; rw [if_neg (by omega)]
theorem dT1_s (F : Int → Int) {t : Int} (ht : 0 ≤ t) : uI (dT1 F t) (16 + t) (dTv F t) = dT1 F (t + 1) := by
  funext j
  simp only [dT1, uI]
  by_cases h : j = 16 + t
  · rw [if_pos h, if_pos (by omega), show j - 16 = t by omega]
  · rw [if_neg h]
    by_cases h2 : 16 ≤ j ∧ j < 16 + t
    · rw [if_pos h2, if_pos (by omega)]
    · rw [if_neg h2, if_neg (by omega)]
theorem dT1_lo (F : Int → Int) {t j v : Int} (ht : 0 ≤ t) (hj : j < 16) : uI (dT1 F t) (16 + t) v j = F j := by
  simp only [dT1, uI]
  rw [if_neg (by omega), if_neg (by omega)]
theorem dT2_0 (F : Int → Int) : dT2 F 0 = F := by
  funext j; unfold dT2; (repeat' rw [if_neg (by omega)])
theorem dT2_s (F : Int → Int) {k : Int} (hk : 0 ≤ k ∧ k < 12) : uI (uI (uI (uI (dT2 F k) (4 + k) (F (22 + k))) (34 + k) (F (46 + k))) (22 + k) (F (4 + k))) (46 + k) (F (34 + k)) = dT2 F (k + 1) := by
  funext j
  simp only [dT2, uI]
  by_cases h1 : j = 46 + k
  · rw [if_pos h1, if_neg (by omega), if_neg (by omega), if_neg (by omega), if_pos (by omega)]; congr 1; omega
  rw [if_neg h1]
  by_cases h2 : j = 22 + k
  · rw [if_pos h2]; rw [if_neg (by omega), if_pos (by omega)]; congr 1; omega
  rw [if_neg h2]
  by_cases h3 : j = 34 + k
  · rw [if_pos h3]; rw [if_neg (by omega), if_neg (by omega), if_pos (by omega)]; congr 1; omega
  rw [if_neg h3]
  by_cases h4 : j = 4 + k
  · rw [if_pos h4, if_pos (by omega)]; congr 1; omega
  rw [if_neg h4]
  by_cases g1 : 4 ≤ j ∧ j < 4 + k
  · rw [if_pos g1, if_pos (by omega)]
  rw [if_neg g1, if_neg (show ¬ (4 ≤ j ∧ j < 4 + (k + 1)) by omega)]
  by_cases g3 : 22 ≤ j ∧ j < 22 + k
  · rw [if_pos g3, if_pos (by omega)]
  rw [if_neg g3, if_neg (show ¬ (22 ≤ j ∧ j < 22 + (k + 1)) by omega)]
  by_cases g2 : 34 ≤ j ∧ j < 34 + k
  · rw [if_pos g2, if_pos (by omega)]
  rw [if_neg g2, if_neg (show ¬ (34 ≤ j ∧ j < 34 + (k + 1)) by omega)]
  by_cases g4 : 46 ≤ j ∧ j < 46 + k
  · rw [if_pos g4, if_pos (by omega)]
  rw [if_neg g4, if_neg (show ¬ (46 ≤ j ∧ j < 46 + (k + 1)) by omega)]
theorem had_at {dA : Nat → ClassId} {x b sz : Nat} {F : Int → Int} {h : gH} {e : va_E} (hsz : b + 28 ≤ sz) : ovD dA x b F (gup h sz e) sz = some e := by
  rw [ovD_off _ _ _ _ _ (Or.inr hsz), gup_s]
theorem tvF_rg {F : Int → Int} (t : Int) (n : Nat) (hn : n ≤ 6) : 0 ≤ fo (tvF F t) 0 n ∧ fo (tvF F t) 0 n < 4096 := by
  refine rg_fo n (fun _ v => 0 ≤ v ∧ v < 4096) (by omega) (fun k v h0 h1 hv => ?_)
  refine or12 ⟨hv, ?_⟩
  split
  · have := sh12 (i := k) (by omega); omega
  · omega

theorem nd_X1_start : yX1_start.cls ≠ "java/lang/invoke/MethodHandle" ∧ yX1_start.cls ≠ "java/lang/invoke/VarHandle" ∧ (parseMethodDescriptor yX1_start.desc).map (fun d => d.parameters.length) = some 4 := by decide +kernel
theorem mX1_start {l : Launch} {D : va_G} {dA : Nat → ClassId} {N0 : Nat} {Y : State → Prop} (hY : gYc N0 Y) {h : gH} {sz x b : Nat} {F : Int → Int} {e p s t : Int} (hs : 1 ≤ s ∧ s ≤ 6) (ht : 1 ≤ t ∧ t ≤ 6) : gM l D dA N0 Y yX1_start cX1_start 6 none 0 0 0 0 [.ref b, vI e, vI p, vI s, vI t] (ovD dA x b (F) h) sz (gP none (ovD dA x b (dStart F e p s t) h) sz) := by
  refine gM.of hY.ok (by decide +kernel) (Nat.le_of_ble_eq_true rfl) ?_
  intro X hX C hQ
  subst hX
  have C : gC X cX1_start RX1 "start" 6 none D dA N0 Y ({ frames := 0, cells := 0, slots := 0, locals := 0 }) := C
  show G X 0 0 _ _ 0 [some (.ref b), some (vI e), some (vI p), some (vI s), some (vI t), none] []
  refine g_aload_n C dX1_start_0 (gr _) rfl ?_
  refine g_iload_n C dX1_start_1 (gi _) rfl ?_
  refine D_p_ends C q173 dX1_start_2 ?_
  refine g_aload_n C dX1_start_5 (gr _) rfl ?_
  refine g_iload_n C dX1_start_6 (gi _) rfl ?_
  refine D_p_picks C q178 dX1_start_7 ?_
  refine g_aload_n C dX1_start_10 (gr _) rfl ?_
  refine g_iload_n C dX1_start_11 (gi _) rfl ?_
  refine D_p_shafts C q181 dX1_start_12 ?_
  refine g_aload_n C dX1_start_15 (gr _) rfl ?_
  refine g_iload C dX1_start_16 (gi _) rfl ?_
  refine D_p_treadles C q184 dX1_start_18 ?_
  refine g_iconst C dX1_start_21 ?_
  refine g_istore1005 C dX1_start_22 (gi _) rfl ?_
  have lp24_1 : ∀ (fuel : Nat) (k : Int), (0 ≤ k ∧ k ≤ 6) → (6 - k).toNat < fuel → G X 0 0 (ovD dA x b (dS2 (dS1 F e p s t) s k) h) sz 24 [some (.ref b), some (vI e), some (vI p), some (vI s), some (vI t), some (vI k)] [] := by
    intro fuel
    induction fuel with
    | zero => intro k hI hfu; exact absurd hfu (Nat.not_lt_zero _)
    | succ fuel ih =>
      intro k hI hfu
      have ih1 := ih
      have m1 := Int.emod_nonneg k (show s ≠ 0 by omega)
      have m2 := Int.emod_lt_of_pos k (show 0 < s by omega)
      refine g_iload C dX1_start_24 (gi _) rfl ?_
      refine g_bipush C dX1_start_26 (by decide +kernel) ?_
      refine g_icmp_ge C (tgt := 50) dX1_start_28 (by decide) (by omega) (fun c1 => ?_) (fun c1 => ?_)
      · refine g_iconst C dX1_start_50 ?_
        refine g_istore1005 C dX1_start_51 (gi _) rfl ?_
        have lp53_2 : ∀ (fuel : Nat) (k : Int), (0 ≤ k ∧ k ≤ 12) → (12 - k).toNat < fuel → G X 0 0 (ovD dA x b (dS3 (dS2 (dS1 F e p s t) s 6) s t k) h) sz 53 [some (.ref b), some (vI e), some (vI p), some (vI s), some (vI t), some (vI k)] [] := by
          intro fuel
          induction fuel with
          | zero => intro k hI hfu; exact absurd hfu (Nat.not_lt_zero _)
          | succ fuel ih =>
            intro k hI hfu
            have ih2 := ih
            have m1 := Int.emod_nonneg k (show s ≠ 0 by omega)
            have m2 := Int.emod_lt_of_pos k (show 0 < s by omega)
            have m3 := Int.emod_nonneg k (show t ≠ 0 by omega)
            have m4 := Int.emod_lt_of_pos k (show 0 < t by omega)
            refine g_iload C dX1_start_53 (gi _) rfl ?_
            refine g_bipush C dX1_start_55 (by decide +kernel) ?_
            refine g_icmp_ge C (tgt := 117) dX1_start_57 (by decide) (by omega) (fun c2 => ?_) (fun c2 => ?_)
            · exact g_vret C hQ rfl dX1_start_117 ⟨rfl, gd (by rw [show k = 12 by omega]; rfl), rfl⟩
            · refine g_aload_n C dX1_start_60 (gr _) rfl ?_
              refine D_g_warp C (isD_ov _ _ _ _ _) q188 dX1_start_61 ?_
              refine g_iload C dX1_start_64 (gi _) rfl ?_
              refine D_ld_warp C (isD_ov _ _ _ _ _) (by omega) dX1_start_66 ?_
              refine g_iload C dX1_start_67 (gi _) rfl ?_
              refine g_iload_n C dX1_start_69 (gi _) rfl ?_
              refine g_irem C (by omega) dX1_start_70 ?_
              refine D_pE_tied C (by omega) (Or.inr q130) q129 dX1_start_71 ?_
              refine g_aload_n C dX1_start_74 (gr _) rfl ?_
              refine D_g_warp C (isD_ov _ _ _ _ _) q188 dX1_start_75 ?_
              refine g_iload C dX1_start_78 (gi _) rfl ?_
              refine D_ld_warp C (isD_ov _ _ _ _ _) (by omega) dX1_start_80 ?_
              refine g_iconst C dX1_start_81 ?_
              refine D_pE_colour C (by omega) (Or.inr q138) q137 dX1_start_82 ?_
              refine g_aload_n C dX1_start_85 (gr _) rfl ?_
              refine D_g_weft C (isD_ov _ _ _ _ _) q190 dX1_start_86 ?_
              refine g_iload C dX1_start_89 (gi _) rfl ?_
              refine D_ld_weft C (isD_ov _ _ _ _ _) (by omega) dX1_start_91 ?_
              refine g_iload C dX1_start_92 (gi _) rfl ?_
              refine g_iload C dX1_start_94 (gi _) rfl ?_
              refine g_irem C (by omega) dX1_start_96 ?_
              refine D_pP_tied C (by omega) (Or.inr q132) q131 dX1_start_97 ?_
              refine g_aload_n C dX1_start_100 (gr _) rfl ?_
              refine D_g_weft C (isD_ov _ _ _ _ _) q190 dX1_start_101 ?_
              refine g_iload C dX1_start_104 (gi _) rfl ?_
              refine D_ld_weft C (isD_ov _ _ _ _ _) (by omega) dX1_start_106 ?_
              refine g_iconst C dX1_start_107 ?_
              refine D_pP_colour C (by omega) (Or.inr q140) q139 dX1_start_108 ?_
              refine g_iinc1005 C dX1_start_111 rfl ?_
              refine g_goto C (tgt := 53) dX1_start_114 (by decide) ?_
              refine g_hE (gd (dS3_s _ _ _ (by omega))) ?_
              exact ih2 _ (by omega) (by omega)
        refine g_hE (gd ((show dS2 (dS1 F e p s t) s k = dS2 (dS1 F e p s t) s 6 by rw [show k = 6 by omega]).trans (dS3_0 _ s t).symm)) ?_
        exact lp53_2 _ _ (by omega) (Nat.lt_succ_self _)
      · refine g_aload_n C dX1_start_31 (gr _) rfl ?_
        refine D_g_ties C (isD_ov _ _ _ _ _) q186 dX1_start_32 ?_
        refine g_iload C dX1_start_35 (gi _) rfl ?_
        refine g_iconst C dX1_start_37 ?_
        refine g_iload C dX1_start_38 (gi _) rfl ?_
        refine g_iload_n C dX1_start_40 (gi _) rfl ?_
        refine g_irem C (by omega) dX1_start_41 ?_
        refine g_ishl C dX1_start_42 (zI_shl (by omega)) ?_
        refine D_st_ties C (by omega) dX1_start_43 ?_
        refine g_iinc1005 C dX1_start_44 rfl ?_
        refine g_goto C (tgt := 24) dX1_start_47 (by decide) ?_
        refine g_hE (gd (dS2_s _ _ (by omega))) ?_
        exact ih1 _ (by omega) (by omega)
  refine g_hE (gd ((dS2_0 (dS1 F e p s t) s).symm)) ?_
  exact lp24_1 _ _ (by omega) (Nat.lt_succ_self _)

theorem nd_X1_set : yX1_set.cls ≠ "java/lang/invoke/MethodHandle" ∧ yX1_set.cls ≠ "java/lang/invoke/VarHandle" ∧ (parseMethodDescriptor yX1_set.desc).map (fun d => d.parameters.length) = some 1 := by decide +kernel
theorem mX1_set {l : Launch} {D : va_G} {dA : Nat → ClassId} {N0 : Nat} {Y : State → Prop} (hY : gYc N0 Y) {h : gH} {sz x b : Nat} {F : Int → Int} {y c : Nat} {G1 : Int → Int} (hG : isD dA y c G1 h) (hdj : c + 28 ≤ b ∨ b + 28 ≤ c) : gM l D dA N0 Y yX1_set cX1_set 3 (some ((.object "WeaveDraft$Draft"))) 1 60 0 0 [.ref b, .ref c] (ovD dA x b (F) h) sz (gP (some (.ref b)) (ovD dA x b (dSet F G1) h) sz) := by
  refine gM.of hY.ok (by decide +kernel) (Nat.le_of_ble_eq_true rfl) ?_
  intro X hX C hQ
  subst hX
  have C : gC X cX1_set RX1 "set" 3 (some ((.object "WeaveDraft$Draft"))) D dA N0 Y ({ frames := 1, cells := 0, slots := 0, locals := 60 }) := C
  show G X 0 0 _ _ 0 [some (.ref b), some (.ref c), none] []
  refine g_aload_n C dX1_set_0 (gr _) rfl ?_
  refine g_aload_n C dX1_set_1 (gr _) rfl ?_
  refine D_g_ends C (isD_ovo hG hdj) q173 dX1_set_2 ?_
  refine D_p_ends C q173 dX1_set_5 ?_
  refine g_aload_n C dX1_set_8 (gr _) rfl ?_
  refine g_aload_n C dX1_set_9 (gr _) rfl ?_
  refine D_g_picks C (isD_ovo hG hdj) q178 dX1_set_10 ?_
  refine D_p_picks C q178 dX1_set_13 ?_
  refine g_aload_n C dX1_set_16 (gr _) rfl ?_
  refine g_aload_n C dX1_set_17 (gr _) rfl ?_
  refine D_g_shafts C (isD_ovo hG hdj) q181 dX1_set_18 ?_
  refine D_p_shafts C q181 dX1_set_21 ?_
  refine g_aload_n C dX1_set_24 (gr _) rfl ?_
  refine g_aload_n C dX1_set_25 (gr _) rfl ?_
  refine D_g_treadles C (isD_ovo hG hdj) q184 dX1_set_26 ?_
  refine D_p_treadles C q184 dX1_set_29 ?_
  refine g_aload_n C dX1_set_32 (gr _) rfl ?_
  refine D_g_ties C (isD_ovo hG hdj) q186 dX1_set_33 ?_
  refine g_iconst C dX1_set_36 ?_
  refine g_aload_n C dX1_set_37 (gr _) rfl ?_
  refine D_g_ties C (isD_ov _ _ _ _ _) q186 dX1_set_38 ?_
  refine g_iconst C dX1_set_41 ?_
  refine g_bipush C dX1_set_42 (by decide +kernel) ?_
  refine g_copyi C 0 rfl rfl (isD_1 (isD_ovo hG hdj)) (isD_1 (isD_ov _ _ _ _ _)) (fun _ _ _ => rfl) (by omega) (by omega) q833 q418 q417 q81 (Nat.le_of_ble_eq_true rfl) (by decide) (by decide +kernel) dX1_set_44 ?_
  refine g_hE (ovD_cp _ _ _ _ _ _) ?_
  refine g_iconst C dX1_set_47 ?_
  refine g_istore_n1002 C dX1_set_48 (gi _) rfl ?_
  have lp49_1 : ∀ (fuel : Nat) (k : Int), (0 ≤ k ∧ k ≤ 12) → (12 - k).toNat < fuel → G X 0 0 (ovD dA x b (dC3 (dC2 (dC1 F G1) G1) G1 k) h) sz 49 [some (.ref b), some (.ref c), some (vI k)] [] := by
    intro fuel
    induction fuel with
    | zero => intro k hI hfu; exact absurd hfu (Nat.not_lt_zero _)
    | succ fuel ih =>
      intro k hI hfu
      have ih1 := ih
      refine g_iload_n C dX1_set_49 (gi _) rfl ?_
      refine g_bipush C dX1_set_50 (by decide +kernel) ?_
      refine g_icmp_ge C (tgt := 133) dX1_set_52 (by decide) (by omega) (fun c1 => ?_) (fun c1 => ?_)
      · refine g_aload_n C dX1_set_133 (gr _) rfl ?_
        exact g_aret C hQ rfl (Or.inl ⟨_, rfl⟩) (gr _) dX1_set_134 ⟨rfl, gd (by rw [show k = 12 by omega]; exact dC_all _ _), rfl⟩
      · refine g_aload_n C dX1_set_55 (gr _) rfl ?_
        refine D_g_warp C (isD_ov _ _ _ _ _) q188 dX1_set_56 ?_
        refine g_iload_n C dX1_set_59 (gi _) rfl ?_
        refine D_ld_warp C (isD_ov _ _ _ _ _) (by omega) dX1_set_60 ?_
        refine g_aload_n C dX1_set_61 (gr _) rfl ?_
        refine D_g_warp C (isD_ovo hG hdj) q188 dX1_set_62 ?_
        refine g_iload_n C dX1_set_65 (gi _) rfl ?_
        refine D_ld_warp C (isD_ovo hG hdj) (by omega) dX1_set_66 ?_
        refine D_gE_tied C (isD_ovo hG hdj) (by omega) (Or.inr q130) q129 dX1_set_67 ?_
        refine D_pE_tied C (by omega) (Or.inr q130) q129 dX1_set_70 ?_
        refine g_aload_n C dX1_set_73 (gr _) rfl ?_
        refine D_g_warp C (isD_ov _ _ _ _ _) q188 dX1_set_74 ?_
        refine g_iload_n C dX1_set_77 (gi _) rfl ?_
        refine D_ld_warp C (isD_ov _ _ _ _ _) (by omega) dX1_set_78 ?_
        refine g_aload_n C dX1_set_79 (gr _) rfl ?_
        refine D_g_warp C (isD_ovo hG hdj) q188 dX1_set_80 ?_
        refine g_iload_n C dX1_set_83 (gi _) rfl ?_
        refine D_ld_warp C (isD_ovo hG hdj) (by omega) dX1_set_84 ?_
        refine D_gE_colour C (isD_ovo hG hdj) (by omega) (Or.inr q138) q137 dX1_set_85 ?_
        refine D_pE_colour C (by omega) (Or.inr q138) q137 dX1_set_88 ?_
        refine g_aload_n C dX1_set_91 (gr _) rfl ?_
        refine D_g_weft C (isD_ov _ _ _ _ _) q190 dX1_set_92 ?_
        refine g_iload_n C dX1_set_95 (gi _) rfl ?_
        refine D_ld_weft C (isD_ov _ _ _ _ _) (by omega) dX1_set_96 ?_
        refine g_aload_n C dX1_set_97 (gr _) rfl ?_
        refine D_g_weft C (isD_ovo hG hdj) q190 dX1_set_98 ?_
        refine g_iload_n C dX1_set_101 (gi _) rfl ?_
        refine D_ld_weft C (isD_ovo hG hdj) (by omega) dX1_set_102 ?_
        refine D_gP_tied C (isD_ovo hG hdj) (by omega) (Or.inr q132) q131 dX1_set_103 ?_
        refine D_pP_tied C (by omega) (Or.inr q132) q131 dX1_set_106 ?_
        refine g_aload_n C dX1_set_109 (gr _) rfl ?_
        refine D_g_weft C (isD_ov _ _ _ _ _) q190 dX1_set_110 ?_
        refine g_iload_n C dX1_set_113 (gi _) rfl ?_
        refine D_ld_weft C (isD_ov _ _ _ _ _) (by omega) dX1_set_114 ?_
        refine g_aload_n C dX1_set_115 (gr _) rfl ?_
        refine D_g_weft C (isD_ovo hG hdj) q190 dX1_set_116 ?_
        refine g_iload_n C dX1_set_119 (gi _) rfl ?_
        refine D_ld_weft C (isD_ovo hG hdj) (by omega) dX1_set_120 ?_
        refine D_gP_colour C (isD_ovo hG hdj) (by omega) (Or.inr q140) q139 dX1_set_121 ?_
        refine D_pP_colour C (by omega) (Or.inr q140) q139 dX1_set_124 ?_
        refine g_iinc1002 C dX1_set_127 rfl ?_
        refine g_goto C (tgt := 49) dX1_set_130 (by decide) ?_
        refine g_hE (gd (dC3_s _ _ (by omega))) ?_
        exact ih1 _ (by omega) (by omega)
  refine g_hE (gd ((dC3_0 (dC2 (dC1 F G1) G1) G1).symm)) ?_
  exact lp49_1 _ _ (by omega) (Nat.lt_succ_self _)

theorem nd_X1_turn : yX1_turn.cls ≠ "java/lang/invoke/MethodHandle" ∧ yX1_turn.cls ≠ "java/lang/invoke/VarHandle" ∧ (parseMethodDescriptor yX1_turn.desc).map (fun d => d.parameters.length) = some 0 := by decide +kernel
theorem mX1_turn {l : Launch} {D : va_G} {dA : Nat → ClassId} {N0 : Nat} {Y : State → Prop} (hY : gYc N0 Y) {h : gH} {sz x b : Nat} {F : Int → Int} (hO : OkD F) : gM l D dA N0 Y yX1_turn cX1_turn 5 none 1 22 1 6 [.ref b] (ovD dA x b (F) h) sz (gP none (ovD dA x b (dTurn F) (gup h sz (gI (dA 0) 6 (tiF F)))) (sz + 1)) := by
  refine gM.of hY.ok (by decide +kernel) (Nat.le_of_ble_eq_true rfl) ?_
  intro X hX C hQ
  subst hX
  have C : gC X cX1_turn RX1 "turn" 5 none D dA N0 Y ({ frames := 1, cells := 1, slots := 6, locals := 22 }) := C
  show G X 0 0 _ _ 0 [some (.ref b), none, none, none, none] []
  have hn := hO.1
  refine g_ex (P := b + 28 ≤ sz) (fun hb _ => by have := (hb _ _ (isD_ov dA x b F h 27 (by omega))).2; omega) C (fun hsz => ?_)
  refine g_aload_n C dX1_turn_0 (gr _) rfl ?_
  refine D_g_ties C (isD_ov _ _ _ _ _) q186 dX1_turn_1 ?_
  refine g_cloneI C (isD_1 (isD_ov _ _ _ _ _)) q927 q928 q408 q409 q929 (gtok hY C q930 rfl) (Nat.le_of_ble_eq_true rfl) ⟨by decide, by decide⟩ ⟨Nat.le_of_ble_eq_true rfl, Nat.le_of_ble_eq_true rfl⟩ dX1_turn_4 ?_
  refine g_hE (ovD_gup dA x b F h (Or.inr hsz)) ?_
  refine g_castI C (had_at hsz) q931 dX1_turn_7 ?_
  refine g_astore_n1001 C dX1_turn_10 (gr _) rfl ?_
  refine g_iconst C dX1_turn_11 ?_
  refine g_istore_n1002 C dX1_turn_12 (gi _) rfl ?_
  have lp13_1 : ∀ (fuel : Nat) (t : Int), (0 ≤ t ∧ t ≤ 6) → (6 - t).toNat < fuel → G X (0 + 1) (0 + 6) (ovD dA x b (dT1 F t) (gup h sz (gI (dA 0) 6 (tiF F)))) (sz + 1) 13 [some (.ref b), some (.ref sz), some (vI t), none, none] [] := by
    intro fuel
    induction fuel with
    | zero => intro t hI hfu; exact absurd hfu (Nat.not_lt_zero _)
    | succ fuel ih =>
      intro t hI hfu
      have ih1 := ih
      refine g_iload_n C dX1_turn_13 (gi _) rfl ?_
      refine g_bipush C dX1_turn_14 (by decide +kernel) ?_
      refine g_icmp_ge C (tgt := 88) dX1_turn_16 (by decide) (by omega) (fun c1 => ?_) (fun c1 => ?_)
      · refine g_iconst C dX1_turn_88 ?_
        refine g_istore_n1002 C dX1_turn_89 (gi _) rfl ?_
        have lp90_2 : ∀ (fuel : Nat) (k : Int), (0 ≤ k ∧ k ≤ 12) → (12 - k).toNat < fuel → G X (0 + 1) (0 + 6) (ovD dA x b (dT2 (dT1 F 6) k) (gup h sz (gI (dA 0) 6 (tiF F)))) (sz + 1) 90 [some (.ref b), some (.ref sz), some (vI k), none, none] [] := by
          intro fuel
          induction fuel with
          | zero => intro k hI hfu; exact absurd hfu (Nat.not_lt_zero _)
          | succ fuel ih =>
            intro k hI hfu
            have ih2 := ih
            refine g_iload_n C dX1_turn_90 (gi _) rfl ?_
            refine g_bipush C dX1_turn_91 (by decide +kernel) ?_
            refine g_icmp_ge C (tgt := 180) dX1_turn_93 (by decide) (by omega) (fun c2 => ?_) (fun c2 => ?_)
            · refine g_aload_n C dX1_turn_180 (gr _) rfl ?_
              refine D_g_ends C (isD_ov _ _ _ _ _) q173 dX1_turn_181 ?_
              refine g_top (b := F 0) (by unfold dT2 dT1; (repeat' rw [if_neg (by omega)])) ?_
              refine g_istore_n1002 C dX1_turn_184 (gi _) rfl ?_
              refine g_aload_n C dX1_turn_185 (gr _) rfl ?_
              refine g_aload_n C dX1_turn_186 (gr _) rfl ?_
              refine D_g_picks C (isD_ov _ _ _ _ _) q178 dX1_turn_187 ?_
              refine g_top (b := F 1) (by unfold dT2 dT1; (repeat' rw [if_neg (by omega)])) ?_
              refine D_p_ends C q173 dX1_turn_190 ?_
              refine g_aload_n C dX1_turn_193 (gr _) rfl ?_
              refine g_iload_n C dX1_turn_194 (gi _) rfl ?_
              refine D_p_picks C q178 dX1_turn_195 ?_
              refine g_aload_n C dX1_turn_198 (gr _) rfl ?_
              refine D_g_shafts C (isD_ov _ _ _ _ _) q181 dX1_turn_199 ?_
              refine g_top (b := F 2) (by simp only [uI, dT2, dT1]; (repeat' rw [if_neg (by omega)])) ?_
              refine g_istore_n1003 C dX1_turn_202 (gi _) rfl ?_
              refine g_aload_n C dX1_turn_203 (gr _) rfl ?_
              refine g_aload_n C dX1_turn_204 (gr _) rfl ?_
              refine D_g_treadles C (isD_ov _ _ _ _ _) q184 dX1_turn_205 ?_
              refine g_top (b := F 3) (by simp only [uI, dT2, dT1]; (repeat' rw [if_neg (by omega)])) ?_
              refine D_p_shafts C q181 dX1_turn_208 ?_
              refine g_aload_n C dX1_turn_211 (gr _) rfl ?_
              refine g_iload_n C dX1_turn_212 (gi _) rfl ?_
              refine D_p_treadles C q184 dX1_turn_213 ?_
              refine g_widen (k' := 1) (n' := 6) (Nat.le_of_ble_eq_true rfl) (Nat.le_of_ble_eq_true rfl) ?_
              exact g_vret C hQ rfl dX1_turn_216 ⟨rfl, gd (by rw [show k = 12 by omega]; rfl), rfl⟩
            · refine g_aload_n C dX1_turn_96 (gr _) rfl ?_
              refine D_g_warp C (isD_ov _ _ _ _ _) q188 dX1_turn_97 ?_
              refine g_iload_n C dX1_turn_100 (gi _) rfl ?_
              refine D_ld_warp C (isD_ov _ _ _ _ _) (by omega) dX1_turn_101 ?_
              refine D_gE_tied C (isD_ov _ _ _ _ _) (by omega) (Or.inr q130) q129 dX1_turn_102 ?_
              refine g_top (b := dT1 F 6 (4 + k)) (by simp only [uI, dT2]; (repeat' rw [if_neg (by omega)])) ?_
              refine g_istore_n1003 C dX1_turn_105 (gi _) rfl ?_
              refine g_aload_n C dX1_turn_106 (gr _) rfl ?_
              refine D_g_warp C (isD_ov _ _ _ _ _) q188 dX1_turn_107 ?_
              refine g_iload_n C dX1_turn_110 (gi _) rfl ?_
              refine D_ld_warp C (isD_ov _ _ _ _ _) (by omega) dX1_turn_111 ?_
              refine D_gE_colour C (isD_ov _ _ _ _ _) (by omega) (Or.inr q138) q137 dX1_turn_112 ?_
              refine g_top (b := dT1 F 6 (34 + k)) (by simp only [uI, dT2]; (repeat' rw [if_neg (by omega)])) ?_
              refine g_istore1004 C dX1_turn_115 (gi _) rfl ?_
              refine g_aload_n C dX1_turn_117 (gr _) rfl ?_
              refine D_g_warp C (isD_ov _ _ _ _ _) q188 dX1_turn_118 ?_
              refine g_iload_n C dX1_turn_121 (gi _) rfl ?_
              refine D_ld_warp C (isD_ov _ _ _ _ _) (by omega) dX1_turn_122 ?_
              refine g_aload_n C dX1_turn_123 (gr _) rfl ?_
              refine D_g_weft C (isD_ov _ _ _ _ _) q190 dX1_turn_124 ?_
              refine g_iload_n C dX1_turn_127 (gi _) rfl ?_
              refine D_ld_weft C (isD_ov _ _ _ _ _) (by omega) dX1_turn_128 ?_
              refine D_gP_tied C (isD_ov _ _ _ _ _) (by omega) (Or.inr q132) q131 dX1_turn_129 ?_
              refine g_top (b := dT1 F 6 (22 + k)) (by simp only [uI, dT2]; (repeat' rw [if_neg (by omega)])) ?_
              refine D_pE_tied C (by omega) (Or.inr q130) q129 dX1_turn_132 ?_
              refine g_aload_n C dX1_turn_135 (gr _) rfl ?_
              refine D_g_warp C (isD_ov _ _ _ _ _) q188 dX1_turn_136 ?_
              refine g_iload_n C dX1_turn_139 (gi _) rfl ?_
              refine D_ld_warp C (isD_ov _ _ _ _ _) (by omega) dX1_turn_140 ?_
              refine g_aload_n C dX1_turn_141 (gr _) rfl ?_
              refine D_g_weft C (isD_ov _ _ _ _ _) q190 dX1_turn_142 ?_
              refine g_iload_n C dX1_turn_145 (gi _) rfl ?_
              refine D_ld_weft C (isD_ov _ _ _ _ _) (by omega) dX1_turn_146 ?_
              refine D_gP_colour C (isD_ov _ _ _ _ _) (by omega) (Or.inr q140) q139 dX1_turn_147 ?_
              refine g_top (b := dT1 F 6 (46 + k)) (by simp only [uI, dT2]; (repeat' rw [if_neg (by omega)])) ?_
              refine D_pE_colour C (by omega) (Or.inr q138) q137 dX1_turn_150 ?_
              refine g_aload_n C dX1_turn_153 (gr _) rfl ?_
              refine D_g_weft C (isD_ov _ _ _ _ _) q190 dX1_turn_154 ?_
              refine g_iload_n C dX1_turn_157 (gi _) rfl ?_
              refine D_ld_weft C (isD_ov _ _ _ _ _) (by omega) dX1_turn_158 ?_
              refine g_iload_n C dX1_turn_159 (gi _) rfl ?_
              refine D_pP_tied C (by omega) (Or.inr q132) q131 dX1_turn_160 ?_
              refine g_aload_n C dX1_turn_163 (gr _) rfl ?_
              refine D_g_weft C (isD_ov _ _ _ _ _) q190 dX1_turn_164 ?_
              refine g_iload_n C dX1_turn_167 (gi _) rfl ?_
              refine D_ld_weft C (isD_ov _ _ _ _ _) (by omega) dX1_turn_168 ?_
              refine g_iload C dX1_turn_169 (gi _) rfl ?_
              refine D_pP_colour C (by omega) (Or.inr q140) q139 dX1_turn_171 ?_
              refine g_iinc1002 C dX1_turn_174 rfl ?_
              refine g_goto C (tgt := 90) dX1_turn_177 (by decide) ?_
              refine g_hE (gd (dT2_s _ (by omega))) ?_
              refine g_sub (L' := [some _, some _, some _, none, none]) ⟨rfl, ⟨rfl, ⟨rfl, trivial⟩⟩⟩ ?_
              exact ih2 _ (by omega) (by omega)
        refine g_hE (gd ((show dT1 F t = dT1 F 6 by rw [show t = 6 by omega]).trans (dT2_0 _).symm)) ?_
        refine g_sub (L' := [some _, some _, some _, none, none]) ⟨rfl, ⟨rfl, ⟨rfl, trivial⟩⟩⟩ ?_
        exact lp90_2 _ _ (by omega) (Nat.lt_succ_self _)
      · refine g_aload_n C dX1_turn_19 (gr _) rfl ?_
        refine D_g_ties C (isD_ov _ _ _ _ _) q186 dX1_turn_20 ?_
        refine g_iload_n C dX1_turn_23 (gi _) rfl ?_
        refine g_iconst C dX1_turn_24 ?_
        refine D_st_ties C (by omega) dX1_turn_25 ?_
        refine g_iconst C dX1_turn_26 ?_
        refine g_istore_n1003 C dX1_turn_27 (gi _) rfl ?_
        have lp28_3 : ∀ (fuel : Nat) (s : Int), (0 ≤ s ∧ s ≤ 6) → (6 - s).toNat < fuel → G X (0 + 1) (0 + 6) (ovD dA x b (uI (dT1 F t) (16 + t) (fo (tvF F t) 0 s.toNat)) (gup h sz (gI (dA 0) 6 (tiF F)))) (sz + 1) 28 [some (.ref b), some (.ref sz), some (vI t), some (vI s), none] [] := by
          intro fuel
          induction fuel with
          | zero => intro s hI hfu; exact absurd hfu (Nat.not_lt_zero _)
          | succ fuel ih =>
            intro s hI hfu
            have ih3 := ih
            have hrg := tvF_rg (F := F) t s.toNat (by omega)
            refine g_iload_n C dX1_turn_28 (gi _) rfl ?_
            refine g_bipush C dX1_turn_29 (by decide +kernel) ?_
            refine g_icmp_ge C (tgt := 82) dX1_turn_31 (by decide) (by omega) (fun c3 => ?_) (fun c3 => ?_)
            · refine g_iinc1002 C dX1_turn_82 rfl ?_
              refine g_goto C (tgt := 13) dX1_turn_85 (by decide) ?_
              refine g_hE (gd (show uI (dT1 F t) (16 + t) (fo (tvF F t) 0 s.toNat) = dT1 F (t + 1) by rw [show s = 6 by omega]; exact dT1_s F (by omega))) ?_
              refine g_sub (L' := [some _, some _, some _, none, none]) ⟨rfl, ⟨rfl, ⟨rfl, trivial⟩⟩⟩ ?_
              exact ih1 _ (by omega) (by omega)
            · refine g_aload_n C dX1_turn_34 (gr _) rfl ?_
              refine D_g_ties C (isD_ov _ _ _ _ _) q186 dX1_turn_35 ?_
              refine g_iload_n C dX1_turn_38 (gi _) rfl ?_
              refine g_dup2 C dX1_turn_39 rfl rfl ?_
              refine D_ld_ties C (isD_ov _ _ _ _ _) (by omega) dX1_turn_40 ?_
              refine g_top (b := fo (tvF F t) 0 s.toNat) (by rw [uI_s]) ?_
              refine g_iload_n C dX1_turn_41 (gi _) rfl ?_
              refine g_aload_n C dX1_turn_42 (gr _) rfl ?_
              refine D_g_treadles C (isD_ov _ _ _ _ _) q184 dX1_turn_43 ?_
              refine g_top (b := F 3) (by exact dT1_lo F (by omega) (by omega)) ?_
              refine g_icmp_ge C (tgt := 73) dX1_turn_46 (by decide) (by omega) (fun c4 => ?_) (fun c4 => ?_)
              · have hno : ¬ s < F 3 := by omega
                refine g_iconst C dX1_turn_73 ?_
                refine g_ior C dX1_turn_74 (zI_or (by omega)) ?_
                refine D_st_ties C (by omega) dX1_turn_75 ?_
                refine g_iinc1003 C dX1_turn_76 rfl ?_
                refine g_goto C (tgt := 28) dX1_turn_79 (by decide) ?_
                refine g_hE (gd (show uI (uI (dT1 F t) (16 + t) (fo (tvF F t) 0 s.toNat)) (16 + t) (orI (fo (tvF F t) 0 s.toNat) 0) = uI (dT1 F t) (16 + t) (fo (tvF F t) 0 (s + 1).toNat) by rw [uI_uI, fo_s (by omega)]; unfold tvF; rw [if_neg (by rintro ⟨⟨z1, z2⟩, z3⟩; first | exact hno z1 | exact hno z2 | (rw [hno] at z3; cases z3))])) ?_
                refine g_sub (L' := [some _, some _, some _, some _, none]) ⟨rfl, ⟨rfl, ⟨rfl, ⟨rfl, trivial⟩⟩⟩⟩ ?_
                exact ih3 _ (by omega) (by omega)
              · refine g_iload_n C dX1_turn_49 (gi _) rfl ?_
                refine g_aload_n C dX1_turn_50 (gr _) rfl ?_
                refine D_g_shafts C (isD_ov _ _ _ _ _) q181 dX1_turn_51 ?_
                refine g_top (b := F 2) (by exact dT1_lo F (by omega) (by omega)) ?_
                refine g_icmp_ge C (tgt := 73) dX1_turn_54 (by decide) (by omega) (fun c5 => ?_) (fun c5 => ?_)
                · have hno : ¬ t < F 2 := by omega
                  refine g_iconst C dX1_turn_73 ?_
                  refine g_ior C dX1_turn_74 (zI_or (by omega)) ?_
                  refine D_st_ties C (by omega) dX1_turn_75 ?_
                  refine g_iinc1003 C dX1_turn_76 rfl ?_
                  refine g_goto C (tgt := 28) dX1_turn_79 (by decide) ?_
                  refine g_hE (gd (show uI (uI (dT1 F t) (16 + t) (fo (tvF F t) 0 s.toNat)) (16 + t) (orI (fo (tvF F t) 0 s.toNat) 0) = uI (dT1 F t) (16 + t) (fo (tvF F t) 0 (s + 1).toNat) by rw [uI_uI, fo_s (by omega)]; unfold tvF; rw [if_neg (by rintro ⟨⟨z1, z2⟩, z3⟩; first | exact hno z1 | exact hno z2 | (rw [hno] at z3; cases z3))])) ?_
                  refine g_sub (L' := [some _, some _, some _, some _, none]) ⟨rfl, ⟨rfl, ⟨rfl, ⟨rfl, trivial⟩⟩⟩⟩ ?_
                  exact ih3 _ (by omega) (by omega)
                · have hyes : s < F 3 ∧ t < F 2 := by omega
                  have htd := hO.tied s (by omega)
                  refine g_aload_n C dX1_turn_57 (gr _) rfl ?_
                  refine g_iload_n C dX1_turn_58 (gi _) rfl ?_
                  refine g_iald C (had_at hsz) (by omega) dX1_turn_59 ?_
                  refine g_top (b := F (16 + s)) (by unfold tiF; rw [if_pos (by omega)]) ?_
                  refine g_iload_n C dX1_turn_60 (gi _) rfl ?_
                  refine g_callSN1z C (mX0_has hY (by omega)) (lw_meth q774) (gtok hY C q772 rfl) q773 q67 nd_X0_has ⟨by decide, by decide⟩ ⟨Nat.le_of_ble_eq_true rfl, Nat.le_of_ble_eq_true rfl⟩ rfl (Nat.le_of_ble_eq_true rfl) dX1_turn_61 ?_
                  refine g_ifeq_b C (tgt := 73) dX1_turn_64 (by decide) (fun c6 => ?_) (fun c6 => ?_)
                  · have hno : hasB (F (16 + s)) t = false := c6
                    refine g_iconst C dX1_turn_73 ?_
                    refine g_ior C dX1_turn_74 (zI_or (by omega)) ?_
                    refine D_st_ties C (by omega) dX1_turn_75 ?_
                    refine g_iinc1003 C dX1_turn_76 rfl ?_
                    refine g_goto C (tgt := 28) dX1_turn_79 (by decide) ?_
                    refine g_hE (gd (show uI (uI (dT1 F t) (16 + t) (fo (tvF F t) 0 s.toNat)) (16 + t) (orI (fo (tvF F t) 0 s.toNat) 0) = uI (dT1 F t) (16 + t) (fo (tvF F t) 0 (s + 1).toNat) by rw [uI_uI, fo_s (by omega)]; unfold tvF; rw [if_neg (by rintro ⟨⟨z1, z2⟩, z3⟩; first | exact hno z1 | exact hno z2 | (rw [hno] at z3; cases z3))])) ?_
                    refine g_sub (L' := [some _, some _, some _, some _, none]) ⟨rfl, ⟨rfl, ⟨rfl, ⟨rfl, trivial⟩⟩⟩⟩ ?_
                    exact ih3 _ (by omega) (by omega)
                  · have hhas : hasB (F (16 + s)) t = true := c6
                    have hsh := sh12 (i := s) (by omega)
                    refine g_iconst C dX1_turn_67 ?_
                    refine g_iload_n C dX1_turn_68 (gi _) rfl ?_
                    refine g_ishl C dX1_turn_69 (zI_shl (by omega)) ?_
                    refine g_goto C (tgt := 74) dX1_turn_70 (by decide) ?_
                    refine g_ior C dX1_turn_74 (zI_or (by omega)) ?_
                    refine D_st_ties C (by omega) dX1_turn_75 ?_
                    refine g_iinc1003 C dX1_turn_76 rfl ?_
                    refine g_goto C (tgt := 28) dX1_turn_79 (by decide) ?_
                    refine g_hE (gd (show uI (uI (dT1 F t) (16 + t) (fo (tvF F t) 0 s.toNat)) (16 + t) (orI (fo (tvF F t) 0 s.toNat) (shI s)) = uI (dT1 F t) (16 + t) (fo (tvF F t) 0 (s + 1).toNat) by rw [uI_uI, fo_s (by omega)]; unfold tvF; rw [if_pos ⟨hyes, hhas⟩])) ?_
                    refine g_sub (L' := [some _, some _, some _, some _, none]) ⟨rfl, ⟨rfl, ⟨rfl, ⟨rfl, trivial⟩⟩⟩⟩ ?_
                    exact ih3 _ (by omega) (by omega)
        refine g_sub (L' := [some _, some _, some _, some _, none]) ⟨rfl, ⟨rfl, ⟨rfl, ⟨rfl, trivial⟩⟩⟩⟩ ?_
        exact lp28_3 _ 0 (by omega) (Nat.lt_succ_self _)
  refine g_hE (gd (dT1_0 _).symm) ?_
  refine g_sub (L' := [some _, some _, some _, none, none]) ⟨rfl, ⟨rfl, ⟨rfl, trivial⟩⟩⟩ ?_
  exact lp13_1 _ _ (by omega) (Nat.lt_succ_self _)
