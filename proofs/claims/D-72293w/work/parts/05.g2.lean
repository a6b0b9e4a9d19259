/-! THE LAYER g, second part: arrays, new objects, calls, returns -/
set_option maxRecDepth 100000
section GR2
variable {p : Program} {l : Launch} {e : Env} {R : Room} {s : State} {m : MethodId} {args : Array Value} {below : List Frame} {meth : Method} {c : Code} {Q : State → Prop}
variable {cc : ByteArray} {own nm : String} {nL : Nat} {ret : Option FieldType} {D : va_G} {dA : Nat → ClassId} {N0 : Nat} {Y : State → Prop}
variable {k n : Nat} {h : gH} {sz pc : Nat} {L : List (Option Value)} {st : List Value}
theorem gI_at {F : Int → Int} {i : Int} (h : 0 ≤ i ∧ i < 2147483648) : (fun j : Nat => zI (F (j : Int))) (zI i).toNatClampNeg = zI (F i) := by
  show zI (F ((zI i).toNatClampNeg : Int)) = zI (F i)
  rw [zI_cl h, Int.toNat_of_nonneg h.1]
theorem gR_at {F : Int → Option Nat} {i : Int} (h : 0 ≤ i ∧ i < 2147483648) : (fun j : Nat => F (j : Int)) (zI i).toNatClampNeg = F i := by
  show F ((zI i).toNatClampNeg : Int) = F i
  rw [zI_cl h, Int.toNat_of_nonneg h.1]
theorem gI_up {F : Int → Int} {i v : Int} (h : 0 ≤ i ∧ i < 2147483648) : upd (fun j : Nat => zI (F (j : Int))) (zI i).toNatClampNeg (zI v) = fun j : Nat => zI (uI F i v (j : Int)) := by
  funext j
  rw [zI_cl h]
  by_cases hj : j = i.toNat
  · subst hj
    simp [upd, uI, Int.toNat_of_nonneg h.1]
  · have hn : ¬ (j : Int) = i := by omega
    simp [upd, uI, hj, hn]
theorem gR_up {F : Int → Option Nat} {i : Int} {v : Option Nat} (h : 0 ≤ i ∧ i < 2147483648) : va_up (fun j : Nat => F (j : Int)) (zI i).toNatClampNeg v = fun j : Nat => uI F i v (j : Int) := by
  funext j
  rw [zI_cl h]
  by_cases hj : j = i.toNat
  · subst hj
    simp [va_up, uI, Int.toNat_of_nonneg h.1]
  · have hn : ¬ (j : Int) = i := by omega
    simp [va_up, uI, hj, hn]
theorem g0_iald (C : gC0 p s m args meth c cc own nm nL ret D dA N0 Y) {a N : Nat} {F : Int → Int} {i : Int} (ha : h a = some (gI (dA 0) N F)) (hi : 0 ≤ i ∧ i < N ∧ N < 2147483648) (hdg : decode cc pc = .ok (.iaload, 1)) (kk : G0 p l e R s m args below meth c D N0 nL Q k n h sz (pc + 1) L (vI (F i) :: st)) : G0 p l e R s m args below meth c D N0 nL Q k n h sz pc L (vI i :: .ref a :: st) := by
  refine fun H locs ls hH hS hL => va_iald C.1 C.2.1 C.2.2.2.2.2.1.1 (g0_at hH ha) 0 0 rfl rfl (zI_in (by omega) hi.2.2) hdg ?_
  rw [zI_cl (by omega), Int.toNat_of_nonneg hi.1]
  exact kk H locs ls hH hS hL
theorem g0_bald (C : gC0 p s m args meth c cc own nm nL ret D dA N0 Y) {a N : Nat} {F : Int → Int} {i : Int} (ha : h a = some (gI (dA 1) N F)) (hi : 0 ≤ i ∧ i < N ∧ N < 2147483648) (hdg : decode cc pc = .ok (.baload, 1)) (kk : G0 p l e R s m args below meth c D N0 nL Q k n h sz (pc + 1) L (vI (F i) :: st)) : G0 p l e R s m args below meth c D N0 nL Q k n h sz pc L (vI i :: .ref a :: st) := by
  refine fun H locs ls hH hS hL => va_bald C.1 C.2.1 C.2.2.2.2.2.1.1 (g0_at hH ha) 0 1 rfl rfl (zI_in (by omega) hi.2.2) hdg ?_
  rw [zI_cl (by omega), Int.toNat_of_nonneg hi.1]
  exact kk H locs ls hH hS hL
theorem g0_zald (C : gC0 p s m args meth c cc own nm nL ret D dA N0 Y) {a N : Nat} {F : Int → Int} {i : Int} (ha : h a = some (gI (dA 2) N F)) (hi : 0 ≤ i ∧ i < N ∧ N < 2147483648) (hdg : decode cc pc = .ok (.baload, 1)) (kk : G0 p l e R s m args below meth c D N0 nL Q k n h sz (pc + 1) L (vI (F i) :: st)) : G0 p l e R s m args below meth c D N0 nL Q k n h sz pc L (vI i :: .ref a :: st) := by
  refine fun H locs ls hH hS hL => va_zald C.1 C.2.1 C.2.2.2.2.2.1.1 (g0_at hH ha) 0 2 rfl rfl (zI_in (by omega) hi.2.2) hdg ?_
  rw [zI_cl (by omega), Int.toNat_of_nonneg hi.1]
  exact kk H locs ls hH hS hL
theorem g0_aald (C : gC0 p s m args meth c cc own nm nL ret D dA N0 Y) {a N : Nat} {F : Int → Option Nat} {i : Int} (t : Nat) {ty : FieldType} (ht : (gTys dA)[t]? = some (dA t, ty)) (hty : ty.isReference = true) (ha : h a = some (gR (dA t) N F)) (hi : 0 ≤ i ∧ i < N ∧ N < 2147483648) (hdg : decode cc pc = .ok (.aaload, 1)) (kk : G0 p l e R s m args below meth c D N0 nL Q k n h sz (pc + 1) L (va_rf (F i) :: st)) : G0 p l e R s m args below meth c D N0 nL Q k n h sz pc L (vI i :: .ref a :: st) := by
  intro H locs ls hH hS hL
  have hlt : (zI i).toNatClampNeg < N := by rw [zI_cl (by omega)]; omega
  have hin := zI_in (i := i) (n := N) (by omega) hi.2.2
  refine W.aald (v := va_rf (F i)) (ty := ty) C.1 C.2.1 (hH.2 a _ ha).2 ((C.2.2.2.2.2.1.1.2 t _ ht).1 N (fun j => va_rf (F (j : Int)))) hty (fun q => by cases q) (by show ¬ (_ < 0 ∨ (arrV _ _ _).slots.size ≤ _); rw [arrV_size]; exact hin) ?_ rfl rfl hdg (kk H locs ls hH hS hL)
  show (arrV _ _ _).slots[_]? = _
  rw [arrV_read _ _ hlt, zI_cl (by omega)]
  show some (va_rf (F ((i.toNat : Nat) : Int))) = _
  rw [Int.toNat_of_nonneg hi.1]
theorem g0_iast (C : gC0 p s m args meth c cc own nm nL ret D dA N0 Y) {a N : Nat} {F : Int → Int} {i v : Int} (ha : h a = some (gI (dA 0) N F)) (hi : 0 ≤ i ∧ i < N ∧ N < 2147483648) (hdg : decode cc pc = .ok (.iastore, 1)) (kk : G0 p l e R s m args below meth c D N0 nL Q k n (gup h a (gI (dA 0) N (uI F i v))) sz (pc + 1) L st) : G0 p l e R s m args below meth c D N0 nL Q k n h sz pc L (vI v :: vI i :: .ref a :: st) := by
  intro H locs ls hH hS hL
  have hin := zI_in (i := i) (n := N) (by omega) hi.2.2
  refine W.iast C.1 C.2.1 (hH.2 a _ ha).2 ((C.2.2.2.2.2.1.1.2 0 _ rfl).1 N (fun j => .int (zI (F (j : Int))))) (fun q => by cases q) (by show ¬ (_ < 0 ∨ (arrV _ _ _).slots.size ≤ _); rw [arrV_size]; exact hin) rfl rfl hdg fun H1 e z oq => ?_
  refine kk H1 _ ls (hH.put ha ?_ z oq) (hS.put z oq (hH.2 a _ ha).1) hL
  show H1[a]? = some (vp_cell (dA 0) (N, .inl (fun j : Nat => zI (uI F i v (j : Int)))))
  rw [e, ← gI_up (by omega), vp_cell_i, vp_cell_i, arrV_store]
  congr 2
  funext q
  by_cases hq : q = (zI i).toNatClampNeg
  · subst hq
    simp [updV, upd]
  · simp [updV, upd, hq]
theorem g0_bast (C : gC0 p s m args meth c cc own nm nL ret D dA N0 Y) {a N : Nat} {F : Int → Int} {i v r : Int} (ha : h a = some (gI (dA 1) N F)) (hi : 0 ≤ i ∧ i < N ∧ N < 2147483648) (hr : narrow .byte (vI v) = vI r) (hdg : decode cc pc = .ok (.bastore, 1)) (kk : G0 p l e R s m args below meth c D N0 nL Q k n (gup h a (gI (dA 1) N (uI F i r))) sz (pc + 1) L st) : G0 p l e R s m args below meth c D N0 nL Q k n h sz pc L (vI v :: vI i :: .ref a :: st) := by
  intro H locs ls hH hS hL
  have hin := zI_in (i := i) (n := N) (by omega) hi.2.2
  refine W.bast C.1 C.2.1 (hH.2 a _ ha).2 ((C.2.2.2.2.2.1.1.2 1 _ rfl).1 N (fun j => .int (zI (F (j : Int))))) (fun q => by cases q) (by show ¬ (_ < 0 ∨ (arrV _ _ _).slots.size ≤ _); rw [arrV_size]; exact hin) rfl rfl hdg fun H1 e z oq => ?_
  refine kk H1 _ ls (hH.put ha ?_ z oq) (hS.put z oq (hH.2 a _ ha).1) hL
  show H1[a]? = some (vp_cell (dA 1) (N, .inl (fun j : Nat => zI (uI F i r (j : Int)))))
  have hr : narrow .byte (.int (zI v)) = .int (zI r) := hr
  rw [e, ← gI_up (by omega), vp_cell_i, vp_cell_i, arrV_store]
  congr 2
  funext q
  by_cases hq : q = (zI i).toNatClampNeg
  · subst hq
    simp only [updV, upd, if_true]
    exact hr
  · simp [updV, upd, hq]
theorem g0_zast (C : gC0 p s m args meth c cc own nm nL ret D dA N0 Y) {a N : Nat} {F : Int → Int} {i v r : Int} (ha : h a = some (gI (dA 2) N F)) (hi : 0 ≤ i ∧ i < N ∧ N < 2147483648) (hr : narrow .boolean (vI v) = vI r) (hdg : decode cc pc = .ok (.bastore, 1)) (kk : G0 p l e R s m args below meth c D N0 nL Q k n (gup h a (gI (dA 2) N (uI F i r))) sz (pc + 1) L st) : G0 p l e R s m args below meth c D N0 nL Q k n h sz pc L (vI v :: vI i :: .ref a :: st) := by
  intro H locs ls hH hS hL
  have hin := zI_in (i := i) (n := N) (by omega) hi.2.2
  refine W.zast C.1 C.2.1 (hH.2 a _ ha).2 ((C.2.2.2.2.2.1.1.2 2 _ rfl).1 N (fun j => .int (zI (F (j : Int))))) (fun q => by cases q) (by show ¬ (_ < 0 ∨ (arrV _ _ _).slots.size ≤ _); rw [arrV_size]; exact hin) rfl rfl hdg fun H1 e z oq => ?_
  refine kk H1 _ ls (hH.put ha ?_ z oq) (hS.put z oq (hH.2 a _ ha).1) hL
  show H1[a]? = some (vp_cell (dA 2) (N, .inl (fun j : Nat => zI (uI F i r (j : Int)))))
  have hr : narrow .boolean (.int (zI v)) = .int (zI r) := hr
  rw [e, ← gI_up (by omega), vp_cell_i, vp_cell_i, arrV_store]
  congr 2
  funext q
  by_cases hq : q = (zI i).toNatClampNeg
  · subst hq
    simp only [updV, upd, if_true]
    exact hr
  · simp [updV, upd, hq]
theorem g0_aastK (C : gC0 p s m args meth c cc own nm nL ret D dA N0 Y) {a b N ci : Nat} {F : Int → Option Nat} {i : Int} {fs : List Value} (t : Nat) {Cn : String} {T : u_T} {M : Nat} (ht : (gTys dA)[t]? = some (dA t, .object Cn)) (ha : h a = some (gR (dA t) N F)) (hb : h b = some (gO ci fs)) (hc : vwCl[ci]? = some (Cn, T, M)) (hi : 0 ≤ i ∧ i < N ∧ N < 2147483648) (hdg : decode cc pc = .ok (.aastore, 1)) (kk : G0 p l e R s m args below meth c D N0 nL Q k n (gup h a (gR (dA t) N (uI F i (some b)))) sz (pc + 1) L st) : G0 p l e R s m args below meth c D N0 nL Q k n h sz pc L (.ref b :: vI i :: .ref a :: st) := by
  intro H locs ls hH hS hL
  have hlt : (zI i).toNatClampNeg < N := by rw [zI_cl (by omega)]; omega
  have h0 := zI_nneg (i := i) (by omega)
  obtain ⟨kA, comp, k1, k2, k3, -⟩ := (C.2.2.2.2.2.1.1.2 t _ ht).2
  obtain ⟨kE, hkE, -⟩ := Vm.findClass_spec k3
  obtain ⟨cellV, g1, g2, g3⟩ := va_recv C.2.2.2.2.2.1.1 (g0_at hH hb) (q0 := 0) hc rfl
  obtain ⟨kV, hkV, -⟩ := Vm.findClass_spec g3
  refine W.aast C.1 C.2.1 (hH.2 a _ ha).2 (fun q h => by cases h) (fun h => by cases h) k1 k2 rfl hkE ⟨h0, by show _ < (arrV _ _ _).slots.size; rw [arrV_size]; exact hlt⟩ g1 (fun q h => by rw [h] at g2; cases g2) hkV (vb_asgS comp _ k3 g3) rfl rfl hdg fun H1 e z oq => ?_
  refine kk H1 _ ls (hH.put ha ?_ z oq) (hS.put z oq (hH.2 a _ ha).1) hL
  show H1[a]? = some (vp_cell (dA t) (N, .inr (.inr (.inr (.inr (fun j : Nat => uI F i (some b) (j : Int)))))))
  rw [e, ← gR_up (by omega), vp_cell_q, vp_cell_q, arrV_store]
  congr 2
  funext q
  by_cases hq : q = (zI i).toNatClampNeg
  · subst hq
    simp [updV, va_up, va_rf]
  · simp [updV, va_up, hq]
theorem g0_aastN (C : gC0 p s m args meth c cc own nm nL ret D dA N0 Y) {a N : Nat} {F : Int → Option Nat} {i : Int} (t : Nat) {Cn : String} (ht : (gTys dA)[t]? = some (dA t, .object Cn)) (ha : h a = some (gR (dA t) N F)) (hi : 0 ≤ i ∧ i < N ∧ N < 2147483648) (hdg : decode cc pc = .ok (.aastore, 1)) (kk : G0 p l e R s m args below meth c D N0 nL Q k n (gup h a (gR (dA t) N (uI F i none))) sz (pc + 1) L st) : G0 p l e R s m args below meth c D N0 nL Q k n h sz pc L (.null :: vI i :: .ref a :: st) := by
  intro H locs ls hH hS hL
  have hin := zI_in (i := i) (n := N) (by omega) hi.2.2
  refine va_WaastN (C := Cn) C.1 C.2.1 (hH.2 a _ ha).2 ((C.2.2.2.2.2.1.1.2 t _ ht).1 N (fun j => va_rf (F (j : Int)))) (fun h => by cases h) (by show ¬ (_ < 0 ∨ (arrV _ _ _).slots.size ≤ _); rw [arrV_size]; exact hin) rfl rfl hdg fun H1 e z oq => ?_
  refine kk H1 _ ls (hH.put ha ?_ z oq) (hS.put z oq (hH.2 a _ ha).1) hL
  show H1[a]? = some (vp_cell (dA t) (N, .inr (.inr (.inr (.inr (fun j : Nat => uI F i none (j : Int)))))))
  rw [e, ← gR_up (by omega), vp_cell_q, vp_cell_q, arrV_store]
  congr 2
  funext q
  by_cases hq : q = (zI i).toNatClampNeg
  · subst hq
    simp [updV, va_up, va_rf]
  · simp [updV, va_up, hq]
theorem g0_alen (C : gC0 p s m args meth c cc own nm nL ret D dA N0 Y) {a N : Nat} {x : (Nat → Int32) ⊕ (Nat → Int64) ⊕ (Nat → UInt32) ⊕ (Nat → UInt64) ⊕ (Nat → Option Nat)} (t : Nat) {ty : FieldType} (ht : (gTys dA)[t]? = some (dA t, ty)) (ha : h a = some (.inl (dA t, N, x))) (hdg : decode cc pc = .ok (.arraylength, 1)) (kk : G0 p l e R s m args below meth c D N0 nL Q k n h sz (pc + 1) L (vI N :: st)) : G0 p l e R s m args below meth c D N0 nL Q k n h sz pc L (.ref a :: st) :=
  fun H locs ls hH hS hL => va_alen C.1 C.2.1 C.2.2.2.2.2.1.1 (g0_at hH ha) 0 t rfl ht (v := zI N) (zI_nI N).symm hdg (kk H locs ls hH hS hL)
theorem g0_new (C : gC0 p s m args meth c cc own nm nL ret D dA N0 Y) {Cn : String} {T : u_T} {N ci i : Nat} {fs : List Value} (hc : vwCl[ci]? = some (Cn, T, N)) (hin : ∀ w ∈ u_ws Cn T N, w ∈ lw_all) (ty : Nat → FieldType) (hty : ∀ k, k < N → parseFieldDescriptor (T k).2.2.1 = some (ty k)) (hcl : Cond.classLink own i Cn ∈ lw_all) (hinst : Cond.instantiable Cn N ∈ lw_all) (hini : Cond.initialized Cn ∈ lw_all) (hfs : ∀ j, j < N → defaultValue (ty j) = vp_V fs j) (hR : k + 1 ≤ R.cells ∧ n + N ≤ R.slots) (hdg : decode cc pc = .ok (.new i, 3))
    (kk : h sz = none → G0 p l e R s m args below meth c D N0 nL Q (k + 1) (n + N) (gup h sz (gO ci fs)) (sz + 1) (pc + 3) L (.ref sz :: st)) : G0 p l e R s m args below meth c D N0 nL Q k n h sz pc L st := by
  intro H locs ls hH hS hL
  have hts := C.2.2.2.2.1
  have hK := C.2.2.2.2.2.1.1
  have hKn := hK.1 ci _ hc
  have h0 : N0 ≤ sz := by rw [← hH.1]; exact Nat.le_trans C.2.2.2.2.2.1.2.1 hS.1
  have hn : h sz = none := by
    cases hx : h sz with
    | none => rfl
    | some x => exact absurd (hH.lt hx) (Nat.lt_irrefl _)
  refine W.newcK C.1 C.2.1 C.2.2.2.1 (hts _ hcl) (hts _ hinst) (hts _ hini) rfl hdg hR.1 hR.2 hKn.2.1 hH.1 fun H1 kC hkC e1 z1 o1 => ?_
  exact kk hn H1 locs ls (hH.push h0 ⟨_, hc, (u_born ty hts hin hKn hkC e1 hty).to hfs⟩ z1 o1) (gS.push hS hH.1 z1 o1) hL
theorem g0_newa (C : gC0 p s m args meth c cc own nm nL ret D dA N0 Y) {atype : ArrayType} {N : Nat} (t : Nat) {ty : FieldType} (hty : newarray.typeOf atype = ty) (ht : (gTys dA)[t]? = some (dA t, ty)) (hpr : ∀ U cA, va_RA U cA ty = (U.vm.findClass ("[" ++ ty.toString) = some cA)) (hdf : defaultValue ty = .int 0) (harr : Cond.arrayClass ty ∈ lw_all) (hN : N * 8 ≤ 536870912) (hcb : componentBytes ty ≤ 8) (hR : k + 1 ≤ R.cells ∧ n + N ≤ R.slots) (hdg : decode cc pc = .ok (.newarray atype, 2))
    (kk : h sz = none → G0 p l e R s m args below meth c D N0 nL Q (k + 1) (n + N) (gup h sz (gI (dA t) N (fun _ => 0))) (sz + 1) (pc + 2) L (.ref sz :: st)) : G0 p l e R s m args below meth c D N0 nL Q k n h sz pc L (vI (N : Int) :: st) := by
  subst hty
  intro H locs ls hH hS hL
  have hts := C.2.2.2.2.1
  have hK := C.2.2.2.2.2.1.1
  have h0 : N0 ≤ sz := by rw [← hH.1]; exact Nat.le_trans C.2.2.2.2.2.1.2.1 hS.1
  have hn : h sz = none := by
    cases hx : h sz with
    | none => rfl
    | some x => exact absurd (hH.lt hx) (Nat.lt_irrefl _)
  have hb : N * componentBytes (newarray.typeOf atype) ≤ 536870912 := Nat.le_trans (Nat.mul_le_mul_left N hcb) hN
  refine va_newaK C.1 C.2.1 (hts _ harr) rfl hdg rfl (zI_nneg (i := (N : Int)) (by omega)) (by rw [zI_cl (by omega)]; rfl) hb hR.1 hR.2 hH.1 fun H1 cA e1 z1 o1 hAr hNm => ?_
  have hra := (hK.2 t _ ht).2
  rw [hpr] at hra
  cases hNm.symm.trans hra
  refine kk hn H1 locs ls (hH.push h0 ?_ z1 o1) (gS.push hS hH.1 z1 o1) hL
  show H1[sz]? = some (vp_cell (dA t) (N, .inl (fun j : Nat => zI 0)))
  rw [e1, hdf, vp_cell_i, zI_0]
theorem g0_anew (C : gC0 p s m args meth c cc own nm nL ret D dA N0 Y) {N i : Nat} (t : Nat) {Cn : String} (ht : (gTys dA)[t]? = some (dA t, .object Cn)) (hcl : Cond.classLink own i Cn ∈ lw_all) (hao : va_AO Cn s) (hN : N * 4 ≤ 536870912) (hR : k + 1 ≤ R.cells ∧ n + N ≤ R.slots) (hdg : decode cc pc = .ok (.anewarray i, 3))
    (kk : h sz = none → G0 p l e R s m args below meth c D N0 nL Q (k + 1) (n + N) (gup h sz (gR (dA t) N (fun _ => none))) (sz + 1) (pc + 3) L (.ref sz :: st)) : G0 p l e R s m args below meth c D N0 nL Q k n h sz pc L (vI (N : Int) :: st) := by
  intro H locs ls hH hS hL
  have hts := C.2.2.2.2.1
  have hK := C.2.2.2.2.2.1.1
  have h0 : N0 ≤ sz := by rw [← hH.1]; exact Nat.le_trans C.2.2.2.2.2.1.2.1 hS.1
  have hn : h sz = none := by
    cases hx : h sz with
    | none => rfl
    | some x => exact absurd (hH.lt hx) (Nat.lt_irrefl _)
  have hcl2 : (zI (N : Int)).toNatClampNeg = N := by rw [zI_cl (by omega)]; rfl
  refine W.anew (n := zI (N : Int)) C.1 C.2.1 C.2.2.2.1 (hts _ hcl) (va_AO.use hao) rfl hdg rfl (zI_nneg (i := (N : Int)) (by omega)) (by rw [hcl2]; exact hN) hR.1 (by rw [hcl2]; exact hR.2) fun cA kA comp h1 h2 h3 h4 => ?_
  obtain ⟨kA', comp', -, -, -, h5⟩ := (hK.2 t _ ht).2
  cases h1.symm.trans h5
  rw [hcl2, arrV_new, hH.1]
  have e1 : (H.push (arrV (dA t) N (fun _ => Value.null)))[sz]? = some (arrV (dA t) N (fun _ => Value.null)) := by rw [← hH.1, Array.getElem?_push_size]
  have z1 : (H.push (arrV (dA t) N (fun _ => Value.null))).size = sz + 1 := by rw [Array.size_push, hH.1]
  have o1 : ∀ q : Nat, q < sz → (H.push (arrV (dA t) N (fun _ => Value.null)))[q]? = H[q]? := fun q hq => by rw [Array.getElem?_push, if_neg (by rw [hH.1]; exact Nat.ne_of_lt hq)]
  generalize H.push (arrV (dA t) N (fun _ => Value.null)) = H1 at e1 z1 o1 ⊢
  exact kk hn H1 locs ls (hH.push h0 e1 z1 o1) (gS.push hS hH.1 z1 o1) hL
theorem g0_run {st0 rest : List Value} {P : Option Value → gH → Nat → Prop} {H : Heap} {locs : List Loc} {ls : Array Slot} {mc ms : Nat} {aa : Array Value} (hr : va_Run p l e R s m args below meth c H locs k n mc ms (F0 m pc ls st0) rest (gQ D N0 P aa) (gA N0)) (hS : va_S (gA N0) s.heap H locs) (hL : gL ls nL L)
    (kk : ∀ (v : Option Value) (h1 : gH) (z1 : Nat), P v h1 z1 → G0 p l e R s m args below meth c D N0 nL Q (k + mc) (n + ms) h1 z1 (pc + 3) L (v.toList ++ rest)) : W p l e R s m args below meth c H locs k n Q (F0 m pc ls st0) := by
  intro T hT X
  obtain ⟨v, st₀, t, T', Lc, h0, X', hLc, e1, e2, ⟨⟨v', h', sz', hv, hP, hH'⟩, hz, hk⟩, stp⟩ := hr T hT X
  cases hv
  rw [h0] at hz hk
  obtain ⟨t2, a1, b1⟩ := kk v h' sz' hP T'.heap (locs ++ Lc) ls (by rw [e1]; exact hH')
    ⟨Nat.le_trans hS.1 (by rw [e1]; exact hz), fun q h1 h2 => by rw [e1, hk q (Nat.lt_of_lt_of_le h1 hS.1) h2]; exact hS.2.1 q h1 h2, fun q hq => by
      rcases List.mem_append.mp hq with h | h
      · exact hS.2.2 q h
      · exact hLc q h⟩ hL T' rfl X'
  exact ⟨t2, stp t2 a1, b1⟩
theorem g0_pre {H : Heap} {locs : List Loc} {av : List Value} (C : gC0 p s m args meth c cc own nm nL ret D dA N0 Y) (hH : gHp D N0 h sz H) (hS : va_S (gA N0) s.heap H locs) : PreS s H (va_Pc av (fun U => gK D dA N0 Y U ∧ gHp D N0 h sz U.heap)) av :=
  ⟨gBlind C.2.2.2.2.2.2.1, fun U hU hW => ⟨rfl, gK.go (locs := locs) C.2.2.2.2.2.2.1 hW (by rw [hU]; exact hS) C.2.2.2.2.2.1, by rw [hU]; exact hH⟩⟩
theorem g0_callV (C : gC0 p s m args meth c cc own nm nL ret D dA N0 Y) {y : MethodName} {cy : ByteArray} {nLy : Nat} {rty : Option FieldType} {fr lo mc ms i : Nat} {P : Option Value → gH → Nat → Prop} {b ci : Nat} {fs As rest st0 : List Value} {Cn : String} {T : u_T} {N : Nat} (hM : gM l D dA N0 Y y cy nLy rty fr lo mc ms (.ref b :: As) h sz P) (hw : GoodIn lw_all (wsV own i Cn y (ws_ y cy nLy rty))) (hd : y.cls = Cn ∧ y.cls ≠ "java/lang/invoke/MethodHandle" ∧ y.cls ≠ "java/lang/invoke/VarHandle" ∧ (parseMethodDescriptor y.desc).map (fun d => d.parameters.length) = some As.length) (hb : h b = some (gO ci fs)) (hc : vwCl[ci]? = some (Cn, T, N)) (hR : fr + 1 ≤ R.frames ∧ 8 + (nLy + 11) + lo ≤ R.locals) (hf : k + mc ≤ R.cells ∧ n + ms ≤ R.slots) (hst : st0 = As.reverse ++ .ref b :: rest) (hcat : (rest.map fun v => v.category).sum ≤ 8) (hdg : decode cc pc = .ok (.invokevirtual i, 3))
    (kk : ∀ (v : Option Value) (h1 : gH) (z1 : Nat), P v h1 z1 → G0 p l e R s m args below meth c D N0 nL Q (k + mc) (n + ms) h1 z1 (pc + 3) L (v.toList ++ rest)) : G0 p l e R s m args below meth c D N0 nL Q k n h sz pc L st0 := by
  intro H locs ls hH hS hL
  subst hst
  exact g0_run (va_runV (As := As) (rest := rest) ⟨C.1, C.2.1, C.2.2.1, C.2.2.2.1, C.2.2.2.2.1⟩ hM (cwV As.length C.2.2.2.2.1 hw rfl rfl rfl hd hR) ⟨(g0_pre C hH hS).1, va_recv C.2.2.2.2.2.1.1 (g0_at hH hb) (q0 := 0) hc rfl, (g0_pre C hH hS).2⟩ rfl rfl hL.1 rfl (lv_room hcat) hdg hf) hS hL kk
theorem g0_callS (C : gC0 p s m args meth c cc own nm nL ret D dA N0 Y) {y : MethodName} {cy : ByteArray} {nLy : Nat} {rty : Option FieldType} {fr lo mc ms i : Nat} {P : Option Value → gH → Nat → Prop} {As rest st0 : List Value} (hM : gM l D dA N0 Y y cy nLy rty fr lo mc ms As h sz P) (hw : GoodIn lw_all (va_wsS own i y (ws_ y cy nLy rty))) (hd : y.cls ≠ "java/lang/invoke/MethodHandle" ∧ y.cls ≠ "java/lang/invoke/VarHandle" ∧ (parseMethodDescriptor y.desc).map (fun d => d.parameters.length) = some As.length) (hR : fr + 1 ≤ R.frames ∧ 8 + (nLy + 11) + lo ≤ R.locals) (hf : k + mc ≤ R.cells ∧ n + ms ≤ R.slots) (hst : st0 = As.reverse ++ rest) (hcat : (rest.map fun v => v.category).sum ≤ 8) (hdg : decode cc pc = .ok (.invokestatic i, 3))
    (kk : ∀ (v : Option Value) (h1 : gH) (z1 : Nat), P v h1 z1 → G0 p l e R s m args below meth c D N0 nL Q (k + mc) (n + ms) h1 z1 (pc + 3) L (v.toList ++ rest)) : G0 p l e R s m args below meth c D N0 nL Q k n h sz pc L st0 := by
  intro H locs ls hH hS hL
  subst hst
  exact g0_run (va_runS (As := As) (rest := rest) ⟨C.1, C.2.1, C.2.2.1, C.2.2.2.1, C.2.2.2.2.1⟩ hM (va_cwS As.length C.2.2.2.2.1 hw rfl rfl rfl hd hR) (g0_pre C hH hS) rfl rfl hL.1 rfl (lv_room hcat) hdg hf) hS hL kk
theorem g0_callI (C : gC0 p s m args meth c cc own nm nL ret D dA N0 Y) {y : MethodName} {cy : ByteArray} {nLy : Nat} {fr lo mc ms i : Nat} {P : Option Value → gH → Nat → Prop} {b : Nat} {As rest st0 : List Value} (hM : gM l D dA N0 Y y cy nLy none fr lo mc ms (.ref b :: As) h sz P) (hw : GoodIn lw_all (ws_ y cy nLy none)) (hini : Cond.initialized y.cls ∈ lw_all) (hl : Cond.methodLink own i y ∈ lw_all) (hin : Cond.instanceMethod y ∈ lw_all) (hyn : y.name = "<init>") (hd : y.cls ≠ "java/lang/invoke/MethodHandle" ∧ y.cls ≠ "java/lang/invoke/VarHandle" ∧ (parseMethodDescriptor y.desc).map (fun d => d.parameters.length) = some As.length) (hR : fr + 1 ≤ R.frames ∧ 8 + (nLy + 11) + lo ≤ R.locals) (hf : k + mc ≤ R.cells ∧ n + ms ≤ R.slots) (hst : st0 = As.reverse ++ .ref b :: rest) (hcat : (rest.map fun v => v.category).sum ≤ 8) (hdg : decode cc pc = .ok (.invokespecial i, 3))
    (kk : ∀ (v : Option Value) (h1 : gH) (z1 : Nat), P v h1 z1 → G0 p l e R s m args below meth c D N0 nL Q (k + mc) (n + ms) h1 z1 (pc + 3) L (v.toList ++ rest)) : G0 p l e R s m args below meth c D N0 nL Q k n h sz pc L st0 := by
  intro H locs ls hH hS hL
  subst hst
  have hts := C.2.2.2.2.1
  exact g0_run (va_runI (As := As) (rest := rest) ⟨C.1, C.2.1, C.2.2.1, C.2.2.2.1, C.2.2.2.2.1⟩ hM (cwI As.length hts hw rfl rfl rfl (hts _ hini) (hts _ hl) (hts _ hin) hyn hd hR) (g0_pre C hH hS) rfl rfl hL.1 rfl (lv_room hcat) hdg hf) hS hL kk
theorem g0_callSN (C : gC0 p s m args meth c cc own nm nL ret D dA N0 Y) {y : MethodName} {cy : ByteArray} {nLy : Nat} {rty : Option FieldType} {fr lo mc ms i : Nat} {P : Option Value → gH → Nat → Prop} {host : String} {As rest st0 : List Value} (hM : gM l D dA N0 Y y cy nLy rty fr lo mc ms As h sz P) (hw : GoodIn lw_all (ws_ y cy nLy rty)) (hl : va_Nw (.methodLinkNest own i y host) s) (hstat : Cond.static y ∈ lw_all) (hini : Cond.initialized y.cls ∈ lw_all) (hd : y.cls ≠ "java/lang/invoke/MethodHandle" ∧ y.cls ≠ "java/lang/invoke/VarHandle" ∧ (parseMethodDescriptor y.desc).map (fun d => d.parameters.length) = some As.length) (hR : fr + 1 ≤ R.frames ∧ 8 + (nLy + 11) + lo ≤ R.locals) (hf : k + mc ≤ R.cells ∧ n + ms ≤ R.slots) (hst : st0 = As.reverse ++ rest) (hcat : (rest.map fun v => v.category).sum ≤ 8) (hdg : decode cc pc = .ok (.invokestatic i, 3))
    (kk : ∀ (v : Option Value) (h1 : gH) (z1 : Nat), P v h1 z1 → G0 p l e R s m args below meth c D N0 nL Q (k + mc) (n + ms) h1 z1 (pc + 3) L (v.toList ++ rest)) : G0 p l e R s m args below meth c D N0 nL Q k n h sz pc L st0 := by
  intro H locs ls hH hS hL
  subst hst
  have hts := C.2.2.2.2.1
  exact g0_run (va_runSN (As := As) (rest := rest) ⟨C.1, C.2.1, C.2.2.1, C.2.2.2.1, C.2.2.2.2.1⟩ hM ⟨va_cnB As.length hts hw rfl rfl rfl hl (hts _ hini) hd hR, hts _ hstat, trivial⟩ (g0_pre C hH hS) rfl rfl hL.1 rfl (lv_room hcat) hdg hf) hS hL kk
theorem g0_callIN (C : gC0 p s m args meth c cc own nm nL ret D dA N0 Y) {y : MethodName} {cy : ByteArray} {nLy : Nat} {fr lo mc ms i : Nat} {P : Option Value → gH → Nat → Prop} {host : String} {b : Nat} {As rest st0 : List Value} (hM : gM l D dA N0 Y y cy nLy none fr lo mc ms (.ref b :: As) h sz P) (hw : GoodIn lw_all (ws_ y cy nLy none)) (hl : va_Nw (.methodLinkNest own i y host) s) (hini : Cond.initialized y.cls ∈ lw_all) (hin : Cond.instanceMethod y ∈ lw_all) (hyn : y.name = "<init>") (hd : y.cls ≠ "java/lang/invoke/MethodHandle" ∧ y.cls ≠ "java/lang/invoke/VarHandle" ∧ (parseMethodDescriptor y.desc).map (fun d => d.parameters.length) = some As.length) (hR : fr + 1 ≤ R.frames ∧ 8 + (nLy + 11) + lo ≤ R.locals) (hf : k + mc ≤ R.cells ∧ n + ms ≤ R.slots) (hst : st0 = As.reverse ++ .ref b :: rest) (hcat : (rest.map fun v => v.category).sum ≤ 8) (hdg : decode cc pc = .ok (.invokespecial i, 3))
    (kk : ∀ (v : Option Value) (h1 : gH) (z1 : Nat), P v h1 z1 → G0 p l e R s m args below meth c D N0 nL Q (k + mc) (n + ms) h1 z1 (pc + 3) L (v.toList ++ rest)) : G0 p l e R s m args below meth c D N0 nL Q k n h sz pc L st0 := by
  intro H locs ls hH hS hL
  subst hst
  have hts := C.2.2.2.2.1
  exact g0_run (va_runIN (As := As) (rest := rest) ⟨C.1, C.2.1, C.2.2.1, C.2.2.2.1, C.2.2.2.2.1⟩ hM ⟨va_cnB As.length hts hw rfl rfl rfl hl (hts _ hini) hd hR, hyn, hts _ hin⟩ (g0_pre C hH hS) rfl rfl hL.1 rfl (lv_room hcat) hdg hf) hS hL kk
theorem g0_objInit (C : gC0 p s m args meth c cc own nm nL ret D dA N0 Y) {a i : Nat} {rest : List Value} (hl : Cond.methodLink own i Lib.objectInit ∈ lw_all) (hin : Cond.instanceMethod Lib.objectInit ∈ lw_all) (hcode : Cond.code Lib.objectInit ⟨#[0xb1]⟩ 1 none ∈ lw_all) (hcat : (rest.map fun v => v.category).sum ≤ 8) (hR : 1 ≤ R.frames ∧ 20 ≤ R.locals) (hdg : decode cc pc = .ok (.invokespecial i, 3)) (kk : G0 p l e R s m args below meth c D N0 nL Q k n h sz (pc + 3) L rest) : G0 p l e R s m args below meth c D N0 nL Q k n h sz pc L (.ref a :: rest) := by
  intro H locs ls hH hS hL
  have hts := C.2.2.2.2.1
  refine W.objInit C.1 C.2.1 C.2.2.2.1 (hts _ hl) (hts _ hin) (hts _ hcode) rfl (hL.1.trans C.2.2.1.symm) rfl hdg hR.1 (by show 2 * 0 + _ + 12 ≤ _; omega) (kk H locs ls hH hS hL)
variable {P : Option Value → gH → Nat → Prop} {mc ms : Nat}
theorem g0_iret (C : gC0 p s m args meth c cc own nm nL ret D dA N0 Y) {z : Int} (hr : ret = some .int) (hdg : decode cc pc = .ok (.ireturn, 1)) (hP : P (some (vI z)) h sz) : G0 p l e R s m args below meth c D N0 nL (gEnd below D N0 P args s mc ms) mc ms h sz pc L [vI z] :=
  fun H locs ls hH hS hL => W.iret C.1 C.2.1 (C.2.2.2.2.2.2.2.1.trans hr) (fun t ht hW => ⟨⟨some (vI z), h, sz, rfl, hP, by rw [ht]; exact hH⟩, hS.F ht⟩) hS.2.2 hdg C.2.2.2.2.2.2.2.2.1
theorem g0_zret (C : gC0 p s m args meth c cc own nm nL ret D dA N0 Y) {b : Bool} (hr : ret = some .boolean) (hdg : decode cc pc = .ok (.ireturn, 1)) (hP : P (some (vI (bI b))) h sz) : G0 p l e R s m args below meth c D N0 nL (gEnd below D N0 P args s mc ms) mc ms h sz pc L [vI (bI b)] :=
  fun H locs ls hH hS hL => W.zret (ty := .boolean) C.1 C.2.1 (C.2.2.2.2.2.2.2.1.trans hr) (by cases b <;> decide +kernel) (fun t ht hW => ⟨⟨some (vI (bI b)), h, sz, rfl, hP, by rw [ht]; exact hH⟩, hS.F ht⟩) hS.2.2 hdg C.2.2.2.2.2.2.2.2.1
theorem g0_vret (C : gC0 p s m args meth c cc own nm nL ret D dA N0 Y) (hr : ret = none) (hdg : decode cc pc = .ok (.return_, 1)) (hP : P none h sz) : G0 p l e R s m args below meth c D N0 nL (gEnd below D N0 P args s mc ms) mc ms h sz pc L [] :=
  fun H locs ls hH hS hL => W.vret C.1 C.2.1 (C.2.2.2.2.2.2.2.1.trans hr) (fun t ht hW => ⟨⟨none, h, sz, rfl, hP, by rw [ht]; exact hH⟩, hS.F ht⟩) hS.2.2 hdg C.2.2.2.2.2.2.2.2.1
theorem g0_aret (C : gC0 p s m args meth c cc own nm nL ret D dA N0 Y) {v : Value} {rt : FieldType} (hr : ret = some rt) (hrt : (∃ n, rt = .object n) ∨ ∃ t, rt = .array t) (hv : gRef v) (hdg : decode cc pc = .ok (.areturn, 1)) (hP : P (some v) h sz) : G0 p l e R s m args below meth c D N0 nL (gEnd below D N0 P args s mc ms) mc ms h sz pc L [v] :=
  fun H locs ls hH hS hL => W.aret C.1 C.2.1 (C.2.2.2.2.2.2.2.1.trans hr) hrt hv (fun t ht hW => ⟨⟨some v, h, sz, rfl, hP, by rw [ht]; exact hH⟩, hS.F ht⟩) hS.2.2 hdg C.2.2.2.2.2.2.2.2.1
theorem g_loop {σ : Type} (I : σ → Prop) (μ : σ → Nat) (W1 : σ → Prop) (hs : ∀ x, I x → (∀ y, I y → μ y < μ x → W1 y) → W1 x) : ∀ x, I x → W1 x := by
  have key : ∀ (n : Nat) (x : σ), μ x < n → I x → W1 x := by
    intro n
    induction n with
    | zero => intro x hx; omega
    | succ n ih => intro x hx hI; exact hs x hI (fun y hy hlt => ih y (by omega) hy)
  exact fun x hI => key (μ x + 1) x (by omega) hI
end GR2
