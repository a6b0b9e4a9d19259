/-! boxed ints of the cache: objects that lie ahead of N0, told by ad (the cache's addresses) -/
set_option maxRecDepth 100000
section BX
variable {p : Program} {l : Launch} {e : Env} {R : Room} {s : State} {m : MethodId} {args : Array Value} {below : List Frame} {meth : Method} {c : Code} {Q : State → Prop}
variable {cc : ByteArray} {own nm : String} {nL : Nat} {ret : Option FieldType} {D : va_G} {dA : Nat → ClassId} {N0 : Nat} {Y : State → Prop}
variable {k n : Nat} {h : gH} {sz pc : Nat} {L : List (Option Value)} {st : List Value}
theorem vb_cI {y : Nat} (hy : y < 256) : vb_c y = zI ((y : Int) - 128) := by
  unfold vb_c
  rw [← zI_sub, zI_nI]
  rfl
theorem g0_boxget (C : gC0 p s m args meth c cc own nm nL ret D dA N0 Y) {ad : Nat → Nat} {y i : Nat} (hB : ∀ U, Y U → vb_C ad (gA N0) U U.heap) (hy : y < 256) (hl : Cond.fieldLink own i "java/lang/Integer" "value" "I" ∈ lw_all) (hdg : decode cc pc = .ok (.getfield i, 3)) (kk : G0 p l e R s m args below meth c D N0 nL Q k n h sz (pc + 3) L (vI ((y : Int) - 128) :: st)) : G0 p l e R s m args below meth c D N0 nL Q k n h sz pc L (.ref (ad y) :: st) := by
  intro H locs ls hH hS hL
  refine vb_get (X := []) (LP := []) (pv := fun _ => 0) (ci := 14) (v := zI ((y : Int) - 128)) C.1 C.2.1 C.2.2.2.2.1 in_J18 C.2.2.2.1 (hB _ C.2.2.2.2.2.1.2.2) hS C.2.2.2.2.2.1.1 (fun q x hx => by cases hx) rfl ⟨rfl, rfl, rfl⟩ (Or.inr ⟨y, hy, rfl, (vb_cI hy).symm⟩) (C.2.2.2.2.1 _ hl) (fun x ho => ho) hdg (kk H locs ls hH hS hL)
theorem g0_callVB (C : gC0 p s m args meth c cc own nm nL ret D dA N0 Y) {y : MethodName} {cy : ByteArray} {nLy : Nat} {rty : Option FieldType} {fr lo mc ms i : Nat} {P : Option Value → gH → Nat → Prop} {ad : Nat → Nat} {bx : Nat} {As rest st0 : List Value} (hM : gM l D dA N0 Y y cy nLy rty fr lo mc ms (.ref (ad bx) :: As) h sz P) (hw : GoodIn lw_all (wsV own i "java/lang/Integer" y (ws_ y cy nLy rty))) (hd : y.cls = "java/lang/Integer" ∧ y.cls ≠ "java/lang/invoke/MethodHandle" ∧ y.cls ≠ "java/lang/invoke/VarHandle" ∧ (parseMethodDescriptor y.desc).map (fun d => d.parameters.length) = some As.length) (hB : ∀ U, Y U → vb_C ad (gA N0) U U.heap) (hbx : bx < 256) (hR : fr + 1 ≤ R.frames ∧ 8 + (nLy + 11) + lo ≤ R.locals) (hf : k + mc ≤ R.cells ∧ n + ms ≤ R.slots) (hst : st0 = As.reverse ++ .ref (ad bx) :: rest) (hcat : (rest.map fun v => v.category).sum ≤ 8) (hdg : decode cc pc = .ok (.invokevirtual i, 3))
    (kk : ∀ (v : Option Value) (h1 : gH) (z1 : Nat), P v h1 z1 → G0 p l e R s m args below meth c D N0 nL Q (k + mc) (n + ms) h1 z1 (pc + 3) L (v.toList ++ rest)) : G0 p l e R s m args below meth c D N0 nL Q k n h sz pc L st0 := by
  intro H locs ls hH hS hL
  subst hst
  exact g0_run (va_runV (As := As) (rest := rest) ⟨C.1, C.2.1, C.2.2.1, C.2.2.2.1, C.2.2.2.2.1⟩ hM (cwV As.length C.2.2.2.2.1 hw rfl rfl rfl hd hR) ⟨(g0_pre C hH hS).1, vb_recv (X := []) (LP := []) (p := fun _ => 0) (ci := 14) (hB _ C.2.2.2.2.2.1.2.2) hS C.2.2.2.2.2.1.1 (fun q x hx => by cases hx) rfl (Or.inr ⟨bx, hbx, rfl⟩), (g0_pre C hH hS).2⟩ rfl rfl hL.1 rfl (lv_room hcat) hdg hf) hS hL kk
end BX
