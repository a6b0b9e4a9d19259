/-! THE LAYER g over one bundle: X holds the frame's context -/
set_option maxRecDepth 100000
abbrev gX : Type := Program × Launch × Env × State × MethodId × Array Value × List Frame × Method × Code × Room × (State → Prop) × va_G × Nat × Nat
def gs (X : gX) : State := X.2.2.2.1
def G (X : gX) (k n : Nat) (h : gH) (sz pc : Nat) (L : List (Option Value)) (st : List Value) : Prop :=
  match X with
  | (p, l, e, s, m, args, below, meth, c, R, Q, D, N0, nL) => G0 p l e R s m args below meth c D N0 nL Q k n h sz pc L st
def gC (X : gX) (cc : ByteArray) (own nm : String) (nL : Nat) (ret : Option FieldType) (D : va_G) (dA : Nat → ClassId) (N0 : Nat) (Y : State → Prop) (R : Room) : Prop :=
  match X with
  | (p, l, e, s, m, args, below, meth, c, R', Q, D', N0', nL') => (R' = R ∧ D' = D ∧ N0' = N0 ∧ nL' = nL) ∧ gC0 p s m args meth c cc own nm nL ret D dA N0 Y
def gl (X : gX) : Launch := X.2.1
/-- the bundle's end is that of a contract with the post P -/
def gRt (X : gX) (D : va_G) (N0 : Nat) (P : Option Value → gH → Nat → Prop) (mc ms : Nat) : Prop :=
  match X with
  | (p, l, e, s, m, args, below, meth, c, R, Q, D', N0', nL) => Q = gEnd below D N0 P args s mc ms
theorem gC.Y {X : gX} {cc : ByteArray} {own nm : String} {nL : Nat} {ret : Option FieldType} {D : va_G} {dA : Nat → ClassId} {N0 : Nat} {Y : State → Prop} {R : Room} (C : gC X cc own nm nL ret D dA N0 Y R) : Y (gs X) := by
  obtain ⟨p, l, e, s, m, args, below, meth, c, R', Q, D', N0', nL'⟩ := X
  exact C.2.2.2.2.2.2.1.2.2
theorem gM.of {l : Launch} {D : va_G} {dA : Nat → ClassId} {N0 : Nat} {Y : State → Prop} {y : MethodName} {cc : ByteArray} {nL : Nat} {ret : Option FieldType} {fr lo mc ms : Nat} {av : List Value} {h : gH} {sz : Nat} {P : Option Value → gH → Nat → Prop} (hY : gYok N0 Y) (hy : plainName y.cls = true) (hlen : (gLa av).length ≤ nL)
    (body : ∀ X : gX, gl X = l → gC X cc y.cls y.name nL ret D dA N0 Y ({ frames := fr, cells := mc, slots := ms, locals := lo }) → gRt X D N0 P mc ms →
      G X 0 0 h sz 0 (gLa av ++ List.replicate (nL - (gLa av).length) none) []) : gM l D dA N0 Y y cc nL ret fr lo mc ms av h sz P :=
  gM.of0 hY hy hlen fun p e s m below meth c C => body (p, l, e, s, m, av.toArray, below, meth, c, { frames := fr, cells := mc, slots := ms, locals := lo }, gEnd below D N0 P av.toArray s mc ms, D, N0, nL) rfl ⟨⟨rfl, rfl, rfl, rfl⟩, C⟩ rfl
section GX
variable {X : gX} {cc : ByteArray} {own nm : String} {nL : Nat} {ret : Option FieldType} {D : va_G} {dA : Nat → ClassId} {N0 : Nat} {Y : State → Prop} {R : Room}
variable {k n : Nat} {h : gH} {sz pc : Nat} {L : List (Option Value)} {st : List Value} {P : Option Value → gH → Nat → Prop} {mc ms : Nat}

theorem g_sub {L' : List (Option Value)} (hl : gle L' L) (kk : G X k n h sz pc L' st) : G X k n h sz pc L st := by
  obtain ⟨p, l, e, s, m, args, below, meth, c, R', Q, D', N0', nL'⟩ := X
  exact g0_sub hl kk
theorem g_heap {h' : gH} (hh : ∀ (a : Nat) (x : va_E), h' a = some x → h a = some x) (kk : G X k n h' sz pc L st) : G X k n h sz pc L st := by
  obtain ⟨p, l, e, s, m, args, below, meth, c, R', Q, D', N0', nL'⟩ := X
  exact g0_heap hh kk
theorem g_widen {k' n' : Nat} (h1 : k ≤ k') (h2 : n ≤ n') (kk : G X k' n' h sz pc L st) : G X k n h sz pc L st := by
  obtain ⟨p, l, e, s, m, args, below, meth, c, R', Q, D', N0', nL'⟩ := X
  exact g0_widen h1 h2 kk
theorem g_ex {P : Prop} (hP : (∀ (a : Nat) (x : va_E), h a = some x → N0 ≤ a ∧ a < sz) → N0 ≤ sz → P) (C : gC X cc own nm nL ret D dA N0 Y R) (kk : P → G X k n h sz pc L st) : G X k n h sz pc L st := by
  obtain ⟨p, l, e, s, m, args, below, meth, c, R', Q, D', N0', nL'⟩ := X
  obtain ⟨⟨rfl, rfl, rfl, rfl⟩, C⟩ := C
  exact g0_ex hP C kk
theorem g_iconst (C : gC X cc own nm nL ret D dA N0 Y R) {z : Int} (hdg : decode cc pc = .ok (.iconst z, 1)) (kk : G X k n h sz (pc + 1) L (vI z :: st)) : G X k n h sz pc L st := by
  obtain ⟨p, l, e, s, m, args, below, meth, c, R', Q, D', N0', nL'⟩ := X
  obtain ⟨⟨rfl, rfl, rfl, rfl⟩, C⟩ := C
  exact g0_iconst C hdg kk
theorem g_bipush (C : gC X cc own nm nL ret D dA N0 Y R) {z : Int} (hdg : decode cc pc = .ok (.bipush z, 2)) (hz : (Int8.ofInt z).toInt32 = zI z) (kk : G X k n h sz (pc + 2) L (vI z :: st)) : G X k n h sz pc L st := by
  obtain ⟨p, l, e, s, m, args, below, meth, c, R', Q, D', N0', nL'⟩ := X
  obtain ⟨⟨rfl, rfl, rfl, rfl⟩, C⟩ := C
  exact g0_bipush C hdg hz kk
theorem g_sipush (C : gC X cc own nm nL ret D dA N0 Y R) {z : Int} (hdg : decode cc pc = .ok (.sipush z, 3)) (hz : (Int16.ofInt z).toInt32 = zI z) (kk : G X k n h sz (pc + 3) L (vI z :: st)) : G X k n h sz pc L st := by
  obtain ⟨p, l, e, s, m, args, below, meth, c, R', Q, D', N0', nL'⟩ := X
  obtain ⟨⟨rfl, rfl, rfl, rfl⟩, C⟩ := C
  exact g0_sipush C hdg hz kk
theorem g_lconst (C : gC X cc own nm nL ret D dA N0 Y R) {q : Fin 2} (hdg : decode cc pc = .ok (.lconst q, 1)) (kk : G X k n h sz (pc + 1) L (.long (Int64.ofNat (q : Nat)) :: st)) : G X k n h sz pc L st := by
  obtain ⟨p, l, e, s, m, args, below, meth, c, R', Q, D', N0', nL'⟩ := X
  obtain ⟨⟨rfl, rfl, rfl, rfl⟩, C⟩ := C
  exact g0_lconst C hdg kk
theorem g_ldc2 (C : gC X cc own nm nL ret D dA N0 Y R) {i : Nat} {v : Int64} (hc : Cond.constantLong own i v ∈ lw_all) (hdg : decode cc pc = .ok (.ldc2_w i, 3)) (kk : G X k n h sz (pc + 3) L (.long v :: st)) : G X k n h sz pc L st := by
  obtain ⟨p, l, e, s, m, args, below, meth, c, R', Q, D', N0', nL'⟩ := X
  obtain ⟨⟨rfl, rfl, rfl, rfl⟩, C⟩ := C
  exact g0_ldc2 C hc hdg kk
theorem g_ldc (C : gC X cc own nm nL ret D dA N0 Y R) {i : Nat} {v : Int32} {z : Int} (hc : Cond.constant own i v ∈ lw_all) (hz : v = zI z) (hdg : decode cc pc = .ok (.ldc i, 2)) (kk : G X k n h sz (pc + 2) L (vI z :: st)) : G X k n h sz pc L st := by
  obtain ⟨p, l, e, s, m, args, below, meth, c, R', Q, D', N0', nL'⟩ := X
  obtain ⟨⟨rfl, rfl, rfl, rfl⟩, C⟩ := C
  exact g0_ldc C hc hz hdg kk
theorem g_ldcw (C : gC X cc own nm nL ret D dA N0 Y R) {i : Nat} {v : Int32} {z : Int} (hc : Cond.constant own i v ∈ lw_all) (hz : v = zI z) (hdg : decode cc pc = .ok (.ldc_w i, 3)) (kk : G X k n h sz (pc + 3) L (vI z :: st)) : G X k n h sz pc L st := by
  obtain ⟨p, l, e, s, m, args, below, meth, c, R', Q, D', N0', nL'⟩ := X
  obtain ⟨⟨rfl, rfl, rfl, rfl⟩, C⟩ := C
  exact g0_ldcw C hc hz hdg kk
theorem g_null (C : gC X cc own nm nL ret D dA N0 Y R) (hdg : decode cc pc = .ok (.aconst_null, 1)) (kk : G X k n h sz (pc + 1) L (.null :: st)) : G X k n h sz pc L st := by
  obtain ⟨p, l, e, s, m, args, below, meth, c, R', Q, D', N0', nL'⟩ := X
  obtain ⟨⟨rfl, rfl, rfl, rfl⟩, C⟩ := C
  exact g0_null C hdg kk
theorem g_iload_n (C : gC X cc own nm nL ret D dA N0 Y R) {i : Fin 4} {v : Value} (hdg : decode cc pc = .ok (.iload_n i, 1)) (hv : gInt v) (hi : L[(i : Nat)]? = some (some v)) (kk : G X k n h sz (pc + 1) L (v :: st)) : G X k n h sz pc L st := by
  obtain ⟨p, l, e, s, m, args, below, meth, c, R', Q, D', N0', nL'⟩ := X
  obtain ⟨⟨rfl, rfl, rfl, rfl⟩, C⟩ := C
  exact g0_iload_n C hdg hv hi kk
theorem g_iload (C : gC X cc own nm nL ret D dA N0 Y R) {i : Nat} {v : Value} (hdg : decode cc pc = .ok (.iload i, 2)) (hv : gInt v) (hi : L[i]? = some (some v)) (kk : G X k n h sz (pc + 2) L (v :: st)) : G X k n h sz pc L st := by
  obtain ⟨p, l, e, s, m, args, below, meth, c, R', Q, D', N0', nL'⟩ := X
  obtain ⟨⟨rfl, rfl, rfl, rfl⟩, C⟩ := C
  exact g0_iload C hdg hv hi kk
theorem g_lload_n (C : gC X cc own nm nL ret D dA N0 Y R) {i : Fin 4} {x : Int64} (hdg : decode cc pc = .ok (.lload_n i, 1)) (hi : L[(i : Nat)]? = some (some (.long x))) (kk : G X k n h sz (pc + 1) L (.long x :: st)) : G X k n h sz pc L st := by
  obtain ⟨p, l, e, s, m, args, below, meth, c, R', Q, D', N0', nL'⟩ := X
  obtain ⟨⟨rfl, rfl, rfl, rfl⟩, C⟩ := C
  exact g0_lload_n C hdg hi kk
theorem g_lload (C : gC X cc own nm nL ret D dA N0 Y R) {i : Nat} {x : Int64} (hdg : decode cc pc = .ok (.lload i, 2)) (hi : L[i]? = some (some (.long x))) (kk : G X k n h sz (pc + 2) L (.long x :: st)) : G X k n h sz pc L st := by
  obtain ⟨p, l, e, s, m, args, below, meth, c, R', Q, D', N0', nL'⟩ := X
  obtain ⟨⟨rfl, rfl, rfl, rfl⟩, C⟩ := C
  exact g0_lload C hdg hi kk
theorem g_aload_n (C : gC X cc own nm nL ret D dA N0 Y R) {i : Fin 4} {v : Value} (hdg : decode cc pc = .ok (.aload_n i, 1)) (hv : gRef v) (hi : L[(i : Nat)]? = some (some v)) (kk : G X k n h sz (pc + 1) L (v :: st)) : G X k n h sz pc L st := by
  obtain ⟨p, l, e, s, m, args, below, meth, c, R', Q, D', N0', nL'⟩ := X
  obtain ⟨⟨rfl, rfl, rfl, rfl⟩, C⟩ := C
  exact g0_aload_n C hdg hv hi kk
theorem g_aload (C : gC X cc own nm nL ret D dA N0 Y R) {i : Nat} {v : Value} (hdg : decode cc pc = .ok (.aload i, 2)) (hv : gRef v) (hi : L[i]? = some (some v)) (kk : G X k n h sz (pc + 2) L (v :: st)) : G X k n h sz pc L st := by
  obtain ⟨p, l, e, s, m, args, below, meth, c, R', Q, D', N0', nL'⟩ := X
  obtain ⟨⟨rfl, rfl, rfl, rfl⟩, C⟩ := C
  exact g0_aload C hdg hv hi kk
theorem g_istore_n1000 {x0 : Option Value} (C : gC X cc own nm nL ret D dA N0 Y R) {v : Value} (hdg : decode cc pc = .ok (.istore_n 0, 1)) (hv : gInt v) (kk : G X k n h sz (pc + 1) (some v :: L) st) : G X k n h sz pc (x0 :: L) (v :: st) := by
  obtain ⟨p, l, e, s, m, args, below, meth, c, R', Q, D', N0', nL'⟩ := X
  obtain ⟨⟨rfl, rfl, rfl, rfl⟩, C⟩ := C
  exact g0_istore_n1000 C hdg hv kk
theorem g_istore_n1001 {x0 x1 : Option Value} (C : gC X cc own nm nL ret D dA N0 Y R) {v : Value} (hdg : decode cc pc = .ok (.istore_n 1, 1)) (hv : gInt v) (hp : gc1 x0 = true) (kk : G X k n h sz (pc + 1) (x0 :: some v :: L) st) : G X k n h sz pc (x0 :: x1 :: L) (v :: st) := by
  obtain ⟨p, l, e, s, m, args, below, meth, c, R', Q, D', N0', nL'⟩ := X
  obtain ⟨⟨rfl, rfl, rfl, rfl⟩, C⟩ := C
  exact g0_istore_n1001 C hdg hv hp kk
theorem g_istore_n1002 {x0 x1 x2 : Option Value} (C : gC X cc own nm nL ret D dA N0 Y R) {v : Value} (hdg : decode cc pc = .ok (.istore_n 2, 1)) (hv : gInt v) (hp : gc1 x1 = true) (kk : G X k n h sz (pc + 1) (x0 :: x1 :: some v :: L) st) : G X k n h sz pc (x0 :: x1 :: x2 :: L) (v :: st) := by
  obtain ⟨p, l, e, s, m, args, below, meth, c, R', Q, D', N0', nL'⟩ := X
  obtain ⟨⟨rfl, rfl, rfl, rfl⟩, C⟩ := C
  exact g0_istore_n1002 C hdg hv hp kk
theorem g_istore_n1003 {x0 x1 x2 x3 : Option Value} (C : gC X cc own nm nL ret D dA N0 Y R) {v : Value} (hdg : decode cc pc = .ok (.istore_n 3, 1)) (hv : gInt v) (hp : gc1 x2 = true) (kk : G X k n h sz (pc + 1) (x0 :: x1 :: x2 :: some v :: L) st) : G X k n h sz pc (x0 :: x1 :: x2 :: x3 :: L) (v :: st) := by
  obtain ⟨p, l, e, s, m, args, below, meth, c, R', Q, D', N0', nL'⟩ := X
  obtain ⟨⟨rfl, rfl, rfl, rfl⟩, C⟩ := C
  exact g0_istore_n1003 C hdg hv hp kk
theorem g_astore_n1000 {x0 : Option Value} (C : gC X cc own nm nL ret D dA N0 Y R) {v : Value} (hdg : decode cc pc = .ok (.astore_n 0, 1)) (hv : gRef v) (kk : G X k n h sz (pc + 1) (some v :: L) st) : G X k n h sz pc (x0 :: L) (v :: st) := by
  obtain ⟨p, l, e, s, m, args, below, meth, c, R', Q, D', N0', nL'⟩ := X
  obtain ⟨⟨rfl, rfl, rfl, rfl⟩, C⟩ := C
  exact g0_astore_n1000 C hdg hv kk
theorem g_astore_n1001 {x0 x1 : Option Value} (C : gC X cc own nm nL ret D dA N0 Y R) {v : Value} (hdg : decode cc pc = .ok (.astore_n 1, 1)) (hv : gRef v) (hp : gc1 x0 = true) (kk : G X k n h sz (pc + 1) (x0 :: some v :: L) st) : G X k n h sz pc (x0 :: x1 :: L) (v :: st) := by
  obtain ⟨p, l, e, s, m, args, below, meth, c, R', Q, D', N0', nL'⟩ := X
  obtain ⟨⟨rfl, rfl, rfl, rfl⟩, C⟩ := C
  exact g0_astore_n1001 C hdg hv hp kk
theorem g_astore_n1002 {x0 x1 x2 : Option Value} (C : gC X cc own nm nL ret D dA N0 Y R) {v : Value} (hdg : decode cc pc = .ok (.astore_n 2, 1)) (hv : gRef v) (hp : gc1 x1 = true) (kk : G X k n h sz (pc + 1) (x0 :: x1 :: some v :: L) st) : G X k n h sz pc (x0 :: x1 :: x2 :: L) (v :: st) := by
  obtain ⟨p, l, e, s, m, args, below, meth, c, R', Q, D', N0', nL'⟩ := X
  obtain ⟨⟨rfl, rfl, rfl, rfl⟩, C⟩ := C
  exact g0_astore_n1002 C hdg hv hp kk
theorem g_astore_n1003 {x0 x1 x2 x3 : Option Value} (C : gC X cc own nm nL ret D dA N0 Y R) {v : Value} (hdg : decode cc pc = .ok (.astore_n 3, 1)) (hv : gRef v) (hp : gc1 x2 = true) (kk : G X k n h sz (pc + 1) (x0 :: x1 :: x2 :: some v :: L) st) : G X k n h sz pc (x0 :: x1 :: x2 :: x3 :: L) (v :: st) := by
  obtain ⟨p, l, e, s, m, args, below, meth, c, R', Q, D', N0', nL'⟩ := X
  obtain ⟨⟨rfl, rfl, rfl, rfl⟩, C⟩ := C
  exact g0_astore_n1003 C hdg hv hp kk
theorem g_istore1004 {x0 x1 x2 x3 x4 : Option Value} (C : gC X cc own nm nL ret D dA N0 Y R) {v : Value} (hdg : decode cc pc = .ok (.istore 4, 2)) (hv : gInt v) (hp : gc1 x3 = true) (kk : G X k n h sz (pc + 2) (x0 :: x1 :: x2 :: x3 :: some v :: L) st) : G X k n h sz pc (x0 :: x1 :: x2 :: x3 :: x4 :: L) (v :: st) := by
  obtain ⟨p, l, e, s, m, args, below, meth, c, R', Q, D', N0', nL'⟩ := X
  obtain ⟨⟨rfl, rfl, rfl, rfl⟩, C⟩ := C
  exact g0_istore1004 C hdg hv hp kk
theorem g_istore1005 {x0 x1 x2 x3 x4 x5 : Option Value} (C : gC X cc own nm nL ret D dA N0 Y R) {v : Value} (hdg : decode cc pc = .ok (.istore 5, 2)) (hv : gInt v) (hp : gc1 x4 = true) (kk : G X k n h sz (pc + 2) (x0 :: x1 :: x2 :: x3 :: x4 :: some v :: L) st) : G X k n h sz pc (x0 :: x1 :: x2 :: x3 :: x4 :: x5 :: L) (v :: st) := by
  obtain ⟨p, l, e, s, m, args, below, meth, c, R', Q, D', N0', nL'⟩ := X
  obtain ⟨⟨rfl, rfl, rfl, rfl⟩, C⟩ := C
  exact g0_istore1005 C hdg hv hp kk
theorem g_istore1006 {x0 x1 x2 x3 x4 x5 x6 : Option Value} (C : gC X cc own nm nL ret D dA N0 Y R) {v : Value} (hdg : decode cc pc = .ok (.istore 6, 2)) (hv : gInt v) (hp : gc1 x5 = true) (kk : G X k n h sz (pc + 2) (x0 :: x1 :: x2 :: x3 :: x4 :: x5 :: some v :: L) st) : G X k n h sz pc (x0 :: x1 :: x2 :: x3 :: x4 :: x5 :: x6 :: L) (v :: st) := by
  obtain ⟨p, l, e, s, m, args, below, meth, c, R', Q, D', N0', nL'⟩ := X
  obtain ⟨⟨rfl, rfl, rfl, rfl⟩, C⟩ := C
  exact g0_istore1006 C hdg hv hp kk
theorem g_istore1007 {x0 x1 x2 x3 x4 x5 x6 x7 : Option Value} (C : gC X cc own nm nL ret D dA N0 Y R) {v : Value} (hdg : decode cc pc = .ok (.istore 7, 2)) (hv : gInt v) (hp : gc1 x6 = true) (kk : G X k n h sz (pc + 2) (x0 :: x1 :: x2 :: x3 :: x4 :: x5 :: x6 :: some v :: L) st) : G X k n h sz pc (x0 :: x1 :: x2 :: x3 :: x4 :: x5 :: x6 :: x7 :: L) (v :: st) := by
  obtain ⟨p, l, e, s, m, args, below, meth, c, R', Q, D', N0', nL'⟩ := X
  obtain ⟨⟨rfl, rfl, rfl, rfl⟩, C⟩ := C
  exact g0_istore1007 C hdg hv hp kk
theorem g_istore1008 {x0 x1 x2 x3 x4 x5 x6 x7 x8 : Option Value} (C : gC X cc own nm nL ret D dA N0 Y R) {v : Value} (hdg : decode cc pc = .ok (.istore 8, 2)) (hv : gInt v) (hp : gc1 x7 = true) (kk : G X k n h sz (pc + 2) (x0 :: x1 :: x2 :: x3 :: x4 :: x5 :: x6 :: x7 :: some v :: L) st) : G X k n h sz pc (x0 :: x1 :: x2 :: x3 :: x4 :: x5 :: x6 :: x7 :: x8 :: L) (v :: st) := by
  obtain ⟨p, l, e, s, m, args, below, meth, c, R', Q, D', N0', nL'⟩ := X
  obtain ⟨⟨rfl, rfl, rfl, rfl⟩, C⟩ := C
  exact g0_istore1008 C hdg hv hp kk
theorem g_istore1009 {x0 x1 x2 x3 x4 x5 x6 x7 x8 x9 : Option Value} (C : gC X cc own nm nL ret D dA N0 Y R) {v : Value} (hdg : decode cc pc = .ok (.istore 9, 2)) (hv : gInt v) (hp : gc1 x8 = true) (kk : G X k n h sz (pc + 2) (x0 :: x1 :: x2 :: x3 :: x4 :: x5 :: x6 :: x7 :: x8 :: some v :: L) st) : G X k n h sz pc (x0 :: x1 :: x2 :: x3 :: x4 :: x5 :: x6 :: x7 :: x8 :: x9 :: L) (v :: st) := by
  obtain ⟨p, l, e, s, m, args, below, meth, c, R', Q, D', N0', nL'⟩ := X
  obtain ⟨⟨rfl, rfl, rfl, rfl⟩, C⟩ := C
  exact g0_istore1009 C hdg hv hp kk
theorem g_istore1010 {x0 x1 x2 x3 x4 x5 x6 x7 x8 x9 x10 : Option Value} (C : gC X cc own nm nL ret D dA N0 Y R) {v : Value} (hdg : decode cc pc = .ok (.istore 10, 2)) (hv : gInt v) (hp : gc1 x9 = true) (kk : G X k n h sz (pc + 2) (x0 :: x1 :: x2 :: x3 :: x4 :: x5 :: x6 :: x7 :: x8 :: x9 :: some v :: L) st) : G X k n h sz pc (x0 :: x1 :: x2 :: x3 :: x4 :: x5 :: x6 :: x7 :: x8 :: x9 :: x10 :: L) (v :: st) := by
  obtain ⟨p, l, e, s, m, args, below, meth, c, R', Q, D', N0', nL'⟩ := X
  obtain ⟨⟨rfl, rfl, rfl, rfl⟩, C⟩ := C
  exact g0_istore1010 C hdg hv hp kk
theorem g_istore1011 {x0 x1 x2 x3 x4 x5 x6 x7 x8 x9 x10 x11 : Option Value} (C : gC X cc own nm nL ret D dA N0 Y R) {v : Value} (hdg : decode cc pc = .ok (.istore 11, 2)) (hv : gInt v) (hp : gc1 x10 = true) (kk : G X k n h sz (pc + 2) (x0 :: x1 :: x2 :: x3 :: x4 :: x5 :: x6 :: x7 :: x8 :: x9 :: x10 :: some v :: L) st) : G X k n h sz pc (x0 :: x1 :: x2 :: x3 :: x4 :: x5 :: x6 :: x7 :: x8 :: x9 :: x10 :: x11 :: L) (v :: st) := by
  obtain ⟨p, l, e, s, m, args, below, meth, c, R', Q, D', N0', nL'⟩ := X
  obtain ⟨⟨rfl, rfl, rfl, rfl⟩, C⟩ := C
  exact g0_istore1011 C hdg hv hp kk
theorem g_astore1004 {x0 x1 x2 x3 x4 : Option Value} (C : gC X cc own nm nL ret D dA N0 Y R) {v : Value} (hdg : decode cc pc = .ok (.astore 4, 2)) (hv : gRef v) (hp : gc1 x3 = true) (kk : G X k n h sz (pc + 2) (x0 :: x1 :: x2 :: x3 :: some v :: L) st) : G X k n h sz pc (x0 :: x1 :: x2 :: x3 :: x4 :: L) (v :: st) := by
  obtain ⟨p, l, e, s, m, args, below, meth, c, R', Q, D', N0', nL'⟩ := X
  obtain ⟨⟨rfl, rfl, rfl, rfl⟩, C⟩ := C
  exact g0_astore1004 C hdg hv hp kk
theorem g_astore1005 {x0 x1 x2 x3 x4 x5 : Option Value} (C : gC X cc own nm nL ret D dA N0 Y R) {v : Value} (hdg : decode cc pc = .ok (.astore 5, 2)) (hv : gRef v) (hp : gc1 x4 = true) (kk : G X k n h sz (pc + 2) (x0 :: x1 :: x2 :: x3 :: x4 :: some v :: L) st) : G X k n h sz pc (x0 :: x1 :: x2 :: x3 :: x4 :: x5 :: L) (v :: st) := by
  obtain ⟨p, l, e, s, m, args, below, meth, c, R', Q, D', N0', nL'⟩ := X
  obtain ⟨⟨rfl, rfl, rfl, rfl⟩, C⟩ := C
  exact g0_astore1005 C hdg hv hp kk
theorem g_astore1006 {x0 x1 x2 x3 x4 x5 x6 : Option Value} (C : gC X cc own nm nL ret D dA N0 Y R) {v : Value} (hdg : decode cc pc = .ok (.astore 6, 2)) (hv : gRef v) (hp : gc1 x5 = true) (kk : G X k n h sz (pc + 2) (x0 :: x1 :: x2 :: x3 :: x4 :: x5 :: some v :: L) st) : G X k n h sz pc (x0 :: x1 :: x2 :: x3 :: x4 :: x5 :: x6 :: L) (v :: st) := by
  obtain ⟨p, l, e, s, m, args, below, meth, c, R', Q, D', N0', nL'⟩ := X
  obtain ⟨⟨rfl, rfl, rfl, rfl⟩, C⟩ := C
  exact g0_astore1006 C hdg hv hp kk
theorem g_astore1007 {x0 x1 x2 x3 x4 x5 x6 x7 : Option Value} (C : gC X cc own nm nL ret D dA N0 Y R) {v : Value} (hdg : decode cc pc = .ok (.astore 7, 2)) (hv : gRef v) (hp : gc1 x6 = true) (kk : G X k n h sz (pc + 2) (x0 :: x1 :: x2 :: x3 :: x4 :: x5 :: x6 :: some v :: L) st) : G X k n h sz pc (x0 :: x1 :: x2 :: x3 :: x4 :: x5 :: x6 :: x7 :: L) (v :: st) := by
  obtain ⟨p, l, e, s, m, args, below, meth, c, R', Q, D', N0', nL'⟩ := X
  obtain ⟨⟨rfl, rfl, rfl, rfl⟩, C⟩ := C
  exact g0_astore1007 C hdg hv hp kk
theorem g_astore1008 {x0 x1 x2 x3 x4 x5 x6 x7 x8 : Option Value} (C : gC X cc own nm nL ret D dA N0 Y R) {v : Value} (hdg : decode cc pc = .ok (.astore 8, 2)) (hv : gRef v) (hp : gc1 x7 = true) (kk : G X k n h sz (pc + 2) (x0 :: x1 :: x2 :: x3 :: x4 :: x5 :: x6 :: x7 :: some v :: L) st) : G X k n h sz pc (x0 :: x1 :: x2 :: x3 :: x4 :: x5 :: x6 :: x7 :: x8 :: L) (v :: st) := by
  obtain ⟨p, l, e, s, m, args, below, meth, c, R', Q, D', N0', nL'⟩ := X
  obtain ⟨⟨rfl, rfl, rfl, rfl⟩, C⟩ := C
  exact g0_astore1008 C hdg hv hp kk
theorem g_astore1009 {x0 x1 x2 x3 x4 x5 x6 x7 x8 x9 : Option Value} (C : gC X cc own nm nL ret D dA N0 Y R) {v : Value} (hdg : decode cc pc = .ok (.astore 9, 2)) (hv : gRef v) (hp : gc1 x8 = true) (kk : G X k n h sz (pc + 2) (x0 :: x1 :: x2 :: x3 :: x4 :: x5 :: x6 :: x7 :: x8 :: some v :: L) st) : G X k n h sz pc (x0 :: x1 :: x2 :: x3 :: x4 :: x5 :: x6 :: x7 :: x8 :: x9 :: L) (v :: st) := by
  obtain ⟨p, l, e, s, m, args, below, meth, c, R', Q, D', N0', nL'⟩ := X
  obtain ⟨⟨rfl, rfl, rfl, rfl⟩, C⟩ := C
  exact g0_astore1009 C hdg hv hp kk
theorem g_astore1010 {x0 x1 x2 x3 x4 x5 x6 x7 x8 x9 x10 : Option Value} (C : gC X cc own nm nL ret D dA N0 Y R) {v : Value} (hdg : decode cc pc = .ok (.astore 10, 2)) (hv : gRef v) (hp : gc1 x9 = true) (kk : G X k n h sz (pc + 2) (x0 :: x1 :: x2 :: x3 :: x4 :: x5 :: x6 :: x7 :: x8 :: x9 :: some v :: L) st) : G X k n h sz pc (x0 :: x1 :: x2 :: x3 :: x4 :: x5 :: x6 :: x7 :: x8 :: x9 :: x10 :: L) (v :: st) := by
  obtain ⟨p, l, e, s, m, args, below, meth, c, R', Q, D', N0', nL'⟩ := X
  obtain ⟨⟨rfl, rfl, rfl, rfl⟩, C⟩ := C
  exact g0_astore1010 C hdg hv hp kk
theorem g_astore1011 {x0 x1 x2 x3 x4 x5 x6 x7 x8 x9 x10 x11 : Option Value} (C : gC X cc own nm nL ret D dA N0 Y R) {v : Value} (hdg : decode cc pc = .ok (.astore 11, 2)) (hv : gRef v) (hp : gc1 x10 = true) (kk : G X k n h sz (pc + 2) (x0 :: x1 :: x2 :: x3 :: x4 :: x5 :: x6 :: x7 :: x8 :: x9 :: x10 :: some v :: L) st) : G X k n h sz pc (x0 :: x1 :: x2 :: x3 :: x4 :: x5 :: x6 :: x7 :: x8 :: x9 :: x10 :: x11 :: L) (v :: st) := by
  obtain ⟨p, l, e, s, m, args, below, meth, c, R', Q, D', N0', nL'⟩ := X
  obtain ⟨⟨rfl, rfl, rfl, rfl⟩, C⟩ := C
  exact g0_astore1011 C hdg hv hp kk
theorem g_iinc1000 (C : gC X cc own nm nL ret D dA N0 Y R) {a z : Int} (hdg : decode cc pc = .ok (.iinc 0 z, 3)) (kk : G X k n h sz (pc + 3) (some (vI (a + z)) :: L) st) : G X k n h sz pc (some (vI a) :: L) st := by
  obtain ⟨p, l, e, s, m, args, below, meth, c, R', Q, D', N0', nL'⟩ := X
  obtain ⟨⟨rfl, rfl, rfl, rfl⟩, C⟩ := C
  exact g0_iinc1000 C hdg kk
theorem g_iinc1001 {x0 : Option Value} (C : gC X cc own nm nL ret D dA N0 Y R) {a z : Int} (hdg : decode cc pc = .ok (.iinc 1 z, 3)) (hp : gc1 x0 = true) (kk : G X k n h sz (pc + 3) (x0 :: some (vI (a + z)) :: L) st) : G X k n h sz pc (x0 :: some (vI a) :: L) st := by
  obtain ⟨p, l, e, s, m, args, below, meth, c, R', Q, D', N0', nL'⟩ := X
  obtain ⟨⟨rfl, rfl, rfl, rfl⟩, C⟩ := C
  exact g0_iinc1001 C hdg hp kk
theorem g_iinc1002 {x0 x1 : Option Value} (C : gC X cc own nm nL ret D dA N0 Y R) {a z : Int} (hdg : decode cc pc = .ok (.iinc 2 z, 3)) (hp : gc1 x1 = true) (kk : G X k n h sz (pc + 3) (x0 :: x1 :: some (vI (a + z)) :: L) st) : G X k n h sz pc (x0 :: x1 :: some (vI a) :: L) st := by
  obtain ⟨p, l, e, s, m, args, below, meth, c, R', Q, D', N0', nL'⟩ := X
  obtain ⟨⟨rfl, rfl, rfl, rfl⟩, C⟩ := C
  exact g0_iinc1002 C hdg hp kk
theorem g_iinc1003 {x0 x1 x2 : Option Value} (C : gC X cc own nm nL ret D dA N0 Y R) {a z : Int} (hdg : decode cc pc = .ok (.iinc 3 z, 3)) (hp : gc1 x2 = true) (kk : G X k n h sz (pc + 3) (x0 :: x1 :: x2 :: some (vI (a + z)) :: L) st) : G X k n h sz pc (x0 :: x1 :: x2 :: some (vI a) :: L) st := by
  obtain ⟨p, l, e, s, m, args, below, meth, c, R', Q, D', N0', nL'⟩ := X
  obtain ⟨⟨rfl, rfl, rfl, rfl⟩, C⟩ := C
  exact g0_iinc1003 C hdg hp kk
theorem g_iinc1004 {x0 x1 x2 x3 : Option Value} (C : gC X cc own nm nL ret D dA N0 Y R) {a z : Int} (hdg : decode cc pc = .ok (.iinc 4 z, 3)) (hp : gc1 x3 = true) (kk : G X k n h sz (pc + 3) (x0 :: x1 :: x2 :: x3 :: some (vI (a + z)) :: L) st) : G X k n h sz pc (x0 :: x1 :: x2 :: x3 :: some (vI a) :: L) st := by
  obtain ⟨p, l, e, s, m, args, below, meth, c, R', Q, D', N0', nL'⟩ := X
  obtain ⟨⟨rfl, rfl, rfl, rfl⟩, C⟩ := C
  exact g0_iinc1004 C hdg hp kk
theorem g_iinc1005 {x0 x1 x2 x3 x4 : Option Value} (C : gC X cc own nm nL ret D dA N0 Y R) {a z : Int} (hdg : decode cc pc = .ok (.iinc 5 z, 3)) (hp : gc1 x4 = true) (kk : G X k n h sz (pc + 3) (x0 :: x1 :: x2 :: x3 :: x4 :: some (vI (a + z)) :: L) st) : G X k n h sz pc (x0 :: x1 :: x2 :: x3 :: x4 :: some (vI a) :: L) st := by
  obtain ⟨p, l, e, s, m, args, below, meth, c, R', Q, D', N0', nL'⟩ := X
  obtain ⟨⟨rfl, rfl, rfl, rfl⟩, C⟩ := C
  exact g0_iinc1005 C hdg hp kk
theorem g_iinc1006 {x0 x1 x2 x3 x4 x5 : Option Value} (C : gC X cc own nm nL ret D dA N0 Y R) {a z : Int} (hdg : decode cc pc = .ok (.iinc 6 z, 3)) (hp : gc1 x5 = true) (kk : G X k n h sz (pc + 3) (x0 :: x1 :: x2 :: x3 :: x4 :: x5 :: some (vI (a + z)) :: L) st) : G X k n h sz pc (x0 :: x1 :: x2 :: x3 :: x4 :: x5 :: some (vI a) :: L) st := by
  obtain ⟨p, l, e, s, m, args, below, meth, c, R', Q, D', N0', nL'⟩ := X
  obtain ⟨⟨rfl, rfl, rfl, rfl⟩, C⟩ := C
  exact g0_iinc1006 C hdg hp kk
theorem g_iinc1007 {x0 x1 x2 x3 x4 x5 x6 : Option Value} (C : gC X cc own nm nL ret D dA N0 Y R) {a z : Int} (hdg : decode cc pc = .ok (.iinc 7 z, 3)) (hp : gc1 x6 = true) (kk : G X k n h sz (pc + 3) (x0 :: x1 :: x2 :: x3 :: x4 :: x5 :: x6 :: some (vI (a + z)) :: L) st) : G X k n h sz pc (x0 :: x1 :: x2 :: x3 :: x4 :: x5 :: x6 :: some (vI a) :: L) st := by
  obtain ⟨p, l, e, s, m, args, below, meth, c, R', Q, D', N0', nL'⟩ := X
  obtain ⟨⟨rfl, rfl, rfl, rfl⟩, C⟩ := C
  exact g0_iinc1007 C hdg hp kk
theorem g_iinc1008 {x0 x1 x2 x3 x4 x5 x6 x7 : Option Value} (C : gC X cc own nm nL ret D dA N0 Y R) {a z : Int} (hdg : decode cc pc = .ok (.iinc 8 z, 3)) (hp : gc1 x7 = true) (kk : G X k n h sz (pc + 3) (x0 :: x1 :: x2 :: x3 :: x4 :: x5 :: x6 :: x7 :: some (vI (a + z)) :: L) st) : G X k n h sz pc (x0 :: x1 :: x2 :: x3 :: x4 :: x5 :: x6 :: x7 :: some (vI a) :: L) st := by
  obtain ⟨p, l, e, s, m, args, below, meth, c, R', Q, D', N0', nL'⟩ := X
  obtain ⟨⟨rfl, rfl, rfl, rfl⟩, C⟩ := C
  exact g0_iinc1008 C hdg hp kk
theorem g_iinc1009 {x0 x1 x2 x3 x4 x5 x6 x7 x8 : Option Value} (C : gC X cc own nm nL ret D dA N0 Y R) {a z : Int} (hdg : decode cc pc = .ok (.iinc 9 z, 3)) (hp : gc1 x8 = true) (kk : G X k n h sz (pc + 3) (x0 :: x1 :: x2 :: x3 :: x4 :: x5 :: x6 :: x7 :: x8 :: some (vI (a + z)) :: L) st) : G X k n h sz pc (x0 :: x1 :: x2 :: x3 :: x4 :: x5 :: x6 :: x7 :: x8 :: some (vI a) :: L) st := by
  obtain ⟨p, l, e, s, m, args, below, meth, c, R', Q, D', N0', nL'⟩ := X
  obtain ⟨⟨rfl, rfl, rfl, rfl⟩, C⟩ := C
  exact g0_iinc1009 C hdg hp kk
theorem g_iinc1010 {x0 x1 x2 x3 x4 x5 x6 x7 x8 x9 : Option Value} (C : gC X cc own nm nL ret D dA N0 Y R) {a z : Int} (hdg : decode cc pc = .ok (.iinc 10 z, 3)) (hp : gc1 x9 = true) (kk : G X k n h sz (pc + 3) (x0 :: x1 :: x2 :: x3 :: x4 :: x5 :: x6 :: x7 :: x8 :: x9 :: some (vI (a + z)) :: L) st) : G X k n h sz pc (x0 :: x1 :: x2 :: x3 :: x4 :: x5 :: x6 :: x7 :: x8 :: x9 :: some (vI a) :: L) st := by
  obtain ⟨p, l, e, s, m, args, below, meth, c, R', Q, D', N0', nL'⟩ := X
  obtain ⟨⟨rfl, rfl, rfl, rfl⟩, C⟩ := C
  exact g0_iinc1010 C hdg hp kk
theorem g_iinc1011 {x0 x1 x2 x3 x4 x5 x6 x7 x8 x9 x10 : Option Value} (C : gC X cc own nm nL ret D dA N0 Y R) {a z : Int} (hdg : decode cc pc = .ok (.iinc 11 z, 3)) (hp : gc1 x10 = true) (kk : G X k n h sz (pc + 3) (x0 :: x1 :: x2 :: x3 :: x4 :: x5 :: x6 :: x7 :: x8 :: x9 :: x10 :: some (vI (a + z)) :: L) st) : G X k n h sz pc (x0 :: x1 :: x2 :: x3 :: x4 :: x5 :: x6 :: x7 :: x8 :: x9 :: x10 :: some (vI a) :: L) st := by
  obtain ⟨p, l, e, s, m, args, below, meth, c, R', Q, D', N0', nL'⟩ := X
  obtain ⟨⟨rfl, rfl, rfl, rfl⟩, C⟩ := C
  exact g0_iinc1011 C hdg hp kk
theorem g_iadd (C : gC X cc own nm nL ret D dA N0 Y R) {a b : Int} (hdg : decode cc pc = .ok (.iadd, 1)) (kk : G X k n h sz (pc + 1) L (vI (a + b) :: st)) : G X k n h sz pc L (vI b :: vI a :: st) := by
  obtain ⟨p, l, e, s, m, args, below, meth, c, R', Q, D', N0', nL'⟩ := X
  obtain ⟨⟨rfl, rfl, rfl, rfl⟩, C⟩ := C
  exact g0_iadd C hdg kk
theorem g_isub (C : gC X cc own nm nL ret D dA N0 Y R) {a b : Int} (hdg : decode cc pc = .ok (.isub, 1)) (kk : G X k n h sz (pc + 1) L (vI (a - b) :: st)) : G X k n h sz pc L (vI b :: vI a :: st) := by
  obtain ⟨p, l, e, s, m, args, below, meth, c, R', Q, D', N0', nL'⟩ := X
  obtain ⟨⟨rfl, rfl, rfl, rfl⟩, C⟩ := C
  exact g0_isub C hdg kk
theorem g_imul (C : gC X cc own nm nL ret D dA N0 Y R) {a b : Int} (hdg : decode cc pc = .ok (.imul, 1)) (kk : G X k n h sz (pc + 1) L (vI (a * b) :: st)) : G X k n h sz pc L (vI b :: vI a :: st) := by
  obtain ⟨p, l, e, s, m, args, below, meth, c, R', Q, D', N0', nL'⟩ := X
  obtain ⟨⟨rfl, rfl, rfl, rfl⟩, C⟩ := C
  exact g0_imul C hdg kk
theorem g_ineg (C : gC X cc own nm nL ret D dA N0 Y R) {a : Int} (hdg : decode cc pc = .ok (.ineg, 1)) (kk : G X k n h sz (pc + 1) L (vI (-a) :: st)) : G X k n h sz pc L (vI a :: st) := by
  obtain ⟨p, l, e, s, m, args, below, meth, c, R', Q, D', N0', nL'⟩ := X
  obtain ⟨⟨rfl, rfl, rfl, rfl⟩, C⟩ := C
  exact g0_ineg C hdg kk
theorem g_top {a b : Int} (hab : a = b) (kk : G X k n h sz pc L (vI b :: st)) : G X k n h sz pc L (vI a :: st) := by
  obtain ⟨p, l, e, s, m, args, below, meth, c, R', Q, D', N0', nL'⟩ := X
  exact g0_top hab kk
theorem g_topv {v v' : Value} (hab : v = v') (kk : G X k n h sz pc L (v' :: st)) : G X k n h sz pc L (v :: st) := by
  obtain ⟨p, l, e, s, m, args, below, meth, c, R', Q, D', N0', nL'⟩ := X
  exact g0_topv hab kk
theorem g_iandX (C : gC X cc own nm nL ret D dA N0 Y R) {x y : Int32} (hdg : decode cc pc = .ok (.iand, 1)) (kk : G X k n h sz (pc + 1) L (.int (x &&& y) :: st)) : G X k n h sz pc L (.int y :: .int x :: st) := by
  obtain ⟨p, l, e, s, m, args, below, meth, c, R', Q, D', N0', nL'⟩ := X
  obtain ⟨⟨rfl, rfl, rfl, rfl⟩, C⟩ := C
  exact g0_iandX C hdg kk
theorem g_iand (C : gC X cc own nm nL ret D dA N0 Y R) {a b r : Int} (hdg : decode cc pc = .ok (.iand, 1)) (hr : zI a &&& zI b = zI r) (kk : G X k n h sz (pc + 1) L (vI r :: st)) : G X k n h sz pc L (vI b :: vI a :: st) := by
  obtain ⟨p, l, e, s, m, args, below, meth, c, R', Q, D', N0', nL'⟩ := X
  obtain ⟨⟨rfl, rfl, rfl, rfl⟩, C⟩ := C
  exact g0_iand C hdg hr kk
theorem g_iorX (C : gC X cc own nm nL ret D dA N0 Y R) {x y : Int32} (hdg : decode cc pc = .ok (.ior, 1)) (kk : G X k n h sz (pc + 1) L (.int (x ||| y) :: st)) : G X k n h sz pc L (.int y :: .int x :: st) := by
  obtain ⟨p, l, e, s, m, args, below, meth, c, R', Q, D', N0', nL'⟩ := X
  obtain ⟨⟨rfl, rfl, rfl, rfl⟩, C⟩ := C
  exact g0_iorX C hdg kk
theorem g_ior (C : gC X cc own nm nL ret D dA N0 Y R) {a b r : Int} (hdg : decode cc pc = .ok (.ior, 1)) (hr : zI a ||| zI b = zI r) (kk : G X k n h sz (pc + 1) L (vI r :: st)) : G X k n h sz pc L (vI b :: vI a :: st) := by
  obtain ⟨p, l, e, s, m, args, below, meth, c, R', Q, D', N0', nL'⟩ := X
  obtain ⟨⟨rfl, rfl, rfl, rfl⟩, C⟩ := C
  exact g0_ior C hdg hr kk
theorem g_ixorX (C : gC X cc own nm nL ret D dA N0 Y R) {x y : Int32} (hdg : decode cc pc = .ok (.ixor, 1)) (kk : G X k n h sz (pc + 1) L (.int (x ^^^ y) :: st)) : G X k n h sz pc L (.int y :: .int x :: st) := by
  obtain ⟨p, l, e, s, m, args, below, meth, c, R', Q, D', N0', nL'⟩ := X
  obtain ⟨⟨rfl, rfl, rfl, rfl⟩, C⟩ := C
  exact g0_ixorX C hdg kk
theorem g_ixor (C : gC X cc own nm nL ret D dA N0 Y R) {a b r : Int} (hdg : decode cc pc = .ok (.ixor, 1)) (hr : zI a ^^^ zI b = zI r) (kk : G X k n h sz (pc + 1) L (vI r :: st)) : G X k n h sz pc L (vI b :: vI a :: st) := by
  obtain ⟨p, l, e, s, m, args, below, meth, c, R', Q, D', N0', nL'⟩ := X
  obtain ⟨⟨rfl, rfl, rfl, rfl⟩, C⟩ := C
  exact g0_ixor C hdg hr kk
theorem g_ishl (C : gC X cc own nm nL ret D dA N0 Y R) {a b r : Int} (hdg : decode cc pc = .ok (.ishl, 1)) (hr : zI a <<< (zI b &&& 31) = zI r) (kk : G X k n h sz (pc + 1) L (vI r :: st)) : G X k n h sz pc L (vI b :: vI a :: st) := by
  obtain ⟨p, l, e, s, m, args, below, meth, c, R', Q, D', N0', nL'⟩ := X
  obtain ⟨⟨rfl, rfl, rfl, rfl⟩, C⟩ := C
  exact g0_ishl C hdg hr kk
theorem g_ishr (C : gC X cc own nm nL ret D dA N0 Y R) {a b r : Int} (hdg : decode cc pc = .ok (.ishr, 1)) (hr : zI a >>> (zI b &&& 31) = zI r) (kk : G X k n h sz (pc + 1) L (vI r :: st)) : G X k n h sz pc L (vI b :: vI a :: st) := by
  obtain ⟨p, l, e, s, m, args, below, meth, c, R', Q, D', N0', nL'⟩ := X
  obtain ⟨⟨rfl, rfl, rfl, rfl⟩, C⟩ := C
  exact g0_ishr C hdg hr kk
theorem g_iushr (C : gC X cc own nm nL ret D dA N0 Y R) {a b r : Int} (hdg : decode cc pc = .ok (.iushr, 1)) (hr : ((zI a).toUInt32 >>> ((zI b).toUInt32 &&& Int32.toUInt32 31)).toInt32 = zI r) (kk : G X k n h sz (pc + 1) L (vI r :: st)) : G X k n h sz pc L (vI b :: vI a :: st) := by
  obtain ⟨p, l, e, s, m, args, below, meth, c, R', Q, D', N0', nL'⟩ := X
  obtain ⟨⟨rfl, rfl, rfl, rfl⟩, C⟩ := C
  exact g0_iushr C hdg hr kk
theorem g_irem (C : gC X cc own nm nL ret D dA N0 Y R) {a b : Int} (hab : (0 ≤ a ∧ a ≤ 2147483647) ∧ 0 < b ∧ b ≤ 2147483647) (hdg : decode cc pc = .ok (.irem, 1)) (kk : G X k n h sz (pc + 1) L (vI (a % b) :: st)) : G X k n h sz pc L (vI b :: vI a :: st) := by
  obtain ⟨p, l, e, s, m, args, below, meth, c, R', Q, D', N0', nL'⟩ := X
  obtain ⟨⟨rfl, rfl, rfl, rfl⟩, C⟩ := C
  exact g0_irem C hab hdg kk
theorem g_idiv (C : gC X cc own nm nL ret D dA N0 Y R) {a b : Int} (hab : (0 ≤ a ∧ a ≤ 2147483647) ∧ 0 < b ∧ b ≤ 2147483647) (hdg : decode cc pc = .ok (.idiv, 1)) (kk : G X k n h sz (pc + 1) L (vI (a / b) :: st)) : G X k n h sz pc L (vI b :: vI a :: st) := by
  obtain ⟨p, l, e, s, m, args, below, meth, c, R', Q, D', N0', nL'⟩ := X
  obtain ⟨⟨rfl, rfl, rfl, rfl⟩, C⟩ := C
  exact g0_idiv C hab hdg kk
theorem g_i2l (C : gC X cc own nm nL ret D dA N0 Y R) {a : Int} (hdg : decode cc pc = .ok (.i2l, 1)) (kk : G X k n h sz (pc + 1) L (.long (zI a).toInt64 :: st)) : G X k n h sz pc L (vI a :: st) := by
  obtain ⟨p, l, e, s, m, args, below, meth, c, R', Q, D', N0', nL'⟩ := X
  obtain ⟨⟨rfl, rfl, rfl, rfl⟩, C⟩ := C
  exact g0_i2l C hdg kk
theorem g_i2b (C : gC X cc own nm nL ret D dA N0 Y R) {a r : Int} (hdg : decode cc pc = .ok (.i2b, 1)) (hr : (zI a).toInt8.toInt32 = zI r) (kk : G X k n h sz (pc + 1) L (vI r :: st)) : G X k n h sz pc L (vI a :: st) := by
  obtain ⟨p, l, e, s, m, args, below, meth, c, R', Q, D', N0', nL'⟩ := X
  obtain ⟨⟨rfl, rfl, rfl, rfl⟩, C⟩ := C
  exact g0_i2b C hdg hr kk
theorem g_i2c (C : gC X cc own nm nL ret D dA N0 Y R) {a r : Int} (hdg : decode cc pc = .ok (.i2c, 1)) (hr : ((zI a).toUInt32 % 65536).toInt32 = zI r) (kk : G X k n h sz (pc + 1) L (vI r :: st)) : G X k n h sz pc L (vI a :: st) := by
  obtain ⟨p, l, e, s, m, args, below, meth, c, R', Q, D', N0', nL'⟩ := X
  obtain ⟨⟨rfl, rfl, rfl, rfl⟩, C⟩ := C
  exact g0_i2c C hdg hr kk
theorem g_lcmp (C : gC X cc own nm nL ret D dA N0 Y R) {x y : Int64} (hdg : decode cc pc = .ok (.lcmp, 1)) (kk : G X k n h sz (pc + 1) L (.int (lg_cmp x y) :: st)) : G X k n h sz pc L (.long y :: .long x :: st) := by
  obtain ⟨p, l, e, s, m, args, below, meth, c, R', Q, D', N0', nL'⟩ := X
  obtain ⟨⟨rfl, rfl, rfl, rfl⟩, C⟩ := C
  exact g0_lcmp C hdg kk
theorem g_dup (C : gC X cc own nm nL ret D dA N0 Y R) {v : Value} (hdg : decode cc pc = .ok (.dup, 1)) (hv : v.category = 1) (kk : G X k n h sz (pc + 1) L (v :: v :: st)) : G X k n h sz pc L (v :: st) := by
  obtain ⟨p, l, e, s, m, args, below, meth, c, R', Q, D', N0', nL'⟩ := X
  obtain ⟨⟨rfl, rfl, rfl, rfl⟩, C⟩ := C
  exact g0_dup C hdg hv kk
theorem g_pop (C : gC X cc own nm nL ret D dA N0 Y R) {v : Value} (hdg : decode cc pc = .ok (.pop, 1)) (hv : v.category = 1) (kk : G X k n h sz (pc + 1) L st) : G X k n h sz pc L (v :: st) := by
  obtain ⟨p, l, e, s, m, args, below, meth, c, R', Q, D', N0', nL'⟩ := X
  obtain ⟨⟨rfl, rfl, rfl, rfl⟩, C⟩ := C
  exact g0_pop C hdg hv kk
theorem g_dup_x1 (C : gC X cc own nm nL ret D dA N0 Y R) {v u : Value} (hdg : decode cc pc = .ok (.dup_x1, 1)) (hv : v.category = 1) (hu : u.category = 1) (kk : G X k n h sz (pc + 1) L (v :: u :: v :: st)) : G X k n h sz pc L (v :: u :: st) := by
  obtain ⟨p, l, e, s, m, args, below, meth, c, R', Q, D', N0', nL'⟩ := X
  obtain ⟨⟨rfl, rfl, rfl, rfl⟩, C⟩ := C
  exact g0_dup_x1 C hdg hv hu kk
theorem g_dup2 (C : gC X cc own nm nL ret D dA N0 Y R) {v u : Value} (hdg : decode cc pc = .ok (.dup2, 1)) (hv : v.category = 1) (hu : u.category = 1) (kk : G X k n h sz (pc + 1) L (v :: u :: v :: u :: st)) : G X k n h sz pc L (v :: u :: st) := by
  obtain ⟨p, l, e, s, m, args, below, meth, c, R', Q, D', N0', nL'⟩ := X
  obtain ⟨⟨rfl, rfl, rfl, rfl⟩, C⟩ := C
  exact g0_dup2 C hdg hv hu kk
theorem g_icmp_eq (C : gC X cc own nm nL ret D dA N0 Y R) {a b : Int} {off : Int} {tgt : Nat} (hdg : decode cc pc = .ok (.if_icmp .eq off, 3)) (ht : (pc : Int) + off = (tgt : Int)) (hr : (-2147483648 ≤ a ∧ a ≤ 2147483647) ∧ -2147483648 ≤ b ∧ b ≤ 2147483647) (kt : a = b → G X k n h sz tgt L st) (kf : a ≠ b → G X k n h sz (pc + 3) L st) : G X k n h sz pc L (vI b :: vI a :: st) := by
  obtain ⟨p, l, e, s, m, args, below, meth, c, R', Q, D', N0', nL'⟩ := X
  obtain ⟨⟨rfl, rfl, rfl, rfl⟩, C⟩ := C
  exact g0_icmp_eq C hdg ht hr kt kf
theorem g_icmp_ne (C : gC X cc own nm nL ret D dA N0 Y R) {a b : Int} {off : Int} {tgt : Nat} (hdg : decode cc pc = .ok (.if_icmp .ne off, 3)) (ht : (pc : Int) + off = (tgt : Int)) (hr : (-2147483648 ≤ a ∧ a ≤ 2147483647) ∧ -2147483648 ≤ b ∧ b ≤ 2147483647) (kt : a ≠ b → G X k n h sz tgt L st) (kf : a = b → G X k n h sz (pc + 3) L st) : G X k n h sz pc L (vI b :: vI a :: st) := by
  obtain ⟨p, l, e, s, m, args, below, meth, c, R', Q, D', N0', nL'⟩ := X
  obtain ⟨⟨rfl, rfl, rfl, rfl⟩, C⟩ := C
  exact g0_icmp_ne C hdg ht hr kt kf
theorem g_icmp_lt (C : gC X cc own nm nL ret D dA N0 Y R) {a b : Int} {off : Int} {tgt : Nat} (hdg : decode cc pc = .ok (.if_icmp .lt off, 3)) (ht : (pc : Int) + off = (tgt : Int)) (hr : (-2147483648 ≤ a ∧ a ≤ 2147483647) ∧ -2147483648 ≤ b ∧ b ≤ 2147483647) (kt : a < b → G X k n h sz tgt L st) (kf : b ≤ a → G X k n h sz (pc + 3) L st) : G X k n h sz pc L (vI b :: vI a :: st) := by
  obtain ⟨p, l, e, s, m, args, below, meth, c, R', Q, D', N0', nL'⟩ := X
  obtain ⟨⟨rfl, rfl, rfl, rfl⟩, C⟩ := C
  exact g0_icmp_lt C hdg ht hr kt kf
theorem g_icmp_ge (C : gC X cc own nm nL ret D dA N0 Y R) {a b : Int} {off : Int} {tgt : Nat} (hdg : decode cc pc = .ok (.if_icmp .ge off, 3)) (ht : (pc : Int) + off = (tgt : Int)) (hr : (-2147483648 ≤ a ∧ a ≤ 2147483647) ∧ -2147483648 ≤ b ∧ b ≤ 2147483647) (kt : b ≤ a → G X k n h sz tgt L st) (kf : a < b → G X k n h sz (pc + 3) L st) : G X k n h sz pc L (vI b :: vI a :: st) := by
  obtain ⟨p, l, e, s, m, args, below, meth, c, R', Q, D', N0', nL'⟩ := X
  obtain ⟨⟨rfl, rfl, rfl, rfl⟩, C⟩ := C
  exact g0_icmp_ge C hdg ht hr kt kf
theorem g_icmp_gt (C : gC X cc own nm nL ret D dA N0 Y R) {a b : Int} {off : Int} {tgt : Nat} (hdg : decode cc pc = .ok (.if_icmp .gt off, 3)) (ht : (pc : Int) + off = (tgt : Int)) (hr : (-2147483648 ≤ a ∧ a ≤ 2147483647) ∧ -2147483648 ≤ b ∧ b ≤ 2147483647) (kt : b < a → G X k n h sz tgt L st) (kf : a ≤ b → G X k n h sz (pc + 3) L st) : G X k n h sz pc L (vI b :: vI a :: st) := by
  obtain ⟨p, l, e, s, m, args, below, meth, c, R', Q, D', N0', nL'⟩ := X
  obtain ⟨⟨rfl, rfl, rfl, rfl⟩, C⟩ := C
  exact g0_icmp_gt C hdg ht hr kt kf
theorem g_icmp_le (C : gC X cc own nm nL ret D dA N0 Y R) {a b : Int} {off : Int} {tgt : Nat} (hdg : decode cc pc = .ok (.if_icmp .le off, 3)) (ht : (pc : Int) + off = (tgt : Int)) (hr : (-2147483648 ≤ a ∧ a ≤ 2147483647) ∧ -2147483648 ≤ b ∧ b ≤ 2147483647) (kt : a ≤ b → G X k n h sz tgt L st) (kf : b < a → G X k n h sz (pc + 3) L st) : G X k n h sz pc L (vI b :: vI a :: st) := by
  obtain ⟨p, l, e, s, m, args, below, meth, c, R', Q, D', N0', nL'⟩ := X
  obtain ⟨⟨rfl, rfl, rfl, rfl⟩, C⟩ := C
  exact g0_icmp_le C hdg ht hr kt kf
theorem g_if_eq (C : gC X cc own nm nL ret D dA N0 Y R) {a : Int} {off : Int} {tgt : Nat} (hdg : decode cc pc = .ok (.ifCond .eq off, 3)) (ht : (pc : Int) + off = (tgt : Int)) (hr : -2147483648 ≤ a ∧ a ≤ 2147483647) (kt : a = 0 → G X k n h sz tgt L st) (kf : a ≠ 0 → G X k n h sz (pc + 3) L st) : G X k n h sz pc L (vI a :: st) := by
  obtain ⟨p, l, e, s, m, args, below, meth, c, R', Q, D', N0', nL'⟩ := X
  obtain ⟨⟨rfl, rfl, rfl, rfl⟩, C⟩ := C
  exact g0_if_eq C hdg ht hr kt kf
theorem g_if_ne (C : gC X cc own nm nL ret D dA N0 Y R) {a : Int} {off : Int} {tgt : Nat} (hdg : decode cc pc = .ok (.ifCond .ne off, 3)) (ht : (pc : Int) + off = (tgt : Int)) (hr : -2147483648 ≤ a ∧ a ≤ 2147483647) (kt : a ≠ 0 → G X k n h sz tgt L st) (kf : a = 0 → G X k n h sz (pc + 3) L st) : G X k n h sz pc L (vI a :: st) := by
  obtain ⟨p, l, e, s, m, args, below, meth, c, R', Q, D', N0', nL'⟩ := X
  obtain ⟨⟨rfl, rfl, rfl, rfl⟩, C⟩ := C
  exact g0_if_ne C hdg ht hr kt kf
theorem g_if_lt (C : gC X cc own nm nL ret D dA N0 Y R) {a : Int} {off : Int} {tgt : Nat} (hdg : decode cc pc = .ok (.ifCond .lt off, 3)) (ht : (pc : Int) + off = (tgt : Int)) (hr : -2147483648 ≤ a ∧ a ≤ 2147483647) (kt : a < 0 → G X k n h sz tgt L st) (kf : 0 ≤ a → G X k n h sz (pc + 3) L st) : G X k n h sz pc L (vI a :: st) := by
  obtain ⟨p, l, e, s, m, args, below, meth, c, R', Q, D', N0', nL'⟩ := X
  obtain ⟨⟨rfl, rfl, rfl, rfl⟩, C⟩ := C
  exact g0_if_lt C hdg ht hr kt kf
theorem g_if_ge (C : gC X cc own nm nL ret D dA N0 Y R) {a : Int} {off : Int} {tgt : Nat} (hdg : decode cc pc = .ok (.ifCond .ge off, 3)) (ht : (pc : Int) + off = (tgt : Int)) (hr : -2147483648 ≤ a ∧ a ≤ 2147483647) (kt : 0 ≤ a → G X k n h sz tgt L st) (kf : a < 0 → G X k n h sz (pc + 3) L st) : G X k n h sz pc L (vI a :: st) := by
  obtain ⟨p, l, e, s, m, args, below, meth, c, R', Q, D', N0', nL'⟩ := X
  obtain ⟨⟨rfl, rfl, rfl, rfl⟩, C⟩ := C
  exact g0_if_ge C hdg ht hr kt kf
theorem g_if_gt (C : gC X cc own nm nL ret D dA N0 Y R) {a : Int} {off : Int} {tgt : Nat} (hdg : decode cc pc = .ok (.ifCond .gt off, 3)) (ht : (pc : Int) + off = (tgt : Int)) (hr : -2147483648 ≤ a ∧ a ≤ 2147483647) (kt : 0 < a → G X k n h sz tgt L st) (kf : a ≤ 0 → G X k n h sz (pc + 3) L st) : G X k n h sz pc L (vI a :: st) := by
  obtain ⟨p, l, e, s, m, args, below, meth, c, R', Q, D', N0', nL'⟩ := X
  obtain ⟨⟨rfl, rfl, rfl, rfl⟩, C⟩ := C
  exact g0_if_gt C hdg ht hr kt kf
theorem g_if_le (C : gC X cc own nm nL ret D dA N0 Y R) {a : Int} {off : Int} {tgt : Nat} (hdg : decode cc pc = .ok (.ifCond .le off, 3)) (ht : (pc : Int) + off = (tgt : Int)) (hr : -2147483648 ≤ a ∧ a ≤ 2147483647) (kt : a ≤ 0 → G X k n h sz tgt L st) (kf : 0 < a → G X k n h sz (pc + 3) L st) : G X k n h sz pc L (vI a :: st) := by
  obtain ⟨p, l, e, s, m, args, below, meth, c, R', Q, D', N0', nL'⟩ := X
  obtain ⟨⟨rfl, rfl, rfl, rfl⟩, C⟩ := C
  exact g0_if_le C hdg ht hr kt kf
theorem g_ifeq_b (C : gC X cc own nm nL ret D dA N0 Y R) {b : Bool} {off : Int} {tgt : Nat} (hdg : decode cc pc = .ok (.ifCond .eq off, 3)) (ht : (pc : Int) + off = (tgt : Int)) (kt : b = false → G X k n h sz tgt L st) (kf : b = true → G X k n h sz (pc + 3) L st) : G X k n h sz pc L (vI (bI b) :: st) := by
  obtain ⟨p, l, e, s, m, args, below, meth, c, R', Q, D', N0', nL'⟩ := X
  obtain ⟨⟨rfl, rfl, rfl, rfl⟩, C⟩ := C
  exact g0_ifeq_b C hdg ht kt kf
theorem g_ifne_b (C : gC X cc own nm nL ret D dA N0 Y R) {b : Bool} {off : Int} {tgt : Nat} (hdg : decode cc pc = .ok (.ifCond .ne off, 3)) (ht : (pc : Int) + off = (tgt : Int)) (kt : b = true → G X k n h sz tgt L st) (kf : b = false → G X k n h sz (pc + 3) L st) : G X k n h sz pc L (vI (bI b) :: st) := by
  obtain ⟨p, l, e, s, m, args, below, meth, c, R', Q, D', N0', nL'⟩ := X
  obtain ⟨⟨rfl, rfl, rfl, rfl⟩, C⟩ := C
  exact g0_ifne_b C hdg ht kt kf
theorem g_goto (C : gC X cc own nm nL ret D dA N0 Y R) {off : Int} {tgt : Nat} (hdg : decode cc pc = .ok (.goto off, 3)) (ht : (pc : Int) + off = (tgt : Int)) (kk : G X k n h sz tgt L st) : G X k n h sz pc L st := by
  obtain ⟨p, l, e, s, m, args, below, meth, c, R', Q, D', N0', nL'⟩ := X
  obtain ⟨⟨rfl, rfl, rfl, rfl⟩, C⟩ := C
  exact g0_goto C hdg ht kk
theorem g_ifnull (C : gC X cc own nm nL ret D dA N0 Y R) {o : Option Nat} {off : Int} {tgt : Nat} (hdg : decode cc pc = .ok (.ifnull off, 3)) (ht : (pc : Int) + off = (tgt : Int)) (kt : o = none → G X k n h sz tgt L st) (kf : ∀ a, o = some a → G X k n h sz (pc + 3) L st) : G X k n h sz pc L (va_rf o :: st) := by
  obtain ⟨p, l, e, s, m, args, below, meth, c, R', Q, D', N0', nL'⟩ := X
  obtain ⟨⟨rfl, rfl, rfl, rfl⟩, C⟩ := C
  exact g0_ifnull C hdg ht kt kf
theorem g_ifnonnull (C : gC X cc own nm nL ret D dA N0 Y R) {o : Option Nat} {off : Int} {tgt : Nat} (hdg : decode cc pc = .ok (.ifnonnull off, 3)) (ht : (pc : Int) + off = (tgt : Int)) (kt : ∀ a, o = some a → G X k n h sz tgt L st) (kf : o = none → G X k n h sz (pc + 3) L st) : G X k n h sz pc L (va_rf o :: st) := by
  obtain ⟨p, l, e, s, m, args, below, meth, c, R', Q, D', N0', nL'⟩ := X
  obtain ⟨⟨rfl, rfl, rfl, rfl⟩, C⟩ := C
  exact g0_ifnonnull C hdg ht kt kf
theorem g_tabOut (C : gC X cc own nm nL ret D dA N0 Y R) {a : Int} {dflt lo hi : Int} {offs : Array Int} {len tgt : Nat} (hdg : decode cc pc = .ok (.tableswitch dflt lo hi offs, len)) (hr : -2147483648 ≤ a ∧ a ≤ 2147483647) (ha : a < lo ∨ hi < a) (ht : (pc : Int) + dflt = (tgt : Int)) (kk : G X k n h sz tgt L st) : G X k n h sz pc L (vI a :: st) := by
  obtain ⟨p, l, e, s, m, args, below, meth, c, R', Q, D', N0', nL'⟩ := X
  obtain ⟨⟨rfl, rfl, rfl, rfl⟩, C⟩ := C
  exact g0_tabOut C hdg hr ha ht kk
theorem g_tabIn (C : gC X cc own nm nL ret D dA N0 Y R) {a : Int} {dflt lo hi : Int} {offs : Array Int} {len : Nat} {off : Int} {tgt : Nat} (hdg : decode cc pc = .ok (.tableswitch dflt lo hi offs, len)) (hr : -2147483648 ≤ a ∧ a ≤ 2147483647) (ha : lo ≤ a ∧ a ≤ hi) (ho : offs[(a - lo).toNat]? = some off) (ht : (pc : Int) + off = (tgt : Int)) (kk : G X k n h sz tgt L st) : G X k n h sz pc L (vI a :: st) := by
  obtain ⟨p, l, e, s, m, args, below, meth, c, R', Q, D', N0', nL'⟩ := X
  obtain ⟨⟨rfl, rfl, rfl, rfl⟩, C⟩ := C
  exact g0_tabIn C hdg hr ha ho ht kk
theorem g_get (C : gC X cc own nm nL ret D dA N0 Y R) {ref Cn : String} {T : u_T} {N ci i : Nat} {a : Nat} {fs : List Value} (ha : h a = some (gO ci fs)) (hc : vwCl[ci]? = some (Cn, T, N)) (hin : ∀ w ∈ u_ws Cn T N, w ∈ lw_all) (f : Nat) (hf : f < N) (hl : Cond.fieldLink own i ref (T f).2.1 (T f).2.2.1 ∈ lw_all) (hsm : ref = (T f).1 ∨ Cond.sameField ref (T f).1 (T f).2.1 (T f).2.2.1 ∈ lw_all) {v : Value} (hv : fs[f]? = some v) (hdg : decode cc pc = .ok (.getfield i, 3)) (kk : G X k n h sz (pc + 3) L (v :: st)) : G X k n h sz pc L (.ref a :: st) := by
  obtain ⟨p, l, e, s, m, args, below, meth, c, R', Q, D', N0', nL'⟩ := X
  obtain ⟨⟨rfl, rfl, rfl, rfl⟩, C⟩ := C
  exact g0_get C ha hc hin f hf hl hsm hv hdg kk
theorem g_put (C : gC X cc own nm nL ret D dA N0 Y R) {ref Cn : String} {T : u_T} {N ci i : Nat} {a : Nat} {fs : List Value} (ha : h a = some (gO ci fs)) (hc : vwCl[ci]? = some (Cn, T, N)) (hin : ∀ w ∈ u_ws Cn T N, w ∈ lw_all) (f : Nat) (hf : f < N) (ty0 : Nat → FieldType) (hty : ∀ k, k < N → parseFieldDescriptor (T k).2.2.1 = some (ty0 k)) (hnm : ∀ a, a < N → ∀ b, b < N → a ≠ b → (T a).2.1 ≠ (T b).2.1) (hl : Cond.fieldLink own i ref (T f).2.1 (T f).2.2.1 ∈ lw_all) (hsm : ref = (T f).1 ∨ Cond.sameField ref (T f).1 (T f).2.1 (T f).2.2.1 ∈ lw_all) (hfin : (T f).2.2.2 = false) {v : Value} (hn : narrow (ty0 f) v = v) (hfit : fits (ty0 f) v = true) (hl2 : f < fs.length) (hdg : decode cc pc = .ok (.putfield i, 3)) (kk : G X k n (gup h a (gO ci (fs.set f v))) sz (pc + 3) L st) : G X k n h sz pc L (v :: .ref a :: st) := by
  obtain ⟨p, l, e, s, m, args, below, meth, c, R', Q, D', N0', nL'⟩ := X
  obtain ⟨⟨rfl, rfl, rfl, rfl⟩, C⟩ := C
  exact g0_put C ha hc hin f hf ty0 hty hnm hl hsm hfin hn hfit hl2 hdg kk
theorem g_putF (C : gC X cc own nm nL ret D dA N0 Y R) {ref Cn : String} {T : u_T} {N ci i : Nat} {a : Nat} {fs : List Value} (ha : h a = some (gO ci fs)) (hc : vwCl[ci]? = some (Cn, T, N)) (hin : ∀ w ∈ u_ws Cn T N, w ∈ lw_all) (f : Nat) (hf : f < N) (ty0 : Nat → FieldType) (hty : ∀ k, k < N → parseFieldDescriptor (T k).2.2.1 = some (ty0 k)) (hnm : ∀ a, a < N → ∀ b, b < N → a ≠ b → (T a).2.1 ≠ (T b).2.1) (hl : Cond.fieldLink own i ref (T f).2.1 (T f).2.2.1 ∈ lw_all) (hsm : ref = (T f).1 ∨ Cond.sameField ref (T f).1 (T f).2.1 (T f).2.2.1 ∈ lw_all) (hfin : (T f).2.2.2 = true) (hini : nm = "<init>") (hdecl : (T f).1 = own) {v : Value} (hn : narrow (ty0 f) v = v) (hfit : fits (ty0 f) v = true) (hl2 : f < fs.length) (hdg : decode cc pc = .ok (.putfield i, 3)) (kk : G X k n (gup h a (gO ci (fs.set f v))) sz (pc + 3) L st) : G X k n h sz pc L (v :: .ref a :: st) := by
  obtain ⟨p, l, e, s, m, args, below, meth, c, R', Q, D', N0', nL'⟩ := X
  obtain ⟨⟨rfl, rfl, rfl, rfl⟩, C⟩ := C
  exact g0_putF C ha hc hin f hf ty0 hty hnm hl hsm hfin hini hdecl hn hfit hl2 hdg kk
theorem g_iald (C : gC X cc own nm nL ret D dA N0 Y R) {a N : Nat} {F : Int → Int} {i : Int} (ha : h a = some (gI (dA 0) N F)) (hi : 0 ≤ i ∧ i < N ∧ N < 2147483648) (hdg : decode cc pc = .ok (.iaload, 1)) (kk : G X k n h sz (pc + 1) L (vI (F i) :: st)) : G X k n h sz pc L (vI i :: .ref a :: st) := by
  obtain ⟨p, l, e, s, m, args, below, meth, c, R', Q, D', N0', nL'⟩ := X
  obtain ⟨⟨rfl, rfl, rfl, rfl⟩, C⟩ := C
  exact g0_iald C ha hi hdg kk
theorem g_bald (C : gC X cc own nm nL ret D dA N0 Y R) {a N : Nat} {F : Int → Int} {i : Int} (ha : h a = some (gI (dA 1) N F)) (hi : 0 ≤ i ∧ i < N ∧ N < 2147483648) (hdg : decode cc pc = .ok (.baload, 1)) (kk : G X k n h sz (pc + 1) L (vI (F i) :: st)) : G X k n h sz pc L (vI i :: .ref a :: st) := by
  obtain ⟨p, l, e, s, m, args, below, meth, c, R', Q, D', N0', nL'⟩ := X
  obtain ⟨⟨rfl, rfl, rfl, rfl⟩, C⟩ := C
  exact g0_bald C ha hi hdg kk
theorem g_zald (C : gC X cc own nm nL ret D dA N0 Y R) {a N : Nat} {F : Int → Int} {i : Int} (ha : h a = some (gI (dA 2) N F)) (hi : 0 ≤ i ∧ i < N ∧ N < 2147483648) (hdg : decode cc pc = .ok (.baload, 1)) (kk : G X k n h sz (pc + 1) L (vI (F i) :: st)) : G X k n h sz pc L (vI i :: .ref a :: st) := by
  obtain ⟨p, l, e, s, m, args, below, meth, c, R', Q, D', N0', nL'⟩ := X
  obtain ⟨⟨rfl, rfl, rfl, rfl⟩, C⟩ := C
  exact g0_zald C ha hi hdg kk
theorem g_aald (C : gC X cc own nm nL ret D dA N0 Y R) {a N : Nat} {F : Int → Option Nat} {i : Int} (t : Nat) {ty : FieldType} (ht : (gTys dA)[t]? = some (dA t, ty)) (hty : ty.isReference = true) (ha : h a = some (gR (dA t) N F)) (hi : 0 ≤ i ∧ i < N ∧ N < 2147483648) (hdg : decode cc pc = .ok (.aaload, 1)) (kk : G X k n h sz (pc + 1) L (va_rf (F i) :: st)) : G X k n h sz pc L (vI i :: .ref a :: st) := by
  obtain ⟨p, l, e, s, m, args, below, meth, c, R', Q, D', N0', nL'⟩ := X
  obtain ⟨⟨rfl, rfl, rfl, rfl⟩, C⟩ := C
  exact g0_aald C t ht hty ha hi hdg kk
theorem g_iast (C : gC X cc own nm nL ret D dA N0 Y R) {a N : Nat} {F : Int → Int} {i v : Int} (ha : h a = some (gI (dA 0) N F)) (hi : 0 ≤ i ∧ i < N ∧ N < 2147483648) (hdg : decode cc pc = .ok (.iastore, 1)) (kk : G X k n (gup h a (gI (dA 0) N (uI F i v))) sz (pc + 1) L st) : G X k n h sz pc L (vI v :: vI i :: .ref a :: st) := by
  obtain ⟨p, l, e, s, m, args, below, meth, c, R', Q, D', N0', nL'⟩ := X
  obtain ⟨⟨rfl, rfl, rfl, rfl⟩, C⟩ := C
  exact g0_iast C ha hi hdg kk
theorem g_bast (C : gC X cc own nm nL ret D dA N0 Y R) {a N : Nat} {F : Int → Int} {i v r : Int} (ha : h a = some (gI (dA 1) N F)) (hi : 0 ≤ i ∧ i < N ∧ N < 2147483648) (hr : narrow .byte (vI v) = vI r) (hdg : decode cc pc = .ok (.bastore, 1)) (kk : G X k n (gup h a (gI (dA 1) N (uI F i r))) sz (pc + 1) L st) : G X k n h sz pc L (vI v :: vI i :: .ref a :: st) := by
  obtain ⟨p, l, e, s, m, args, below, meth, c, R', Q, D', N0', nL'⟩ := X
  obtain ⟨⟨rfl, rfl, rfl, rfl⟩, C⟩ := C
  exact g0_bast C ha hi hr hdg kk
theorem g_zast (C : gC X cc own nm nL ret D dA N0 Y R) {a N : Nat} {F : Int → Int} {i v r : Int} (ha : h a = some (gI (dA 2) N F)) (hi : 0 ≤ i ∧ i < N ∧ N < 2147483648) (hr : narrow .boolean (vI v) = vI r) (hdg : decode cc pc = .ok (.bastore, 1)) (kk : G X k n (gup h a (gI (dA 2) N (uI F i r))) sz (pc + 1) L st) : G X k n h sz pc L (vI v :: vI i :: .ref a :: st) := by
  obtain ⟨p, l, e, s, m, args, below, meth, c, R', Q, D', N0', nL'⟩ := X
  obtain ⟨⟨rfl, rfl, rfl, rfl⟩, C⟩ := C
  exact g0_zast C ha hi hr hdg kk
theorem g_aastK (C : gC X cc own nm nL ret D dA N0 Y R) {a b N ci : Nat} {F : Int → Option Nat} {i : Int} {fs : List Value} (t : Nat) {Cn : String} {T : u_T} {M : Nat} (ht : (gTys dA)[t]? = some (dA t, .object Cn)) (ha : h a = some (gR (dA t) N F)) (hb : h b = some (gO ci fs)) (hc : vwCl[ci]? = some (Cn, T, M)) (hi : 0 ≤ i ∧ i < N ∧ N < 2147483648) (hdg : decode cc pc = .ok (.aastore, 1)) (kk : G X k n (gup h a (gR (dA t) N (uI F i (some b)))) sz (pc + 1) L st) : G X k n h sz pc L (.ref b :: vI i :: .ref a :: st) := by
  obtain ⟨p, l, e, s, m, args, below, meth, c, R', Q, D', N0', nL'⟩ := X
  obtain ⟨⟨rfl, rfl, rfl, rfl⟩, C⟩ := C
  exact g0_aastK C t ht ha hb hc hi hdg kk
theorem g_aastN (C : gC X cc own nm nL ret D dA N0 Y R) {a N : Nat} {F : Int → Option Nat} {i : Int} (t : Nat) {Cn : String} (ht : (gTys dA)[t]? = some (dA t, .object Cn)) (ha : h a = some (gR (dA t) N F)) (hi : 0 ≤ i ∧ i < N ∧ N < 2147483648) (hdg : decode cc pc = .ok (.aastore, 1)) (kk : G X k n (gup h a (gR (dA t) N (uI F i none))) sz (pc + 1) L st) : G X k n h sz pc L (.null :: vI i :: .ref a :: st) := by
  obtain ⟨p, l, e, s, m, args, below, meth, c, R', Q, D', N0', nL'⟩ := X
  obtain ⟨⟨rfl, rfl, rfl, rfl⟩, C⟩ := C
  exact g0_aastN C t ht ha hi hdg kk
theorem g_alen (C : gC X cc own nm nL ret D dA N0 Y R) {a N : Nat} {x : (Nat → Int32) ⊕ (Nat → Int64) ⊕ (Nat → UInt32) ⊕ (Nat → UInt64) ⊕ (Nat → Option Nat)} (t : Nat) {ty : FieldType} (ht : (gTys dA)[t]? = some (dA t, ty)) (ha : h a = some (.inl (dA t, N, x))) (hdg : decode cc pc = .ok (.arraylength, 1)) (kk : G X k n h sz (pc + 1) L (vI N :: st)) : G X k n h sz pc L (.ref a :: st) := by
  obtain ⟨p, l, e, s, m, args, below, meth, c, R', Q, D', N0', nL'⟩ := X
  obtain ⟨⟨rfl, rfl, rfl, rfl⟩, C⟩ := C
  exact g0_alen C t ht ha hdg kk
theorem g_new (C : gC X cc own nm nL ret D dA N0 Y R) {Cn : String} {T : u_T} {N ci i : Nat} {fs : List Value} (hc : vwCl[ci]? = some (Cn, T, N)) (hin : ∀ w ∈ u_ws Cn T N, w ∈ lw_all) (ty : Nat → FieldType) (hty : ∀ k, k < N → parseFieldDescriptor (T k).2.2.1 = some (ty k)) (hcl : Cond.classLink own i Cn ∈ lw_all) (hinst : Cond.instantiable Cn N ∈ lw_all) (hini : Cond.initialized Cn ∈ lw_all) (hfs : ∀ j, j < N → defaultValue (ty j) = vp_V fs j) (hR : k + 1 ≤ R.cells ∧ n + N ≤ R.slots) (hdg : decode cc pc = .ok (.new i, 3)) (kk : h sz = none → G X (k + 1) (n + N) (gup h sz (gO ci fs)) (sz + 1) (pc + 3) L (.ref sz :: st)) : G X k n h sz pc L st := by
  obtain ⟨p, l, e, s, m, args, below, meth, c, R', Q, D', N0', nL'⟩ := X
  obtain ⟨⟨rfl, rfl, rfl, rfl⟩, C⟩ := C
  exact g0_new C hc hin ty hty hcl hinst hini hfs hR hdg kk
theorem g_newa (C : gC X cc own nm nL ret D dA N0 Y R) {atype : ArrayType} {N : Nat} (t : Nat) {ty : FieldType} (hty : newarray.typeOf atype = ty) (ht : (gTys dA)[t]? = some (dA t, ty)) (hpr : ∀ U cA, va_RA U cA ty = (U.vm.findClass ("[" ++ ty.toString) = some cA)) (hdf : defaultValue ty = .int 0) (harr : Cond.arrayClass ty ∈ lw_all) (hN : N * 8 ≤ 536870912) (hcb : componentBytes ty ≤ 8) (hR : k + 1 ≤ R.cells ∧ n + N ≤ R.slots) (hdg : decode cc pc = .ok (.newarray atype, 2)) (kk : h sz = none → G X (k + 1) (n + N) (gup h sz (gI (dA t) N (fun _ => 0))) (sz + 1) (pc + 2) L (.ref sz :: st)) : G X k n h sz pc L (vI (N : Int) :: st) := by
  obtain ⟨p, l, e, s, m, args, below, meth, c, R', Q, D', N0', nL'⟩ := X
  obtain ⟨⟨rfl, rfl, rfl, rfl⟩, C⟩ := C
  exact g0_newa C t hty ht hpr hdf harr hN hcb hR hdg kk
theorem g_anew (C : gC X cc own nm nL ret D dA N0 Y R) {N i : Nat} (t : Nat) {Cn : String} (ht : (gTys dA)[t]? = some (dA t, .object Cn)) (hcl : Cond.classLink own i Cn ∈ lw_all) (hao : va_AO Cn (gs X)) (hN : N * 4 ≤ 536870912) (hR : k + 1 ≤ R.cells ∧ n + N ≤ R.slots) (hdg : decode cc pc = .ok (.anewarray i, 3)) (kk : h sz = none → G X (k + 1) (n + N) (gup h sz (gR (dA t) N (fun _ => none))) (sz + 1) (pc + 3) L (.ref sz :: st)) : G X k n h sz pc L (vI (N : Int) :: st) := by
  obtain ⟨p, l, e, s, m, args, below, meth, c, R', Q, D', N0', nL'⟩ := X
  obtain ⟨⟨rfl, rfl, rfl, rfl⟩, C⟩ := C
  exact g0_anew C t ht hcl hao hN hR hdg kk
theorem g_callV (C : gC X cc own nm nL ret D dA N0 Y R) {y : MethodName} {cy : ByteArray} {nLy : Nat} {rty : Option FieldType} {fr lo mc ms i : Nat} {P : Option Value → gH → Nat → Prop} {b ci : Nat} {fs As rest st0 : List Value} {Cn : String} {T : u_T} {N : Nat} (hM : gM (gl X) D dA N0 Y y cy nLy rty fr lo mc ms (.ref b :: As) h sz P) (hw : GoodIn lw_all (wsV own i Cn y (ws_ y cy nLy rty))) (hd : y.cls = Cn ∧ y.cls ≠ "java/lang/invoke/MethodHandle" ∧ y.cls ≠ "java/lang/invoke/VarHandle" ∧ (parseMethodDescriptor y.desc).map (fun d => d.parameters.length) = some As.length) (hb : h b = some (gO ci fs)) (hc : vwCl[ci]? = some (Cn, T, N)) (hR : fr + 1 ≤ R.frames ∧ 8 + (nLy + 11) + lo ≤ R.locals) (hf : k + mc ≤ R.cells ∧ n + ms ≤ R.slots) (hst : st0 = As.reverse ++ .ref b :: rest) (hcat : (rest.map fun v => v.category).sum ≤ 8) (hdg : decode cc pc = .ok (.invokevirtual i, 3)) (kk : ∀ (v : Option Value) (h1 : gH) (z1 : Nat), P v h1 z1 → G X (k + mc) (n + ms) h1 z1 (pc + 3) L (v.toList ++ rest)) : G X k n h sz pc L st0 := by
  obtain ⟨p, l, e, s, m, args, below, meth, c, R', Q, D', N0', nL'⟩ := X
  obtain ⟨⟨rfl, rfl, rfl, rfl⟩, C⟩ := C
  exact g0_callV C hM hw hd hb hc hR hf hst hcat hdg kk
theorem g_callS (C : gC X cc own nm nL ret D dA N0 Y R) {y : MethodName} {cy : ByteArray} {nLy : Nat} {rty : Option FieldType} {fr lo mc ms i : Nat} {P : Option Value → gH → Nat → Prop} {As rest st0 : List Value} (hM : gM (gl X) D dA N0 Y y cy nLy rty fr lo mc ms As h sz P) (hw : GoodIn lw_all (va_wsS own i y (ws_ y cy nLy rty))) (hd : y.cls ≠ "java/lang/invoke/MethodHandle" ∧ y.cls ≠ "java/lang/invoke/VarHandle" ∧ (parseMethodDescriptor y.desc).map (fun d => d.parameters.length) = some As.length) (hR : fr + 1 ≤ R.frames ∧ 8 + (nLy + 11) + lo ≤ R.locals) (hf : k + mc ≤ R.cells ∧ n + ms ≤ R.slots) (hst : st0 = As.reverse ++ rest) (hcat : (rest.map fun v => v.category).sum ≤ 8) (hdg : decode cc pc = .ok (.invokestatic i, 3)) (kk : ∀ (v : Option Value) (h1 : gH) (z1 : Nat), P v h1 z1 → G X (k + mc) (n + ms) h1 z1 (pc + 3) L (v.toList ++ rest)) : G X k n h sz pc L st0 := by
  obtain ⟨p, l, e, s, m, args, below, meth, c, R', Q, D', N0', nL'⟩ := X
  obtain ⟨⟨rfl, rfl, rfl, rfl⟩, C⟩ := C
  exact g0_callS C hM hw hd hR hf hst hcat hdg kk
theorem g_callI (C : gC X cc own nm nL ret D dA N0 Y R) {y : MethodName} {cy : ByteArray} {nLy : Nat} {fr lo mc ms i : Nat} {P : Option Value → gH → Nat → Prop} {b : Nat} {As rest st0 : List Value} (hM : gM (gl X) D dA N0 Y y cy nLy none fr lo mc ms (.ref b :: As) h sz P) (hw : GoodIn lw_all (ws_ y cy nLy none)) (hini : Cond.initialized y.cls ∈ lw_all) (hl : Cond.methodLink own i y ∈ lw_all) (hin : Cond.instanceMethod y ∈ lw_all) (hyn : y.name = "<init>") (hd : y.cls ≠ "java/lang/invoke/MethodHandle" ∧ y.cls ≠ "java/lang/invoke/VarHandle" ∧ (parseMethodDescriptor y.desc).map (fun d => d.parameters.length) = some As.length) (hR : fr + 1 ≤ R.frames ∧ 8 + (nLy + 11) + lo ≤ R.locals) (hf : k + mc ≤ R.cells ∧ n + ms ≤ R.slots) (hst : st0 = As.reverse ++ .ref b :: rest) (hcat : (rest.map fun v => v.category).sum ≤ 8) (hdg : decode cc pc = .ok (.invokespecial i, 3)) (kk : ∀ (v : Option Value) (h1 : gH) (z1 : Nat), P v h1 z1 → G X (k + mc) (n + ms) h1 z1 (pc + 3) L (v.toList ++ rest)) : G X k n h sz pc L st0 := by
  obtain ⟨p, l, e, s, m, args, below, meth, c, R', Q, D', N0', nL'⟩ := X
  obtain ⟨⟨rfl, rfl, rfl, rfl⟩, C⟩ := C
  exact g0_callI C hM hw hini hl hin hyn hd hR hf hst hcat hdg kk
theorem g_callSN (C : gC X cc own nm nL ret D dA N0 Y R) {y : MethodName} {cy : ByteArray} {nLy : Nat} {rty : Option FieldType} {fr lo mc ms i : Nat} {P : Option Value → gH → Nat → Prop} {host : String} {As rest st0 : List Value} (hM : gM (gl X) D dA N0 Y y cy nLy rty fr lo mc ms As h sz P) (hw : GoodIn lw_all (ws_ y cy nLy rty)) (hl : va_Nw (.methodLinkNest own i y host) (gs X)) (hstat : Cond.static y ∈ lw_all) (hini : Cond.initialized y.cls ∈ lw_all) (hd : y.cls ≠ "java/lang/invoke/MethodHandle" ∧ y.cls ≠ "java/lang/invoke/VarHandle" ∧ (parseMethodDescriptor y.desc).map (fun d => d.parameters.length) = some As.length) (hR : fr + 1 ≤ R.frames ∧ 8 + (nLy + 11) + lo ≤ R.locals) (hf : k + mc ≤ R.cells ∧ n + ms ≤ R.slots) (hst : st0 = As.reverse ++ rest) (hcat : (rest.map fun v => v.category).sum ≤ 8) (hdg : decode cc pc = .ok (.invokestatic i, 3)) (kk : ∀ (v : Option Value) (h1 : gH) (z1 : Nat), P v h1 z1 → G X (k + mc) (n + ms) h1 z1 (pc + 3) L (v.toList ++ rest)) : G X k n h sz pc L st0 := by
  obtain ⟨p, l, e, s, m, args, below, meth, c, R', Q, D', N0', nL'⟩ := X
  obtain ⟨⟨rfl, rfl, rfl, rfl⟩, C⟩ := C
  exact g0_callSN C hM hw hl hstat hini hd hR hf hst hcat hdg kk
theorem g_callIN (C : gC X cc own nm nL ret D dA N0 Y R) {y : MethodName} {cy : ByteArray} {nLy : Nat} {fr lo mc ms i : Nat} {P : Option Value → gH → Nat → Prop} {host : String} {b : Nat} {As rest st0 : List Value} (hM : gM (gl X) D dA N0 Y y cy nLy none fr lo mc ms (.ref b :: As) h sz P) (hw : GoodIn lw_all (ws_ y cy nLy none)) (hl : va_Nw (.methodLinkNest own i y host) (gs X)) (hini : Cond.initialized y.cls ∈ lw_all) (hin : Cond.instanceMethod y ∈ lw_all) (hyn : y.name = "<init>") (hd : y.cls ≠ "java/lang/invoke/MethodHandle" ∧ y.cls ≠ "java/lang/invoke/VarHandle" ∧ (parseMethodDescriptor y.desc).map (fun d => d.parameters.length) = some As.length) (hR : fr + 1 ≤ R.frames ∧ 8 + (nLy + 11) + lo ≤ R.locals) (hf : k + mc ≤ R.cells ∧ n + ms ≤ R.slots) (hst : st0 = As.reverse ++ .ref b :: rest) (hcat : (rest.map fun v => v.category).sum ≤ 8) (hdg : decode cc pc = .ok (.invokespecial i, 3)) (kk : ∀ (v : Option Value) (h1 : gH) (z1 : Nat), P v h1 z1 → G X (k + mc) (n + ms) h1 z1 (pc + 3) L (v.toList ++ rest)) : G X k n h sz pc L st0 := by
  obtain ⟨p, l, e, s, m, args, below, meth, c, R', Q, D', N0', nL'⟩ := X
  obtain ⟨⟨rfl, rfl, rfl, rfl⟩, C⟩ := C
  exact g0_callIN C hM hw hl hini hin hyn hd hR hf hst hcat hdg kk
theorem g_objInit (C : gC X cc own nm nL ret D dA N0 Y R) {a i : Nat} {rest : List Value} (hl : Cond.methodLink own i Lib.objectInit ∈ lw_all) (hin : Cond.instanceMethod Lib.objectInit ∈ lw_all) (hcode : Cond.code Lib.objectInit ⟨#[0xb1]⟩ 1 none ∈ lw_all) (hcat : (rest.map fun v => v.category).sum ≤ 8) (hR : 1 ≤ R.frames ∧ 20 ≤ R.locals) (hdg : decode cc pc = .ok (.invokespecial i, 3)) (kk : G X k n h sz (pc + 3) L rest) : G X k n h sz pc L (.ref a :: rest) := by
  obtain ⟨p, l, e, s, m, args, below, meth, c, R', Q, D', N0', nL'⟩ := X
  obtain ⟨⟨rfl, rfl, rfl, rfl⟩, C⟩ := C
  exact g0_objInit C hl hin hcode hcat hR hdg kk
theorem g_iret (C : gC X cc own nm nL ret D dA N0 Y R) (hQ : gRt X D N0 P mc ms) {z : Int} (hr : ret = some .int) (hdg : decode cc pc = .ok (.ireturn, 1)) (hP : P (some (vI z)) h sz) : G X mc ms h sz pc L [vI z] := by
  obtain ⟨p, l, e, s, m, args, below, meth, c, R', Q, D', N0', nL'⟩ := X
  obtain ⟨⟨rfl, rfl, rfl, rfl⟩, C⟩ := C
  have hQ : Q = _ := hQ
  subst hQ
  exact g0_iret C hr hdg hP
theorem g_zret (C : gC X cc own nm nL ret D dA N0 Y R) (hQ : gRt X D N0 P mc ms) {b : Bool} (hr : ret = some .boolean) (hdg : decode cc pc = .ok (.ireturn, 1)) (hP : P (some (vI (bI b))) h sz) : G X mc ms h sz pc L [vI (bI b)] := by
  obtain ⟨p, l, e, s, m, args, below, meth, c, R', Q, D', N0', nL'⟩ := X
  obtain ⟨⟨rfl, rfl, rfl, rfl⟩, C⟩ := C
  have hQ : Q = _ := hQ
  subst hQ
  exact g0_zret C hr hdg hP
theorem g_vret (C : gC X cc own nm nL ret D dA N0 Y R) (hQ : gRt X D N0 P mc ms) (hr : ret = none) (hdg : decode cc pc = .ok (.return_, 1)) (hP : P none h sz) : G X mc ms h sz pc L [] := by
  obtain ⟨p, l, e, s, m, args, below, meth, c, R', Q, D', N0', nL'⟩ := X
  obtain ⟨⟨rfl, rfl, rfl, rfl⟩, C⟩ := C
  have hQ : Q = _ := hQ
  subst hQ
  exact g0_vret C hr hdg hP
theorem g_aret (C : gC X cc own nm nL ret D dA N0 Y R) (hQ : gRt X D N0 P mc ms) {v : Value} {rt : FieldType} (hr : ret = some rt) (hrt : (∃ n, rt = .object n) ∨ ∃ t, rt = .array t) (hv : gRef v) (hdg : decode cc pc = .ok (.areturn, 1)) (hP : P (some v) h sz) : G X mc ms h sz pc L [v] := by
  obtain ⟨p, l, e, s, m, args, below, meth, c, R', Q, D', N0', nL'⟩ := X
  obtain ⟨⟨rfl, rfl, rfl, rfl⟩, C⟩ := C
  have hQ : Q = _ := hQ
  subst hQ
  exact g0_aret C hr hrt hv hdg hP
theorem g_callV1z (C : gC X cc own nm nL ret D dA N0 Y R) {y : MethodName} {cy : ByteArray} {nLy : Nat} {rty : Option FieldType} {fr lo i : Nat} {v1 : Value} {h1 : gH} {z1 : Nat} {b ci : Nat} {fs As rest st0 : List Value} {Cn : String} {T : u_T} {N : Nat} (hM : gM (gl X) D dA N0 Y y cy nLy rty fr lo 0 0 (.ref b :: As) h sz (gP (some v1) h1 z1)) (hw : GoodIn lw_all (wsV own i Cn y (ws_ y cy nLy rty))) (hd : y.cls = Cn ∧ y.cls ≠ "java/lang/invoke/MethodHandle" ∧ y.cls ≠ "java/lang/invoke/VarHandle" ∧ (parseMethodDescriptor y.desc).map (fun d => d.parameters.length) = some As.length) (hb : h b = some (gO ci fs)) (hc : vwCl[ci]? = some (Cn, T, N)) (hR : fr + 1 ≤ R.frames ∧ 8 + (nLy + 11) + lo ≤ R.locals) (hf : k ≤ R.cells ∧ n ≤ R.slots) (hst : st0 = As.reverse ++ .ref b :: rest) (hcat : (rest.map fun v => v.category).sum ≤ 8) (hdg : decode cc pc = .ok (.invokevirtual i, 3)) (kk : G X k n h1 z1 (pc + 3) L (v1 :: rest)) : G X k n h sz pc L st0 :=
  g_callV C hM hw hd hb hc hR hf hst hcat hdg (fun v h2 z2 hp => by obtain ⟨rfl, rfl, rfl⟩ := hp; exact kk)
theorem g_callV1 (C : gC X cc own nm nL ret D dA N0 Y R) {y : MethodName} {cy : ByteArray} {nLy : Nat} {rty : Option FieldType} {fr lo mc ms i : Nat} {v1 : Value} {h1 : gH} {z1 : Nat} {b ci : Nat} {fs As rest st0 : List Value} {Cn : String} {T : u_T} {N : Nat} (hM : gM (gl X) D dA N0 Y y cy nLy rty fr lo mc ms (.ref b :: As) h sz (gP (some v1) h1 z1)) (hw : GoodIn lw_all (wsV own i Cn y (ws_ y cy nLy rty))) (hd : y.cls = Cn ∧ y.cls ≠ "java/lang/invoke/MethodHandle" ∧ y.cls ≠ "java/lang/invoke/VarHandle" ∧ (parseMethodDescriptor y.desc).map (fun d => d.parameters.length) = some As.length) (hb : h b = some (gO ci fs)) (hc : vwCl[ci]? = some (Cn, T, N)) (hR : fr + 1 ≤ R.frames ∧ 8 + (nLy + 11) + lo ≤ R.locals) (hf : k + mc ≤ R.cells ∧ n + ms ≤ R.slots) (hst : st0 = As.reverse ++ .ref b :: rest) (hcat : (rest.map fun v => v.category).sum ≤ 8) (hdg : decode cc pc = .ok (.invokevirtual i, 3)) (kk : G X (k + mc) (n + ms) h1 z1 (pc + 3) L (v1 :: rest)) : G X k n h sz pc L st0 :=
  g_callV C hM hw hd hb hc hR hf hst hcat hdg (fun v h2 z2 hp => by obtain ⟨rfl, rfl, rfl⟩ := hp; exact kk)
theorem g_callV0z (C : gC X cc own nm nL ret D dA N0 Y R) {y : MethodName} {cy : ByteArray} {nLy : Nat} {rty : Option FieldType} {fr lo i : Nat} {h1 : gH} {z1 : Nat} {b ci : Nat} {fs As rest st0 : List Value} {Cn : String} {T : u_T} {N : Nat} (hM : gM (gl X) D dA N0 Y y cy nLy rty fr lo 0 0 (.ref b :: As) h sz (gP none h1 z1)) (hw : GoodIn lw_all (wsV own i Cn y (ws_ y cy nLy rty))) (hd : y.cls = Cn ∧ y.cls ≠ "java/lang/invoke/MethodHandle" ∧ y.cls ≠ "java/lang/invoke/VarHandle" ∧ (parseMethodDescriptor y.desc).map (fun d => d.parameters.length) = some As.length) (hb : h b = some (gO ci fs)) (hc : vwCl[ci]? = some (Cn, T, N)) (hR : fr + 1 ≤ R.frames ∧ 8 + (nLy + 11) + lo ≤ R.locals) (hf : k ≤ R.cells ∧ n ≤ R.slots) (hst : st0 = As.reverse ++ .ref b :: rest) (hcat : (rest.map fun v => v.category).sum ≤ 8) (hdg : decode cc pc = .ok (.invokevirtual i, 3)) (kk : G X k n h1 z1 (pc + 3) L rest) : G X k n h sz pc L st0 :=
  g_callV C hM hw hd hb hc hR hf hst hcat hdg (fun v h2 z2 hp => by obtain ⟨rfl, rfl, rfl⟩ := hp; exact kk)
theorem g_callV0 (C : gC X cc own nm nL ret D dA N0 Y R) {y : MethodName} {cy : ByteArray} {nLy : Nat} {rty : Option FieldType} {fr lo mc ms i : Nat} {h1 : gH} {z1 : Nat} {b ci : Nat} {fs As rest st0 : List Value} {Cn : String} {T : u_T} {N : Nat} (hM : gM (gl X) D dA N0 Y y cy nLy rty fr lo mc ms (.ref b :: As) h sz (gP none h1 z1)) (hw : GoodIn lw_all (wsV own i Cn y (ws_ y cy nLy rty))) (hd : y.cls = Cn ∧ y.cls ≠ "java/lang/invoke/MethodHandle" ∧ y.cls ≠ "java/lang/invoke/VarHandle" ∧ (parseMethodDescriptor y.desc).map (fun d => d.parameters.length) = some As.length) (hb : h b = some (gO ci fs)) (hc : vwCl[ci]? = some (Cn, T, N)) (hR : fr + 1 ≤ R.frames ∧ 8 + (nLy + 11) + lo ≤ R.locals) (hf : k + mc ≤ R.cells ∧ n + ms ≤ R.slots) (hst : st0 = As.reverse ++ .ref b :: rest) (hcat : (rest.map fun v => v.category).sum ≤ 8) (hdg : decode cc pc = .ok (.invokevirtual i, 3)) (kk : G X (k + mc) (n + ms) h1 z1 (pc + 3) L rest) : G X k n h sz pc L st0 :=
  g_callV C hM hw hd hb hc hR hf hst hcat hdg (fun v h2 z2 hp => by obtain ⟨rfl, rfl, rfl⟩ := hp; exact kk)
theorem g_callS1z (C : gC X cc own nm nL ret D dA N0 Y R) {y : MethodName} {cy : ByteArray} {nLy : Nat} {rty : Option FieldType} {fr lo i : Nat} {v1 : Value} {h1 : gH} {z1 : Nat} {As rest st0 : List Value} (hM : gM (gl X) D dA N0 Y y cy nLy rty fr lo 0 0 As h sz (gP (some v1) h1 z1)) (hw : GoodIn lw_all (va_wsS own i y (ws_ y cy nLy rty))) (hd : y.cls ≠ "java/lang/invoke/MethodHandle" ∧ y.cls ≠ "java/lang/invoke/VarHandle" ∧ (parseMethodDescriptor y.desc).map (fun d => d.parameters.length) = some As.length) (hR : fr + 1 ≤ R.frames ∧ 8 + (nLy + 11) + lo ≤ R.locals) (hf : k ≤ R.cells ∧ n ≤ R.slots) (hst : st0 = As.reverse ++ rest) (hcat : (rest.map fun v => v.category).sum ≤ 8) (hdg : decode cc pc = .ok (.invokestatic i, 3)) (kk : G X k n h1 z1 (pc + 3) L (v1 :: rest)) : G X k n h sz pc L st0 :=
  g_callS C hM hw hd hR hf hst hcat hdg (fun v h2 z2 hp => by obtain ⟨rfl, rfl, rfl⟩ := hp; exact kk)
theorem g_callS1 (C : gC X cc own nm nL ret D dA N0 Y R) {y : MethodName} {cy : ByteArray} {nLy : Nat} {rty : Option FieldType} {fr lo mc ms i : Nat} {v1 : Value} {h1 : gH} {z1 : Nat} {As rest st0 : List Value} (hM : gM (gl X) D dA N0 Y y cy nLy rty fr lo mc ms As h sz (gP (some v1) h1 z1)) (hw : GoodIn lw_all (va_wsS own i y (ws_ y cy nLy rty))) (hd : y.cls ≠ "java/lang/invoke/MethodHandle" ∧ y.cls ≠ "java/lang/invoke/VarHandle" ∧ (parseMethodDescriptor y.desc).map (fun d => d.parameters.length) = some As.length) (hR : fr + 1 ≤ R.frames ∧ 8 + (nLy + 11) + lo ≤ R.locals) (hf : k + mc ≤ R.cells ∧ n + ms ≤ R.slots) (hst : st0 = As.reverse ++ rest) (hcat : (rest.map fun v => v.category).sum ≤ 8) (hdg : decode cc pc = .ok (.invokestatic i, 3)) (kk : G X (k + mc) (n + ms) h1 z1 (pc + 3) L (v1 :: rest)) : G X k n h sz pc L st0 :=
  g_callS C hM hw hd hR hf hst hcat hdg (fun v h2 z2 hp => by obtain ⟨rfl, rfl, rfl⟩ := hp; exact kk)
theorem g_callS0z (C : gC X cc own nm nL ret D dA N0 Y R) {y : MethodName} {cy : ByteArray} {nLy : Nat} {rty : Option FieldType} {fr lo i : Nat} {h1 : gH} {z1 : Nat} {As rest st0 : List Value} (hM : gM (gl X) D dA N0 Y y cy nLy rty fr lo 0 0 As h sz (gP none h1 z1)) (hw : GoodIn lw_all (va_wsS own i y (ws_ y cy nLy rty))) (hd : y.cls ≠ "java/lang/invoke/MethodHandle" ∧ y.cls ≠ "java/lang/invoke/VarHandle" ∧ (parseMethodDescriptor y.desc).map (fun d => d.parameters.length) = some As.length) (hR : fr + 1 ≤ R.frames ∧ 8 + (nLy + 11) + lo ≤ R.locals) (hf : k ≤ R.cells ∧ n ≤ R.slots) (hst : st0 = As.reverse ++ rest) (hcat : (rest.map fun v => v.category).sum ≤ 8) (hdg : decode cc pc = .ok (.invokestatic i, 3)) (kk : G X k n h1 z1 (pc + 3) L rest) : G X k n h sz pc L st0 :=
  g_callS C hM hw hd hR hf hst hcat hdg (fun v h2 z2 hp => by obtain ⟨rfl, rfl, rfl⟩ := hp; exact kk)
theorem g_callS0 (C : gC X cc own nm nL ret D dA N0 Y R) {y : MethodName} {cy : ByteArray} {nLy : Nat} {rty : Option FieldType} {fr lo mc ms i : Nat} {h1 : gH} {z1 : Nat} {As rest st0 : List Value} (hM : gM (gl X) D dA N0 Y y cy nLy rty fr lo mc ms As h sz (gP none h1 z1)) (hw : GoodIn lw_all (va_wsS own i y (ws_ y cy nLy rty))) (hd : y.cls ≠ "java/lang/invoke/MethodHandle" ∧ y.cls ≠ "java/lang/invoke/VarHandle" ∧ (parseMethodDescriptor y.desc).map (fun d => d.parameters.length) = some As.length) (hR : fr + 1 ≤ R.frames ∧ 8 + (nLy + 11) + lo ≤ R.locals) (hf : k + mc ≤ R.cells ∧ n + ms ≤ R.slots) (hst : st0 = As.reverse ++ rest) (hcat : (rest.map fun v => v.category).sum ≤ 8) (hdg : decode cc pc = .ok (.invokestatic i, 3)) (kk : G X (k + mc) (n + ms) h1 z1 (pc + 3) L rest) : G X k n h sz pc L st0 :=
  g_callS C hM hw hd hR hf hst hcat hdg (fun v h2 z2 hp => by obtain ⟨rfl, rfl, rfl⟩ := hp; exact kk)
theorem g_callI0z (C : gC X cc own nm nL ret D dA N0 Y R) {y : MethodName} {cy : ByteArray} {nLy : Nat} {fr lo i : Nat} {h1 : gH} {z1 : Nat} {b : Nat} {As rest st0 : List Value} (hM : gM (gl X) D dA N0 Y y cy nLy none fr lo 0 0 (.ref b :: As) h sz (gP none h1 z1)) (hw : GoodIn lw_all (ws_ y cy nLy none)) (hini : Cond.initialized y.cls ∈ lw_all) (hl : Cond.methodLink own i y ∈ lw_all) (hin : Cond.instanceMethod y ∈ lw_all) (hyn : y.name = "<init>") (hd : y.cls ≠ "java/lang/invoke/MethodHandle" ∧ y.cls ≠ "java/lang/invoke/VarHandle" ∧ (parseMethodDescriptor y.desc).map (fun d => d.parameters.length) = some As.length) (hR : fr + 1 ≤ R.frames ∧ 8 + (nLy + 11) + lo ≤ R.locals) (hf : k ≤ R.cells ∧ n ≤ R.slots) (hst : st0 = As.reverse ++ .ref b :: rest) (hcat : (rest.map fun v => v.category).sum ≤ 8) (hdg : decode cc pc = .ok (.invokespecial i, 3)) (kk : G X k n h1 z1 (pc + 3) L rest) : G X k n h sz pc L st0 :=
  g_callI C hM hw hini hl hin hyn hd hR hf hst hcat hdg (fun v h2 z2 hp => by obtain ⟨rfl, rfl, rfl⟩ := hp; exact kk)
theorem g_callI0 (C : gC X cc own nm nL ret D dA N0 Y R) {y : MethodName} {cy : ByteArray} {nLy : Nat} {fr lo mc ms i : Nat} {h1 : gH} {z1 : Nat} {b : Nat} {As rest st0 : List Value} (hM : gM (gl X) D dA N0 Y y cy nLy none fr lo mc ms (.ref b :: As) h sz (gP none h1 z1)) (hw : GoodIn lw_all (ws_ y cy nLy none)) (hini : Cond.initialized y.cls ∈ lw_all) (hl : Cond.methodLink own i y ∈ lw_all) (hin : Cond.instanceMethod y ∈ lw_all) (hyn : y.name = "<init>") (hd : y.cls ≠ "java/lang/invoke/MethodHandle" ∧ y.cls ≠ "java/lang/invoke/VarHandle" ∧ (parseMethodDescriptor y.desc).map (fun d => d.parameters.length) = some As.length) (hR : fr + 1 ≤ R.frames ∧ 8 + (nLy + 11) + lo ≤ R.locals) (hf : k + mc ≤ R.cells ∧ n + ms ≤ R.slots) (hst : st0 = As.reverse ++ .ref b :: rest) (hcat : (rest.map fun v => v.category).sum ≤ 8) (hdg : decode cc pc = .ok (.invokespecial i, 3)) (kk : G X (k + mc) (n + ms) h1 z1 (pc + 3) L rest) : G X k n h sz pc L st0 :=
  g_callI C hM hw hini hl hin hyn hd hR hf hst hcat hdg (fun v h2 z2 hp => by obtain ⟨rfl, rfl, rfl⟩ := hp; exact kk)
theorem g_callSN1z (C : gC X cc own nm nL ret D dA N0 Y R) {y : MethodName} {cy : ByteArray} {nLy : Nat} {rty : Option FieldType} {fr lo i : Nat} {v1 : Value} {h1 : gH} {z1 : Nat} {host : String} {As rest st0 : List Value} (hM : gM (gl X) D dA N0 Y y cy nLy rty fr lo 0 0 As h sz (gP (some v1) h1 z1)) (hw : GoodIn lw_all (ws_ y cy nLy rty)) (hl : va_Nw (.methodLinkNest own i y host) (gs X)) (hstat : Cond.static y ∈ lw_all) (hini : Cond.initialized y.cls ∈ lw_all) (hd : y.cls ≠ "java/lang/invoke/MethodHandle" ∧ y.cls ≠ "java/lang/invoke/VarHandle" ∧ (parseMethodDescriptor y.desc).map (fun d => d.parameters.length) = some As.length) (hR : fr + 1 ≤ R.frames ∧ 8 + (nLy + 11) + lo ≤ R.locals) (hf : k ≤ R.cells ∧ n ≤ R.slots) (hst : st0 = As.reverse ++ rest) (hcat : (rest.map fun v => v.category).sum ≤ 8) (hdg : decode cc pc = .ok (.invokestatic i, 3)) (kk : G X k n h1 z1 (pc + 3) L (v1 :: rest)) : G X k n h sz pc L st0 :=
  g_callSN C hM hw hl hstat hini hd hR hf hst hcat hdg (fun v h2 z2 hp => by obtain ⟨rfl, rfl, rfl⟩ := hp; exact kk)
theorem g_callSN1 (C : gC X cc own nm nL ret D dA N0 Y R) {y : MethodName} {cy : ByteArray} {nLy : Nat} {rty : Option FieldType} {fr lo mc ms i : Nat} {v1 : Value} {h1 : gH} {z1 : Nat} {host : String} {As rest st0 : List Value} (hM : gM (gl X) D dA N0 Y y cy nLy rty fr lo mc ms As h sz (gP (some v1) h1 z1)) (hw : GoodIn lw_all (ws_ y cy nLy rty)) (hl : va_Nw (.methodLinkNest own i y host) (gs X)) (hstat : Cond.static y ∈ lw_all) (hini : Cond.initialized y.cls ∈ lw_all) (hd : y.cls ≠ "java/lang/invoke/MethodHandle" ∧ y.cls ≠ "java/lang/invoke/VarHandle" ∧ (parseMethodDescriptor y.desc).map (fun d => d.parameters.length) = some As.length) (hR : fr + 1 ≤ R.frames ∧ 8 + (nLy + 11) + lo ≤ R.locals) (hf : k + mc ≤ R.cells ∧ n + ms ≤ R.slots) (hst : st0 = As.reverse ++ rest) (hcat : (rest.map fun v => v.category).sum ≤ 8) (hdg : decode cc pc = .ok (.invokestatic i, 3)) (kk : G X (k + mc) (n + ms) h1 z1 (pc + 3) L (v1 :: rest)) : G X k n h sz pc L st0 :=
  g_callSN C hM hw hl hstat hini hd hR hf hst hcat hdg (fun v h2 z2 hp => by obtain ⟨rfl, rfl, rfl⟩ := hp; exact kk)
theorem g_callSN0z (C : gC X cc own nm nL ret D dA N0 Y R) {y : MethodName} {cy : ByteArray} {nLy : Nat} {rty : Option FieldType} {fr lo i : Nat} {h1 : gH} {z1 : Nat} {host : String} {As rest st0 : List Value} (hM : gM (gl X) D dA N0 Y y cy nLy rty fr lo 0 0 As h sz (gP none h1 z1)) (hw : GoodIn lw_all (ws_ y cy nLy rty)) (hl : va_Nw (.methodLinkNest own i y host) (gs X)) (hstat : Cond.static y ∈ lw_all) (hini : Cond.initialized y.cls ∈ lw_all) (hd : y.cls ≠ "java/lang/invoke/MethodHandle" ∧ y.cls ≠ "java/lang/invoke/VarHandle" ∧ (parseMethodDescriptor y.desc).map (fun d => d.parameters.length) = some As.length) (hR : fr + 1 ≤ R.frames ∧ 8 + (nLy + 11) + lo ≤ R.locals) (hf : k ≤ R.cells ∧ n ≤ R.slots) (hst : st0 = As.reverse ++ rest) (hcat : (rest.map fun v => v.category).sum ≤ 8) (hdg : decode cc pc = .ok (.invokestatic i, 3)) (kk : G X k n h1 z1 (pc + 3) L rest) : G X k n h sz pc L st0 :=
  g_callSN C hM hw hl hstat hini hd hR hf hst hcat hdg (fun v h2 z2 hp => by obtain ⟨rfl, rfl, rfl⟩ := hp; exact kk)
theorem g_callSN0 (C : gC X cc own nm nL ret D dA N0 Y R) {y : MethodName} {cy : ByteArray} {nLy : Nat} {rty : Option FieldType} {fr lo mc ms i : Nat} {h1 : gH} {z1 : Nat} {host : String} {As rest st0 : List Value} (hM : gM (gl X) D dA N0 Y y cy nLy rty fr lo mc ms As h sz (gP none h1 z1)) (hw : GoodIn lw_all (ws_ y cy nLy rty)) (hl : va_Nw (.methodLinkNest own i y host) (gs X)) (hstat : Cond.static y ∈ lw_all) (hini : Cond.initialized y.cls ∈ lw_all) (hd : y.cls ≠ "java/lang/invoke/MethodHandle" ∧ y.cls ≠ "java/lang/invoke/VarHandle" ∧ (parseMethodDescriptor y.desc).map (fun d => d.parameters.length) = some As.length) (hR : fr + 1 ≤ R.frames ∧ 8 + (nLy + 11) + lo ≤ R.locals) (hf : k + mc ≤ R.cells ∧ n + ms ≤ R.slots) (hst : st0 = As.reverse ++ rest) (hcat : (rest.map fun v => v.category).sum ≤ 8) (hdg : decode cc pc = .ok (.invokestatic i, 3)) (kk : G X (k + mc) (n + ms) h1 z1 (pc + 3) L rest) : G X k n h sz pc L st0 :=
  g_callSN C hM hw hl hstat hini hd hR hf hst hcat hdg (fun v h2 z2 hp => by obtain ⟨rfl, rfl, rfl⟩ := hp; exact kk)
theorem g_callIN0z (C : gC X cc own nm nL ret D dA N0 Y R) {y : MethodName} {cy : ByteArray} {nLy : Nat} {fr lo i : Nat} {h1 : gH} {z1 : Nat} {host : String} {b : Nat} {As rest st0 : List Value} (hM : gM (gl X) D dA N0 Y y cy nLy none fr lo 0 0 (.ref b :: As) h sz (gP none h1 z1)) (hw : GoodIn lw_all (ws_ y cy nLy none)) (hl : va_Nw (.methodLinkNest own i y host) (gs X)) (hini : Cond.initialized y.cls ∈ lw_all) (hin : Cond.instanceMethod y ∈ lw_all) (hyn : y.name = "<init>") (hd : y.cls ≠ "java/lang/invoke/MethodHandle" ∧ y.cls ≠ "java/lang/invoke/VarHandle" ∧ (parseMethodDescriptor y.desc).map (fun d => d.parameters.length) = some As.length) (hR : fr + 1 ≤ R.frames ∧ 8 + (nLy + 11) + lo ≤ R.locals) (hf : k ≤ R.cells ∧ n ≤ R.slots) (hst : st0 = As.reverse ++ .ref b :: rest) (hcat : (rest.map fun v => v.category).sum ≤ 8) (hdg : decode cc pc = .ok (.invokespecial i, 3)) (kk : G X k n h1 z1 (pc + 3) L rest) : G X k n h sz pc L st0 :=
  g_callIN C hM hw hl hini hin hyn hd hR hf hst hcat hdg (fun v h2 z2 hp => by obtain ⟨rfl, rfl, rfl⟩ := hp; exact kk)
theorem g_callIN0 (C : gC X cc own nm nL ret D dA N0 Y R) {y : MethodName} {cy : ByteArray} {nLy : Nat} {fr lo mc ms i : Nat} {h1 : gH} {z1 : Nat} {host : String} {b : Nat} {As rest st0 : List Value} (hM : gM (gl X) D dA N0 Y y cy nLy none fr lo mc ms (.ref b :: As) h sz (gP none h1 z1)) (hw : GoodIn lw_all (ws_ y cy nLy none)) (hl : va_Nw (.methodLinkNest own i y host) (gs X)) (hini : Cond.initialized y.cls ∈ lw_all) (hin : Cond.instanceMethod y ∈ lw_all) (hyn : y.name = "<init>") (hd : y.cls ≠ "java/lang/invoke/MethodHandle" ∧ y.cls ≠ "java/lang/invoke/VarHandle" ∧ (parseMethodDescriptor y.desc).map (fun d => d.parameters.length) = some As.length) (hR : fr + 1 ≤ R.frames ∧ 8 + (nLy + 11) + lo ≤ R.locals) (hf : k + mc ≤ R.cells ∧ n + ms ≤ R.slots) (hst : st0 = As.reverse ++ .ref b :: rest) (hcat : (rest.map fun v => v.category).sum ≤ 8) (hdg : decode cc pc = .ok (.invokespecial i, 3)) (kk : G X (k + mc) (n + ms) h1 z1 (pc + 3) L rest) : G X k n h sz pc L st0 :=
  g_callIN C hM hw hl hini hin hyn hd hR hf hst hcat hdg (fun v h2 z2 hp => by obtain ⟨rfl, rfl, rfl⟩ := hp; exact kk)
/-! longs, as far as they are needed -/
def vL (z : Int) : Value := .long (Int64.ofInt z)
def cmpI (a b : Int) : Int := if b < a then 1 else if a = b then 0 else -1
theorem vL_toInt {z : Int} (h : -9223372036854775808 ≤ z ∧ z ≤ 9223372036854775807) : (Int64.ofInt z).toInt = z := by
  rw [Int64.toInt_ofInt]
  unfold Int.bmod
  simp only [Int64.size] at *
  omega
theorem g_i2lz (C : gC X cc own nm nL ret D dA N0 Y R) {a : Int} (hdg : decode cc pc = .ok (.i2l, 1)) (hr : -2147483648 ≤ a ∧ a ≤ 2147483647) (kk : G X k n h sz (pc + 1) L (vL a :: st)) : G X k n h sz pc L (vI a :: st) := by
  refine g_i2l C hdg (g_topv (v' := vL a) ?_ kk)
  have e : (zI a).toInt64 = Int64.ofInt a := by
    apply Int64.toInt_inj.mp
    rw [Int32.toInt_toInt64, zI_toInt hr, vL_toInt (by omega)]
  rw [e]; rfl
theorem g_lconstz (C : gC X cc own nm nL ret D dA N0 Y R) {q : Fin 2} (z : Int) (hz : Int64.ofNat (q : Nat) = Int64.ofInt z) (hdg : decode cc pc = .ok (.lconst q, 1)) (kk : G X k n h sz (pc + 1) L (vL z :: st)) : G X k n h sz pc L st :=
  g_lconst C hdg (g_topv (v' := vL z) (by rw [hz]; rfl) kk)
theorem g_ldc2z (C : gC X cc own nm nL ret D dA N0 Y R) {i : Nat} {v : Int64} (z : Int) (hz : v = Int64.ofInt z) (hc : Cond.constantLong own i v ∈ lw_all) (hdg : decode cc pc = .ok (.ldc2_w i, 3)) (kk : G X k n h sz (pc + 3) L (vL z :: st)) : G X k n h sz pc L st :=
  g_ldc2 C hc hdg (g_topv (v' := vL z) (by rw [hz]; rfl) kk)
theorem g_lload_nz (C : gC X cc own nm nL ret D dA N0 Y R) {i : Fin 4} {z : Int} (hdg : decode cc pc = .ok (.lload_n i, 1)) (hi : L[(i : Nat)]? = some (some (vL z))) (kk : G X k n h sz (pc + 1) L (vL z :: st)) : G X k n h sz pc L st := g_lload_n C hdg hi kk
theorem g_lloadz (C : gC X cc own nm nL ret D dA N0 Y R) {i : Nat} {z : Int} (hdg : decode cc pc = .ok (.lload i, 2)) (hi : L[i]? = some (some (vL z))) (kk : G X k n h sz (pc + 2) L (vL z :: st)) : G X k n h sz pc L st := g_lload C hdg hi kk
theorem g_lcmpz (C : gC X cc own nm nL ret D dA N0 Y R) {a b : Int} (hdg : decode cc pc = .ok (.lcmp, 1)) (hr : (-9223372036854775808 ≤ a ∧ a ≤ 9223372036854775807) ∧ -9223372036854775808 ≤ b ∧ b ≤ 9223372036854775807) (kk : G X k n h sz (pc + 1) L (vI (cmpI a b) :: st)) : G X k n h sz pc L (vL b :: vL a :: st) := by
  refine g_lcmp C hdg (g_topv (v' := vI (cmpI a b)) ?_ kk)
  have h1 : (Int64.ofInt a > Int64.ofInt b) ↔ b < a := by
    show Int64.ofInt b < Int64.ofInt a ↔ _
    rw [Int64.lt_iff_toInt_lt, vL_toInt hr.1, vL_toInt hr.2]
  have h2 : (Int64.ofInt a = Int64.ofInt b) ↔ a = b := by
    rw [← Int64.toInt_inj, vL_toInt hr.1, vL_toInt hr.2]
  unfold lg_cmp cmpI vI
  by_cases q : b < a
  · rw [if_pos (h1.mpr q), if_pos q]; rfl
  · rw [if_neg (fun z => q (h1.mp z)), if_neg q]
    by_cases q2 : a = b
    · rw [if_pos (h2.mpr q2), if_pos q2]; rfl
    · rw [if_neg (fun z => q2 (h2.mp z)), if_neg q2]; rfl
end GX
