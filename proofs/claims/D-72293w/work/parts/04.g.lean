/-! THE LAYER g: whole numbers for ints, a ghost heap, positional locals -/
set_option maxRecDepth 100000
def zI (z : Int) : Int32 := Int32.ofInt z
def vI (z : Int) : Value := .int (zI z)
theorem zI_toInt {z : Int} (h : -2147483648 ≤ z ∧ z ≤ 2147483647) : (zI z).toInt = z := by
  unfold zI
  rw [Int32.toInt_ofInt]
  unfold Int.bmod
  simp only [Int32.size] at *
  omega
theorem zI_of (x : Int32) : zI x.toInt = x := by
  unfold zI
  exact Int32.ofInt_toInt x
theorem zI_rg (x : Int32) : -2147483648 ≤ x.toInt ∧ x.toInt ≤ 2147483647 := by
  have h1 := Int32.le_toInt x
  have h2 := Int32.toInt_lt x
  omega
theorem zI_ex (x : Int32) : ∃ z : Int, x = zI z ∧ -2147483648 ≤ z ∧ z ≤ 2147483647 := ⟨x.toInt, (zI_of x).symm, (zI_rg x).1, (zI_rg x).2⟩
theorem zI_add (a b : Int) : zI a + zI b = zI (a + b) := by unfold zI; exact (Int32.ofInt_add a b).symm
theorem zI_sub (a b : Int) : zI a - zI b = zI (a - b) := by unfold zI; exact (Int32.ofInt_sub a b).symm
theorem zI_mul (a b : Int) : zI a * zI b = zI (a * b) := by unfold zI; exact (Int32.ofInt_mul a b).symm
theorem zI_neg (a : Int) : - zI a = zI (- a) := by unfold zI; exact (Int32.ofInt_neg a).symm
theorem zI_le {a b : Int} (h : (-2147483648 ≤ a ∧ a ≤ 2147483647) ∧ -2147483648 ≤ b ∧ b ≤ 2147483647) : zI a ≤ zI b ↔ a ≤ b := by
  rw [Int32.le_iff_toInt_le, zI_toInt h.1, zI_toInt h.2]
theorem zI_lt {a b : Int} (h : (-2147483648 ≤ a ∧ a ≤ 2147483647) ∧ -2147483648 ≤ b ∧ b ≤ 2147483647) : zI a < zI b ↔ a < b := by
  rw [Int32.lt_iff_toInt_lt, zI_toInt h.1, zI_toInt h.2]
theorem zI_eq {a b : Int} (h : (-2147483648 ≤ a ∧ a ≤ 2147483647) ∧ -2147483648 ≤ b ∧ b ≤ 2147483647) : zI a = zI b ↔ a = b := by
  rw [← Int32.toInt_inj, zI_toInt h.1, zI_toInt h.2]
theorem zI_0 : zI 0 = 0 := by decide +kernel
theorem zI_cl {i : Int} (h : 0 ≤ i ∧ i < 2147483648) : (zI i).toNatClampNeg = i.toNat := by
  show (zI i).toInt.toNat = i.toNat
  rw [zI_toInt (by omega)]
theorem zI_in {i : Int} {n : Nat} (h : 0 ≤ i ∧ i < n) (hn : n < 2147483648) : vp_in (zI i) n := by
  rw [vp_in_iff, zI_toInt (by omega)]
  omega
theorem zI_nneg {i : Int} (h : 0 ≤ i ∧ i < 2147483648) : ¬ zI i < 0 := by
  rw [← zI_0, zI_lt (by omega)]
  omega
theorem zI_nI (n : Nat) : zI (n : Int) = Int32.ofNat n := by
  unfold zI
  exact Int32.ofInt_eq_ofNat
def bI (b : Bool) : Int := if b = true then 1 else 0
theorem bI_t : bI true = 1 := rfl
theorem bI_f : bI false = 0 := rfl
theorem bI_rg (b : Bool) : 0 ≤ bI b ∧ bI b ≤ 1 := by cases b <;> decide
def gInt (v : Value) : Prop := ∃ x : Int32, v = .int x
def gRef (v : Value) : Prop := v = .null ∨ ∃ a : Nat, v = .ref a
theorem gi (z : Int) : gInt (vI z) := ⟨_, rfl⟩
theorem gr (a : Nat) : gRef (.ref a) := Or.inr ⟨a, rfl⟩
theorem grn : gRef .null := Or.inl rfl
theorem grf (o : Option Nat) : gRef (va_rf o) := by
  cases o with
  | none => exact Or.inl rfl
  | some a => exact Or.inr ⟨a, rfl⟩
theorem gInt.cat {v : Value} (h : gInt v) : v.category = 1 := by obtain ⟨x, rfl⟩ := h; rfl
theorem gRef.cat {v : Value} (h : gRef v) : v.category = 1 := by
  rcases h with rfl | ⟨x, rfl⟩ <;> rfl
/-! the ghost heap -/
abbrev gH : Type := Nat → Option va_E
def gup (h : gH) (a : Nat) (e : va_E) : gH := fun q => if q = a then some e else h q
theorem gup_s (h : gH) (a : Nat) (e : va_E) : gup h a e a = some e := by simp [gup]
theorem gup_n (h : gH) {a q : Nat} (e : va_E) (hq : q ≠ a) : gup h a e q = h q := by simp [gup, hq]
def gO (ci : Nat) (fs : List Value) : va_E := .inr (ci, fs)
/-- arrays of ints (bytes, booleans too) and of references, by functions of whole numbers -/
def gI (cA : ClassId) (n : Nat) (F : Int → Int) : va_E := .inl (cA, n, .inl (fun j => zI (F (j : Int))))
def gR (cA : ClassId) (n : Nat) (F : Int → Option Nat) : va_E := .inl (cA, n, .inr (.inr (.inr (.inr (fun j => F (j : Int))))))
def uI {α : Type} (F : Int → α) (i : Int) (v : α) : Int → α := fun j => if j = i then v else F j
theorem uI_s {α : Type} (F : Int → α) (i : Int) (v : α) : uI F i v i = v := by simp [uI]
theorem uI_n {α : Type} (F : Int → α) {i j : Int} (v : α) (h : j ≠ i) : uI F i v j = F j := by simp [uI, h]
abbrev gTys (dA : Nat → ClassId) : List (ClassId × FieldType) := [(dA 0, .int), (dA 1, .byte), (dA 2, .boolean), (dA 3, .object "WeaveDraft$Draft"), (dA 4, .object "WeaveDraft$Draft$End"), (dA 5, .object "WeaveDraft$Draft$Pick"), (dA 6, .object "WeaveDraft$Spool"), (dA 7, .array .int)]
def gHp (D : va_G) (N0 : Nat) (h : gH) (sz : Nat) (H : Heap) : Prop := H.size = sz ∧ ∀ (a : Nat) (e : va_E), h a = some e → N0 ≤ a ∧ va_at D vwCl (a, e) H
def gA (N0 : Nat) : Nat → Prop := fun q => N0 ≤ q
/-- what holds all along: the classes, the first own address, and whatever else is carried (Y) -/
def gK (D : va_G) (dA : Nat → ClassId) (N0 : Nat) (Y : State → Prop) (U : State) : Prop := va_K D vwCl (gTys dA) U ∧ N0 ≤ U.heap.size ∧ Y U
def gYok (N0 : Nat) (Y : State → Prop) : Prop := (∀ s U : State, s.WarmedH U.vm → N0 ≤ s.heap.size → s.heap.size ≤ U.heap.size → (∀ q : Nat, q < N0 → U.heap[q]? = s.heap[q]?) → Y s → Y U) ∧ ∀ (U : State) (g : JFrame) (mk : MethodId) (a : Array Value), Y U → Y (U.calling g mk a)
theorem gK.go {D : va_G} {dA : Nat → ClassId} {N0 : Nat} {Y : State → Prop} (hY : gYok N0 Y) {s U : State} (hW : s.WarmedH U.vm) {locs : List Loc} (hS : va_S (gA N0) s.heap U.heap locs) (h : gK D dA N0 Y s) : gK D dA N0 Y U := by
  obtain ⟨h1, h2, h3⟩ := h
  refine ⟨va_K.moved hW.alike h1, Nat.le_trans h2 hS.1, hY.1 s U hW h2 hS.1 (fun q hq => hS.2.1 q (Nat.lt_of_lt_of_le hq h2) (fun z => ?_)) h3⟩
  have z : N0 ≤ q := z
  omega
theorem gHp.put {D : va_G} {N0 : Nat} {h : gH} {sz : Nat} {H H1 : Heap} {a : Nat} {e0 e : va_E} (hH : gHp D N0 h sz H) (ha : h a = some e0) (he : va_at D vwCl (a, e) H1) (z : H1.size = H.size) (oq : ∀ q : Nat, q ≠ a → H1[q]? = H[q]?) : gHp D N0 (gup h a e) sz H1 := by
  refine ⟨z.trans hH.1, fun b x hb => ?_⟩
  by_cases hba : b = a
  · subst hba
    rw [gup_s] at hb
    cases hb
    exact ⟨(hH.2 b e0 ha).1, he⟩
  · rw [gup_n _ _ hba] at hb
    exact ⟨(hH.2 b x hb).1, (hH.2 b x hb).2.kept (oq b hba)⟩
theorem gHp.push {D : va_G} {N0 : Nat} {h : gH} {sz : Nat} {H H1 : Heap} {e : va_E} (hH : gHp D N0 h sz H) (h0 : N0 ≤ sz) (he : va_at D vwCl (sz, e) H1) (z : H1.size = sz + 1) (oq : ∀ q : Nat, q < sz → H1[q]? = H[q]?) : gHp D N0 (gup h sz e) (sz + 1) H1 := by
  refine ⟨z, fun b x hb => ?_⟩
  by_cases hba : b = sz
  · subst hba
    rw [gup_s] at hb
    cases hb
    exact ⟨h0, he⟩
  · rw [gup_n _ _ hba] at hb
    have hl := (hH.2 b x hb).2.lt
    rw [hH.1] at hl
    exact ⟨(hH.2 b x hb).1, (hH.2 b x hb).2.kept (oq b hl)⟩
theorem gHp.lt {D : va_G} {N0 : Nat} {h : gH} {sz : Nat} {H : Heap} (hH : gHp D N0 h sz H) {a : Nat} {e : va_E} (ha : h a = some e) : a < sz := by
  have hl := (hH.2 a e ha).2.lt
  rwa [hH.1] at hl
theorem gS.push {N0 : Nat} {H0 H H1 : Heap} {locs : List Loc} {sz : Nat} (hS : va_S (gA N0) H0 H locs) (hz : H.size = sz) (z : H1.size = sz + 1) (oq : ∀ q : Nat, q < sz → H1[q]? = H[q]?) : va_S (gA N0) H0 H1 locs := by
  refine ⟨Nat.le_trans hS.1 (by omega), fun q h1 h2 => ?_, hS.2.2⟩
  rw [oq q (by have := hS.1; omega)]
  exact hS.2.1 q h1 h2
/-! locals by their places -/
def gL (ls : Array Slot) (nL : Nat) (L : List (Option Value)) : Prop := ls.size = nL ∧ L.length = nL ∧ lv_wf ls ∧ ∀ (i : Nat) (v : Value), L[i]? = some (some v) → ls[i]? = some (.val v)
def gc1 (x : Option Value) : Bool := match x with
  | some (.long _) => false
  | some (.double _) => false
  | _ => true
theorem gc1_cat {v : Value} (h : gc1 (some v) = true) : v.category = 1 := by
  cases v <;> first | rfl | (simp [gc1] at h)
theorem gL.put {ls : Array Slot} {nL : Nat} {L : List (Option Value)} {i : Nat} {v : Value} (h : gL ls nL L) (hi : i < nL) (hc : v.category = 1) (hp : ∀ x : Option Value, i ≠ 0 → L[i - 1]? = some x → gc1 x = true) :
    ∃ ls', storeLocals ls i v = some ls' ∧ gL ls' nL (L.set i (some v)) := by
  obtain ⟨h1, h2, h3, h4⟩ := h
  have hl : lv_has ls nL ((List.range nL).filterMap (fun j => (L[j]?).join.map (fun w => (j, w)))) := by
    refine ⟨h1, h3, fun q hq => ?_⟩
    obtain ⟨j, -, hj⟩ := List.mem_filterMap.mp hq
    cases hx : L[j]? with
    | none => simp [hx] at hj
    | some x =>
      cases x with
      | none => simp [hx] at hj
      | some w =>
        simp [hx] at hj
        rw [← hj]
        exact h4 j w hx
  obtain ⟨ls', e1, e2, e3, e4⟩ := lv_store1 (v := v) hl hi hc
  refine ⟨ls', e1, e2, by simp [h2], e3, fun j w hj => ?_⟩
  by_cases hji : j = i
  · subst hji
    rw [List.getElem?_set_self (by omega)] at hj
    cases hj
    exact e4 (j, v) List.mem_cons_self
  · rw [List.getElem?_set_ne (Ne.symm hji)] at hj
    refine e4 (j, w) (List.mem_cons_of_mem _ (List.mem_filter.mpr ⟨List.mem_filterMap.mpr ⟨j, ?_, by simp [hj]⟩, ?_⟩))
    · have := (List.getElem?_eq_some_iff.mp hj).1
      exact List.mem_range.mpr (by omega)
    · simp only [Bool.and_eq_true, Bool.not_eq_true', beq_eq_false_iff_ne, ne_eq, Bool.and_eq_false_iff]
      refine ⟨hji, ?_⟩
      by_cases hj1 : j + 1 = i
      · right
        have hc1 := hp (some w) (by omega) (by rw [show i - 1 = j by omega]; exact hj)
        rw [gc1_cat hc1]
        decide
      · left; exact hj1
theorem gL.sub {ls : Array Slot} {nL : Nat} {L L' : List (Option Value)} (h : gL ls nL L) (hl : L'.length = L.length) (hs : ∀ (i : Nat) (v : Value), L'[i]? = some (some v) → L[i]? = some (some v)) : gL ls nL L' :=
  ⟨h.1, hl.trans h.2.1, h.2.2.1, fun i v hv => h.2.2.2 i v (hs i v hv)⟩
/-- L' tells less than L -/
def gle : List (Option Value) → List (Option Value) → Prop
  | [], [] => True
  | none :: a, _ :: b => gle a b
  | some v :: a, x :: b => x = some v ∧ gle a b
  | _, _ => False
theorem gle_len : ∀ (a b : List (Option Value)), gle a b → a.length = b.length
  | [], [], _ => rfl
  | none :: a, _ :: b, h => congrArg (· + 1) (gle_len a b h)
  | some _ :: a, _ :: b, h => congrArg (· + 1) (gle_len a b h.2)
  | [], _ :: _, h => h.elim
  | none :: _, [], h => h.elim
  | some _ :: _, [], h => h.elim
theorem gle_at : ∀ (a b : List (Option Value)), gle a b → ∀ (i : Nat) (v : Value), a[i]? = some (some v) → b[i]? = some (some v)
  | [], [], _, i, v, hi => by simp at hi
  | none :: a, x :: b, h, i, v, hi => by
    cases i with
    | zero => simp at hi
    | succ i => simpa using gle_at a b h i v (by simpa using hi)
  | some u :: a, x :: b, h, i, v, hi => by
    cases i with
    | zero => simp at hi; simp [h.1, hi]
    | succ i => simpa using gle_at a b h.2 i v (by simpa using hi)
  | [], _ :: _, h, _, _, _ => h.elim
  | none :: _, [], h, _, _, _ => h.elim
  | some _ :: _, [], h, _, _, _ => h.elim
/-- the locals at a method's start: args, then nothing -/
def gLa : List Value → List (Option Value)
  | [] => []
  | v :: vs => if v.category = 2 then some v :: none :: gLa vs else some v :: gLa vs
theorem gLa_len (vs : List Value) : (gLa vs).length = (lg_sl vs).length := by
  induction vs with
  | nil => rfl
  | cons v vs ih =>
    show (if v.category = 2 then _ else _ : List (Option Value)).length = (List.flatMap _ (v :: vs)).length
    rw [List.flatMap_cons, List.length_append]
    have ih : (gLa vs).length = (List.flatMap (fun v => if v.category = 2 then [Slot.val v, .second] else [.val v]) vs).length := ih
    by_cases hv : v.category = 2
    · simp only [hv, if_true, List.length_cons, ih, List.length_nil]
      omega
    · simp only [hv, if_false, List.length_cons, ih, List.length_nil]
      omega
theorem gLa_at (vs : List Value) (i : Nat) (v : Value) (h : (gLa vs)[i]? = some (some v)) : (lg_sl vs)[i]? = some (.val v) := by
  induction vs generalizing i with
  | nil => simp [gLa] at h
  | cons w vs ih =>
    have e : lg_sl (w :: vs) = (if w.category = 2 then [Slot.val w, .second] else [.val w]) ++ lg_sl vs := by
      show List.flatMap _ _ = _
      rw [List.flatMap_cons]; rfl
    rw [e]
    unfold gLa at h
    by_cases hw : w.category = 2
    · rw [if_pos hw] at h ⊢
      match i, h with
      | 0, h => simp at h; simp [h]
      | 1, h => simp at h
      | i + 2, h => simpa using ih i (by simpa using h)
    · rw [if_neg hw] at h ⊢
      match i, h with
      | 0, h => simp at h; simp [h]
      | i + 1, h => simpa using ih i (by simpa using h)
theorem gL_entry (vs : List Value) {n : Nat} (h : (gLa vs).length ≤ n) : gL ((lg_sl vs ++ List.replicate (n - (lg_sl vs).length) Slot.unset).toArray) n (gLa vs ++ List.replicate (n - (gLa vs).length) none) := by
  rw [gLa_len] at h
  obtain ⟨h1, h2, -⟩ := lv_entry vs h
  refine ⟨h1, by rw [List.length_append, List.length_replicate, gLa_len]; omega, h2, fun i v hi => ?_⟩
  by_cases hl : i < (gLa vs).length
  · rw [List.getElem?_append_left hl] at hi
    have h3 := gLa_at vs i v hi
    rw [gLa_len] at hl
    rw [List.getElem?_toArray, List.getElem?_append_left hl]
    exact h3
  · rw [List.getElem?_append_right (by omega)] at hi
    have := List.mem_of_getElem? hi
    rw [List.mem_replicate] at this
    cases this.2
/-! the judgement -/
def gC0 (p : Program) (s : State) (m : MethodId) (args : Array Value) (meth : Method) (c : Code) (cc : ByteArray) (own nm : String) (nL : Nat) (ret : Option FieldType) (D : va_G) (dA : Nat → ClassId) (N0 : Nat) (Y : State → Prop) : Prop :=
  p.tables.exec = Jvm.exec ∧ c.code = cc ∧ c.maxLocals = nL ∧ s.vm.findClass own = some m.cls ∧ (∀ w ∈ lw_all, w.before args s = true) ∧ gK D dA N0 Y s ∧ gYok N0 Y ∧ meth.sig.returnType = ret ∧ meth.locks = false ∧ meth.name = nm
def G0 (p : Program) (l : Launch) (e : Env) (R : Room) (s : State) (m : MethodId) (args : Array Value) (below : List Frame) (meth : Method) (c : Code) (D : va_G) (N0 nL : Nat) (Q : State → Prop) (k n : Nat) (h : gH) (sz pc : Nat) (L : List (Option Value)) (st : List Value) : Prop :=
  ∀ (H : Heap) (locs : List Loc) (ls : Array Slot), gHp D N0 h sz H → va_S (gA N0) s.heap H locs → gL ls nL L → W p l e R s m args below meth c H locs k n Q (F0 m pc ls st)
/-- a contract's end: what it answers, the ghost heap then, the size -/
def gQ (D : va_G) (N0 : Nat) (P : Option Value → gH → Nat → Prop) : Array Value → State → Outcome → State → Prop := fun _ st o t => (∃ (v : Option Value) (h : gH) (sz : Nat), o = .returned v ∧ P v h sz ∧ gHp D N0 h sz t.heap) ∧ va_F (gA N0) st t
def gM (l : Launch) (D : va_G) (dA : Nat → ClassId) (N0 : Nat) (Y : State → Prop) (y : MethodName) (cc : ByteArray) (nL : Nat) (ret : Option FieldType) (fr lo mc ms : Nat) (av : List Value) (h : gH) (sz : Nat) (P : Option Value → gH → Nat → Prop) : Prop :=
  Met l y (ws_ y cc nL ret) ({ frames := fr, cells := mc, slots := ms, locals := lo }) (va_Pc av (fun U => gK D dA N0 Y U ∧ gHp D N0 h sz U.heap)) (gQ D N0 P) mc ms (gA N0)
/-- one answer -/
def gP (v : Option Value) (h : gH) (sz : Nat) : Option Value → gH → Nat → Prop := fun v1 h1 z1 => v1 = v ∧ h1 = h ∧ z1 = sz
abbrev gEnd (below : List Frame) (D : va_G) (N0 : Nat) (P : Option Value → gH → Nat → Prop) (args : Array Value) (s : State) (mc ms : Nat) : State → Prop := MQ below (gQ D N0 P) args s mc ms (gA N0)
theorem gBlind {D : va_G} {dA : Nat → ClassId} {N0 : Nat} {Y : State → Prop} (hY : gYok N0 Y) {h : gH} {sz : Nat} {av : List Value} : FrameBlind (va_Pc av (fun U => gK D dA N0 Y U ∧ gHp D N0 h sz U.heap)) := fun a U g mk q => by
  obtain ⟨q0, ⟨qK, qN, qY⟩, qH⟩ := q
  exact ⟨q0, ⟨va_K.moved (u := U) (U := U.calling g mk a) (Vm.Alike.refl U.vm) qK, qN, hY.2 U g mk a qY⟩, qH⟩
/-- a contract out of the walk of its body -/
theorem gM.of0 {l : Launch} {D : va_G} {dA : Nat → ClassId} {N0 : Nat} {Y : State → Prop} {y : MethodName} {cc : ByteArray} {nL : Nat} {ret : Option FieldType} {fr lo mc ms : Nat} {av : List Value} {h : gH} {sz : Nat} {P : Option Value → gH → Nat → Prop} (hY : gYok N0 Y) (hy : plainName y.cls = true) (hlen : (gLa av).length ≤ nL)
    (body : ∀ (p : Program) (e : Env) (s : State) (m : MethodId) (below : List Frame) (meth : Method) (c : Code), gC0 p s m av.toArray meth c cc y.cls y.name nL ret D dA N0 Y →
      G0 p l e ({ frames := fr, cells := mc, slots := ms, locals := lo }) s m av.toArray below meth c D N0 nL (gEnd below D N0 P av.toArray s mc ms) 0 0 h sz 0 (gLa av ++ List.replicate (nL - (gLa av).length) none) []) : gM l D dA N0 Y y cc nL ret fr lo mc ms av h sz P := by
  refine Met.ofW (cc := cc) (maxL := nL) (ret := ret) hy rfl ?_
  intro p e s m args below meth c s₁ B hml hv
  obtain ⟨rfl, hK, hH⟩ := hv
  have hts := atoms_spec (ws := ws_ y cc nL ret) B.pre
  have hts : ∀ w ∈ lw_all, w.before av.toArray s = true := fun w h => hts w (List.mem_cons_of_mem _ h)
  have C : gC0 p s m av.toArray meth c cc y.cls y.name nL ret D dA N0 Y := ⟨B.exec, B.bytes, hml, findClass_of_methodNamed B.named, hts, hK, hY, B.returns, B.notSynchronized, (name_of_methodNamed B.named B.method).1⟩
  rw [lg_entry_eq]
  exact body p e s m below meth c C s.heap [] _ hH va_S.rf (gL_entry av hlen)
section GR
variable {p : Program} {l : Launch} {e : Env} {R : Room} {s : State} {m : MethodId} {args : Array Value} {below : List Frame} {meth : Method} {c : Code} {Q : State → Prop}
variable {cc : ByteArray} {own nm : String} {nL : Nat} {ret : Option FieldType} {D : va_G} {dA : Nat → ClassId} {N0 : Nat} {Y : State → Prop}
variable {k n : Nat} {h : gH} {sz pc : Nat} {L : List (Option Value)} {st : List Value}
theorem g0_sub {L' : List (Option Value)} (hl : gle L' L) (kk : G0 p l e R s m args below meth c D N0 nL Q k n h sz pc L' st) : G0 p l e R s m args below meth c D N0 nL Q k n h sz pc L st :=
  fun H locs ls hH hS hL => kk H locs ls hH hS (hL.sub (gle_len _ _ hl) (gle_at _ _ hl))
theorem g0_heap {h' : gH} (hh : ∀ (a : Nat) (x : va_E), h' a = some x → h a = some x) (kk : G0 p l e R s m args below meth c D N0 nL Q k n h' sz pc L st) : G0 p l e R s m args below meth c D N0 nL Q k n h sz pc L st :=
  fun H locs ls hH hS hL => kk H locs ls ⟨hH.1, fun a x hx => hH.2 a x (hh a x hx)⟩ hS hL
theorem g0_widen {k' n' : Nat} (h1 : k ≤ k') (h2 : n ≤ n') (kk : G0 p l e R s m args below meth c D N0 nL Q k' n' h sz pc L st) : G0 p l e R s m args below meth c D N0 nL Q k n h sz pc L st :=
  fun H locs ls hH hS hL => W.widen h1 h2 (kk H locs ls hH hS hL)
theorem g0_ex {P : Prop} (hP : (∀ (a : Nat) (x : va_E), h a = some x → N0 ≤ a ∧ a < sz) → N0 ≤ sz → P) (C : gC0 p s m args meth c cc own nm nL ret D dA N0 Y) (kk : P → G0 p l e R s m args below meth c D N0 nL Q k n h sz pc L st) : G0 p l e R s m args below meth c D N0 nL Q k n h sz pc L st :=
  fun H locs ls hH hS hL => kk (hP (fun a x hx => ⟨(hH.2 a x hx).1, hH.lt hx⟩) (by rw [← hH.1]; exact Nat.le_trans C.2.2.2.2.2.1.2.1 hS.1)) H locs ls hH hS hL

theorem g0_iconst (C : gC0 p s m args meth c cc own nm nL ret D dA N0 Y) {z : Int} (hdg : decode cc pc = .ok (.iconst z, 1)) (kk : G0 p l e R s m args below meth c D N0 nL Q k n h sz (pc + 1) L (vI z :: st)) : G0 p l e R s m args below meth c D N0 nL Q k n h sz pc L st := fun H locs ls hH hS hL => lv_iconst (v := zI z) C.1 C.2.1 hdg rfl (kk H locs ls hH hS hL)
theorem g0_bipush (C : gC0 p s m args meth c cc own nm nL ret D dA N0 Y) {z : Int} (hdg : decode cc pc = .ok (.bipush z, 2)) (hz : (Int8.ofInt z).toInt32 = zI z) (kk : G0 p l e R s m args below meth c D N0 nL Q k n h sz (pc + 2) L (vI z :: st)) : G0 p l e R s m args below meth c D N0 nL Q k n h sz pc L st := fun H locs ls hH hS hL => lv_bipush (v := zI z) C.1 C.2.1 hdg hz (kk H locs ls hH hS hL)
theorem g0_sipush (C : gC0 p s m args meth c cc own nm nL ret D dA N0 Y) {z : Int} (hdg : decode cc pc = .ok (.sipush z, 3)) (hz : (Int16.ofInt z).toInt32 = zI z) (kk : G0 p l e R s m args below meth c D N0 nL Q k n h sz (pc + 3) L (vI z :: st)) : G0 p l e R s m args below meth c D N0 nL Q k n h sz pc L st := fun H locs ls hH hS hL => lv_sipush (v := zI z) C.1 C.2.1 hdg hz (kk H locs ls hH hS hL)
theorem g0_lconst (C : gC0 p s m args meth c cc own nm nL ret D dA N0 Y) {q : Fin 2} (hdg : decode cc pc = .ok (.lconst q, 1)) (kk : G0 p l e R s m args below meth c D N0 nL Q k n h sz (pc + 1) L (.long (Int64.ofNat (q : Nat)) :: st)) : G0 p l e R s m args below meth c D N0 nL Q k n h sz pc L st := fun H locs ls hH hS hL => lv_lconst C.1 C.2.1 hdg rfl (kk H locs ls hH hS hL)
theorem g0_ldc2 (C : gC0 p s m args meth c cc own nm nL ret D dA N0 Y) {i : Nat} {v : Int64} (hc : Cond.constantLong own i v ∈ lw_all) (hdg : decode cc pc = .ok (.ldc2_w i, 3)) (kk : G0 p l e R s m args below meth c D N0 nL Q k n h sz (pc + 3) L (.long v :: st)) : G0 p l e R s m args below meth c D N0 nL Q k n h sz pc L st := fun H locs ls hH hS hL => lv_ldc2 C.1 C.2.1 C.2.2.2.1 (C.2.2.2.2.1 _ hc) hdg (kk H locs ls hH hS hL)
theorem g0_ldc (C : gC0 p s m args meth c cc own nm nL ret D dA N0 Y) {i : Nat} {v : Int32} {z : Int} (hc : Cond.constant own i v ∈ lw_all) (hz : v = zI z) (hdg : decode cc pc = .ok (.ldc i, 2)) (kk : G0 p l e R s m args below meth c D N0 nL Q k n h sz (pc + 2) L (vI z :: st)) : G0 p l e R s m args below meth c D N0 nL Q k n h sz pc L st := by
  subst hz
  exact fun H locs ls hH hS hL => lv_ldc C.1 C.2.1 C.2.2.2.1 (C.2.2.2.2.1 _ hc) hdg (kk H locs ls hH hS hL)
theorem g0_ldcw (C : gC0 p s m args meth c cc own nm nL ret D dA N0 Y) {i : Nat} {v : Int32} {z : Int} (hc : Cond.constant own i v ∈ lw_all) (hz : v = zI z) (hdg : decode cc pc = .ok (.ldc_w i, 3)) (kk : G0 p l e R s m args below meth c D N0 nL Q k n h sz (pc + 3) L (vI z :: st)) : G0 p l e R s m args below meth c D N0 nL Q k n h sz pc L st := by
  subst hz
  exact fun H locs ls hH hS hL => lv_ldcw C.1 C.2.1 C.2.2.2.1 (C.2.2.2.2.1 _ hc) hdg (kk H locs ls hH hS hL)
theorem g0_null (C : gC0 p s m args meth c cc own nm nL ret D dA N0 Y) (hdg : decode cc pc = .ok (.aconst_null, 1)) (kk : G0 p l e R s m args below meth c D N0 nL Q k n h sz (pc + 1) L (.null :: st)) : G0 p l e R s m args below meth c D N0 nL Q k n h sz pc L st := fun H locs ls hH hS hL => lv_null C.1 C.2.1 hdg (kk H locs ls hH hS hL)
theorem g0_iload_n (C : gC0 p s m args meth c cc own nm nL ret D dA N0 Y) {i : Fin 4} {v : Value} (hdg : decode cc pc = .ok (.iload_n i, 1)) (hv : gInt v) (hi : L[(i : Nat)]? = some (some v)) (kk : G0 p l e R s m args below meth c D N0 nL Q k n h sz (pc + 1) L (v :: st)) : G0 p l e R s m args below meth c D N0 nL Q k n h sz pc L st := by
  obtain ⟨x, rfl⟩ := hv
  exact fun H locs ls hH hS hL => lv_iload_n C.1 C.2.1 hdg rfl (hL.2.2.2 _ _ hi) (kk H locs ls hH hS hL)
theorem g0_iload (C : gC0 p s m args meth c cc own nm nL ret D dA N0 Y) {i : Nat} {v : Value} (hdg : decode cc pc = .ok (.iload i, 2)) (hv : gInt v) (hi : L[i]? = some (some v)) (kk : G0 p l e R s m args below meth c D N0 nL Q k n h sz (pc + 2) L (v :: st)) : G0 p l e R s m args below meth c D N0 nL Q k n h sz pc L st := by
  obtain ⟨x, rfl⟩ := hv
  exact fun H locs ls hH hS hL => lv_iload C.1 C.2.1 hdg (hL.2.2.2 _ _ hi) (kk H locs ls hH hS hL)
theorem g0_lload_n (C : gC0 p s m args meth c cc own nm nL ret D dA N0 Y) {i : Fin 4} {x : Int64} (hdg : decode cc pc = .ok (.lload_n i, 1)) (hi : L[(i : Nat)]? = some (some (.long x))) (kk : G0 p l e R s m args below meth c D N0 nL Q k n h sz (pc + 1) L (.long x :: st)) : G0 p l e R s m args below meth c D N0 nL Q k n h sz pc L st := fun H locs ls hH hS hL => lv_lload_n C.1 C.2.1 hdg rfl (hL.2.2.2 _ _ hi) (kk H locs ls hH hS hL)
theorem g0_lload (C : gC0 p s m args meth c cc own nm nL ret D dA N0 Y) {i : Nat} {x : Int64} (hdg : decode cc pc = .ok (.lload i, 2)) (hi : L[i]? = some (some (.long x))) (kk : G0 p l e R s m args below meth c D N0 nL Q k n h sz (pc + 2) L (.long x :: st)) : G0 p l e R s m args below meth c D N0 nL Q k n h sz pc L st := fun H locs ls hH hS hL => lv_lload C.1 C.2.1 hdg (hL.2.2.2 _ _ hi) (kk H locs ls hH hS hL)
theorem g0_aload_n (C : gC0 p s m args meth c cc own nm nL ret D dA N0 Y) {i : Fin 4} {v : Value} (hdg : decode cc pc = .ok (.aload_n i, 1)) (hv : gRef v) (hi : L[(i : Nat)]? = some (some v)) (kk : G0 p l e R s m args below meth c D N0 nL Q k n h sz (pc + 1) L (v :: st)) : G0 p l e R s m args below meth c D N0 nL Q k n h sz pc L st := by
  rcases hv with rfl | ⟨x, rfl⟩
  · exact fun H locs ls hH hS hL => lv_aload_nN C.1 C.2.1 hdg rfl (hL.2.2.2 _ _ hi) (kk H locs ls hH hS hL)
  · exact fun H locs ls hH hS hL => lv_aload_n C.1 C.2.1 hdg rfl (hL.2.2.2 _ _ hi) (kk H locs ls hH hS hL)
theorem g0_aload (C : gC0 p s m args meth c cc own nm nL ret D dA N0 Y) {i : Nat} {v : Value} (hdg : decode cc pc = .ok (.aload i, 2)) (hv : gRef v) (hi : L[i]? = some (some v)) (kk : G0 p l e R s m args below meth c D N0 nL Q k n h sz (pc + 2) L (v :: st)) : G0 p l e R s m args below meth c D N0 nL Q k n h sz pc L st := by
  rcases hv with rfl | ⟨x, rfl⟩
  · exact fun H locs ls hH hS hL => lv_aloadN C.1 C.2.1 hdg (hL.2.2.2 _ _ hi) (kk H locs ls hH hS hL)
  · exact fun H locs ls hH hS hL => lv_aload C.1 C.2.1 hdg (hL.2.2.2 _ _ hi) (kk H locs ls hH hS hL)
theorem g0_stcore  {i len : Nat} {v : Value} (hi : i < L.length) (hc : v.category = 1) (hp : ∀ x : Option Value, i ≠ 0 → L[i - 1]? = some x → gc1 x = true)
    (hs : ∀ (H : Heap) (locs : List Loc) (ls ls' : Array Slot), gL ls nL L → storeLocals ls i v = some ls' → W p l e R s m args below meth c H locs k n Q (F0 m (pc + len) ls' st) → W p l e R s m args below meth c H locs k n Q (F0 m pc ls (v :: st)))
    (kk : G0 p l e R s m args below meth c D N0 nL Q k n h sz (pc + len) (L.set i (some v)) st) : G0 p l e R s m args below meth c D N0 nL Q k n h sz pc L (v :: st) := by
  intro H locs ls hH hS hL
  obtain ⟨ls', e1, h'⟩ := hL.put (i := i) (v := v) (by rw [← hL.2.1]; exact hi) hc hp
  exact hs H locs ls ls' hL e1 (kk H locs ls' hH hS h')
theorem g0_istore_n0 (C : gC0 p s m args meth c cc own nm nL ret D dA N0 Y) {v : Value} (q : Fin 4) (hdg : decode cc pc = .ok (.istore_n q, 1)) (hv : gInt v) (hi : (q : Nat) < L.length) (hp : ∀ x : Option Value, (q : Nat) ≠ 0 → L[(q : Nat) - 1]? = some x → gc1 x = true) (kk : G0 p l e R s m args below meth c D N0 nL Q k n h sz (pc + 1) (L.set (q : Nat) (some v)) st) : G0 p l e R s m args below meth c D N0 nL Q k n h sz pc L (v :: st) := by
  have hcat := hv.cat
  refine g0_stcore (i := (q : Nat)) (len := 1) hi hcat hp (fun H locs ls ls' hL e' kk T hT X => ?_) kk
  obtain ⟨t, a, b⟩ := kk T hT X
  refine ⟨t, ?_, b⟩
  have hx := C.1
  have hb := C.2.1
  obtain ⟨x, rfl⟩ := hv
  jvm_step X.here [X.here.top, ↓top_set X.here.top, hx, hb, hdg, e']
  exact a
theorem g0_istore0 (C : gC0 p s m args meth c cc own nm nL ret D dA N0 Y) {v : Value} (q : Nat) (hdg : decode cc pc = .ok (.istore q, 2)) (hv : gInt v) (hi : (q : Nat) < L.length) (hp : ∀ x : Option Value, (q : Nat) ≠ 0 → L[(q : Nat) - 1]? = some x → gc1 x = true) (kk : G0 p l e R s m args below meth c D N0 nL Q k n h sz (pc + 2) (L.set (q : Nat) (some v)) st) : G0 p l e R s m args below meth c D N0 nL Q k n h sz pc L (v :: st) := by
  have hcat := hv.cat
  refine g0_stcore (i := (q : Nat)) (len := 2) hi hcat hp (fun H locs ls ls' hL e' kk T hT X => ?_) kk
  obtain ⟨t, a, b⟩ := kk T hT X
  refine ⟨t, ?_, b⟩
  have hx := C.1
  have hb := C.2.1
  obtain ⟨x, rfl⟩ := hv
  jvm_step X.here [X.here.top, ↓top_set X.here.top, hx, hb, hdg, e']
  exact a
theorem g0_astore_n0 (C : gC0 p s m args meth c cc own nm nL ret D dA N0 Y) {v : Value} (q : Fin 4) (hdg : decode cc pc = .ok (.astore_n q, 1)) (hv : gRef v) (hi : (q : Nat) < L.length) (hp : ∀ x : Option Value, (q : Nat) ≠ 0 → L[(q : Nat) - 1]? = some x → gc1 x = true) (kk : G0 p l e R s m args below meth c D N0 nL Q k n h sz (pc + 1) (L.set (q : Nat) (some v)) st) : G0 p l e R s m args below meth c D N0 nL Q k n h sz pc L (v :: st) := by
  have hcat := hv.cat
  refine g0_stcore (i := (q : Nat)) (len := 1) hi hcat hp (fun H locs ls ls' hL e' kk T hT X => ?_) kk
  obtain ⟨t, a, b⟩ := kk T hT X
  refine ⟨t, ?_, b⟩
  have hx := C.1
  have hb := C.2.1
  rcases hv with rfl | ⟨x, rfl⟩ <;>
  · jvm_step X.here [X.here.top, ↓top_set X.here.top, hx, hb, hdg, e']
    exact ⟨rfl, a⟩
theorem g0_astore0 (C : gC0 p s m args meth c cc own nm nL ret D dA N0 Y) {v : Value} (q : Nat) (hdg : decode cc pc = .ok (.astore q, 2)) (hv : gRef v) (hi : (q : Nat) < L.length) (hp : ∀ x : Option Value, (q : Nat) ≠ 0 → L[(q : Nat) - 1]? = some x → gc1 x = true) (kk : G0 p l e R s m args below meth c D N0 nL Q k n h sz (pc + 2) (L.set (q : Nat) (some v)) st) : G0 p l e R s m args below meth c D N0 nL Q k n h sz pc L (v :: st) := by
  have hcat := hv.cat
  refine g0_stcore (i := (q : Nat)) (len := 2) hi hcat hp (fun H locs ls ls' hL e' kk T hT X => ?_) kk
  obtain ⟨t, a, b⟩ := kk T hT X
  refine ⟨t, ?_, b⟩
  have hx := C.1
  have hb := C.2.1
  rcases hv with rfl | ⟨x, rfl⟩ <;>
  · jvm_step X.here [X.here.top, ↓top_set X.here.top, hx, hb, hdg, e']
    exact ⟨rfl, a⟩
theorem g0_istore_n1000 {x0 : Option Value} (C : gC0 p s m args meth c cc own nm nL ret D dA N0 Y) {v : Value} (hdg : decode cc pc = .ok (.istore_n 0, 1)) (hv : gInt v) (kk : G0 p l e R s m args below meth c D N0 nL Q k n h sz (pc + 1) (some v :: L) st) : G0 p l e R s m args below meth c D N0 nL Q k n h sz pc (x0 :: L) (v :: st) :=
  g0_istore_n0 C (0 : Fin 4) hdg hv (by show (0 : Nat) < _; simp only [List.length_cons]; omega) (fun x h0 hx => absurd rfl h0) kk
theorem g0_istore_n1001 {x0 x1 : Option Value} (C : gC0 p s m args meth c cc own nm nL ret D dA N0 Y) {v : Value} (hdg : decode cc pc = .ok (.istore_n 1, 1)) (hv : gInt v) (hp : gc1 x0 = true) (kk : G0 p l e R s m args below meth c D N0 nL Q k n h sz (pc + 1) (x0 :: some v :: L) st) : G0 p l e R s m args below meth c D N0 nL Q k n h sz pc (x0 :: x1 :: L) (v :: st) :=
  g0_istore_n0 C (1 : Fin 4) hdg hv (by show (1 : Nat) < _; simp only [List.length_cons]; omega) (fun x h0 hx => by cases (show some x0 = some x from hx); exact hp) kk
theorem g0_istore_n1002 {x0 x1 x2 : Option Value} (C : gC0 p s m args meth c cc own nm nL ret D dA N0 Y) {v : Value} (hdg : decode cc pc = .ok (.istore_n 2, 1)) (hv : gInt v) (hp : gc1 x1 = true) (kk : G0 p l e R s m args below meth c D N0 nL Q k n h sz (pc + 1) (x0 :: x1 :: some v :: L) st) : G0 p l e R s m args below meth c D N0 nL Q k n h sz pc (x0 :: x1 :: x2 :: L) (v :: st) :=
  g0_istore_n0 C (2 : Fin 4) hdg hv (by show (2 : Nat) < _; simp only [List.length_cons]; omega) (fun x h0 hx => by cases (show some x1 = some x from hx); exact hp) kk
theorem g0_istore_n1003 {x0 x1 x2 x3 : Option Value} (C : gC0 p s m args meth c cc own nm nL ret D dA N0 Y) {v : Value} (hdg : decode cc pc = .ok (.istore_n 3, 1)) (hv : gInt v) (hp : gc1 x2 = true) (kk : G0 p l e R s m args below meth c D N0 nL Q k n h sz (pc + 1) (x0 :: x1 :: x2 :: some v :: L) st) : G0 p l e R s m args below meth c D N0 nL Q k n h sz pc (x0 :: x1 :: x2 :: x3 :: L) (v :: st) :=
  g0_istore_n0 C (3 : Fin 4) hdg hv (by show (3 : Nat) < _; simp only [List.length_cons]; omega) (fun x h0 hx => by cases (show some x2 = some x from hx); exact hp) kk
theorem g0_astore_n1000 {x0 : Option Value} (C : gC0 p s m args meth c cc own nm nL ret D dA N0 Y) {v : Value} (hdg : decode cc pc = .ok (.astore_n 0, 1)) (hv : gRef v) (kk : G0 p l e R s m args below meth c D N0 nL Q k n h sz (pc + 1) (some v :: L) st) : G0 p l e R s m args below meth c D N0 nL Q k n h sz pc (x0 :: L) (v :: st) :=
  g0_astore_n0 C (0 : Fin 4) hdg hv (by show (0 : Nat) < _; simp only [List.length_cons]; omega) (fun x h0 hx => absurd rfl h0) kk
theorem g0_astore_n1001 {x0 x1 : Option Value} (C : gC0 p s m args meth c cc own nm nL ret D dA N0 Y) {v : Value} (hdg : decode cc pc = .ok (.astore_n 1, 1)) (hv : gRef v) (hp : gc1 x0 = true) (kk : G0 p l e R s m args below meth c D N0 nL Q k n h sz (pc + 1) (x0 :: some v :: L) st) : G0 p l e R s m args below meth c D N0 nL Q k n h sz pc (x0 :: x1 :: L) (v :: st) :=
  g0_astore_n0 C (1 : Fin 4) hdg hv (by show (1 : Nat) < _; simp only [List.length_cons]; omega) (fun x h0 hx => by cases (show some x0 = some x from hx); exact hp) kk
theorem g0_astore_n1002 {x0 x1 x2 : Option Value} (C : gC0 p s m args meth c cc own nm nL ret D dA N0 Y) {v : Value} (hdg : decode cc pc = .ok (.astore_n 2, 1)) (hv : gRef v) (hp : gc1 x1 = true) (kk : G0 p l e R s m args below meth c D N0 nL Q k n h sz (pc + 1) (x0 :: x1 :: some v :: L) st) : G0 p l e R s m args below meth c D N0 nL Q k n h sz pc (x0 :: x1 :: x2 :: L) (v :: st) :=
  g0_astore_n0 C (2 : Fin 4) hdg hv (by show (2 : Nat) < _; simp only [List.length_cons]; omega) (fun x h0 hx => by cases (show some x1 = some x from hx); exact hp) kk
theorem g0_astore_n1003 {x0 x1 x2 x3 : Option Value} (C : gC0 p s m args meth c cc own nm nL ret D dA N0 Y) {v : Value} (hdg : decode cc pc = .ok (.astore_n 3, 1)) (hv : gRef v) (hp : gc1 x2 = true) (kk : G0 p l e R s m args below meth c D N0 nL Q k n h sz (pc + 1) (x0 :: x1 :: x2 :: some v :: L) st) : G0 p l e R s m args below meth c D N0 nL Q k n h sz pc (x0 :: x1 :: x2 :: x3 :: L) (v :: st) :=
  g0_astore_n0 C (3 : Fin 4) hdg hv (by show (3 : Nat) < _; simp only [List.length_cons]; omega) (fun x h0 hx => by cases (show some x2 = some x from hx); exact hp) kk
theorem g0_istore1004 {x0 x1 x2 x3 x4 : Option Value} (C : gC0 p s m args meth c cc own nm nL ret D dA N0 Y) {v : Value} (hdg : decode cc pc = .ok (.istore 4, 2)) (hv : gInt v) (hp : gc1 x3 = true) (kk : G0 p l e R s m args below meth c D N0 nL Q k n h sz (pc + 2) (x0 :: x1 :: x2 :: x3 :: some v :: L) st) : G0 p l e R s m args below meth c D N0 nL Q k n h sz pc (x0 :: x1 :: x2 :: x3 :: x4 :: L) (v :: st) :=
  g0_istore0 C 4 hdg hv (by show (4 : Nat) < _; simp only [List.length_cons]; omega) (fun x h0 hx => by cases (show some x3 = some x from hx); exact hp) kk
theorem g0_istore1005 {x0 x1 x2 x3 x4 x5 : Option Value} (C : gC0 p s m args meth c cc own nm nL ret D dA N0 Y) {v : Value} (hdg : decode cc pc = .ok (.istore 5, 2)) (hv : gInt v) (hp : gc1 x4 = true) (kk : G0 p l e R s m args below meth c D N0 nL Q k n h sz (pc + 2) (x0 :: x1 :: x2 :: x3 :: x4 :: some v :: L) st) : G0 p l e R s m args below meth c D N0 nL Q k n h sz pc (x0 :: x1 :: x2 :: x3 :: x4 :: x5 :: L) (v :: st) :=
  g0_istore0 C 5 hdg hv (by show (5 : Nat) < _; simp only [List.length_cons]; omega) (fun x h0 hx => by cases (show some x4 = some x from hx); exact hp) kk
theorem g0_istore1006 {x0 x1 x2 x3 x4 x5 x6 : Option Value} (C : gC0 p s m args meth c cc own nm nL ret D dA N0 Y) {v : Value} (hdg : decode cc pc = .ok (.istore 6, 2)) (hv : gInt v) (hp : gc1 x5 = true) (kk : G0 p l e R s m args below meth c D N0 nL Q k n h sz (pc + 2) (x0 :: x1 :: x2 :: x3 :: x4 :: x5 :: some v :: L) st) : G0 p l e R s m args below meth c D N0 nL Q k n h sz pc (x0 :: x1 :: x2 :: x3 :: x4 :: x5 :: x6 :: L) (v :: st) :=
  g0_istore0 C 6 hdg hv (by show (6 : Nat) < _; simp only [List.length_cons]; omega) (fun x h0 hx => by cases (show some x5 = some x from hx); exact hp) kk
theorem g0_istore1007 {x0 x1 x2 x3 x4 x5 x6 x7 : Option Value} (C : gC0 p s m args meth c cc own nm nL ret D dA N0 Y) {v : Value} (hdg : decode cc pc = .ok (.istore 7, 2)) (hv : gInt v) (hp : gc1 x6 = true) (kk : G0 p l e R s m args below meth c D N0 nL Q k n h sz (pc + 2) (x0 :: x1 :: x2 :: x3 :: x4 :: x5 :: x6 :: some v :: L) st) : G0 p l e R s m args below meth c D N0 nL Q k n h sz pc (x0 :: x1 :: x2 :: x3 :: x4 :: x5 :: x6 :: x7 :: L) (v :: st) :=
  g0_istore0 C 7 hdg hv (by show (7 : Nat) < _; simp only [List.length_cons]; omega) (fun x h0 hx => by cases (show some x6 = some x from hx); exact hp) kk
theorem g0_istore1008 {x0 x1 x2 x3 x4 x5 x6 x7 x8 : Option Value} (C : gC0 p s m args meth c cc own nm nL ret D dA N0 Y) {v : Value} (hdg : decode cc pc = .ok (.istore 8, 2)) (hv : gInt v) (hp : gc1 x7 = true) (kk : G0 p l e R s m args below meth c D N0 nL Q k n h sz (pc + 2) (x0 :: x1 :: x2 :: x3 :: x4 :: x5 :: x6 :: x7 :: some v :: L) st) : G0 p l e R s m args below meth c D N0 nL Q k n h sz pc (x0 :: x1 :: x2 :: x3 :: x4 :: x5 :: x6 :: x7 :: x8 :: L) (v :: st) :=
  g0_istore0 C 8 hdg hv (by show (8 : Nat) < _; simp only [List.length_cons]; omega) (fun x h0 hx => by cases (show some x7 = some x from hx); exact hp) kk
theorem g0_istore1009 {x0 x1 x2 x3 x4 x5 x6 x7 x8 x9 : Option Value} (C : gC0 p s m args meth c cc own nm nL ret D dA N0 Y) {v : Value} (hdg : decode cc pc = .ok (.istore 9, 2)) (hv : gInt v) (hp : gc1 x8 = true) (kk : G0 p l e R s m args below meth c D N0 nL Q k n h sz (pc + 2) (x0 :: x1 :: x2 :: x3 :: x4 :: x5 :: x6 :: x7 :: x8 :: some v :: L) st) : G0 p l e R s m args below meth c D N0 nL Q k n h sz pc (x0 :: x1 :: x2 :: x3 :: x4 :: x5 :: x6 :: x7 :: x8 :: x9 :: L) (v :: st) :=
  g0_istore0 C 9 hdg hv (by show (9 : Nat) < _; simp only [List.length_cons]; omega) (fun x h0 hx => by cases (show some x8 = some x from hx); exact hp) kk
theorem g0_istore1010 {x0 x1 x2 x3 x4 x5 x6 x7 x8 x9 x10 : Option Value} (C : gC0 p s m args meth c cc own nm nL ret D dA N0 Y) {v : Value} (hdg : decode cc pc = .ok (.istore 10, 2)) (hv : gInt v) (hp : gc1 x9 = true) (kk : G0 p l e R s m args below meth c D N0 nL Q k n h sz (pc + 2) (x0 :: x1 :: x2 :: x3 :: x4 :: x5 :: x6 :: x7 :: x8 :: x9 :: some v :: L) st) : G0 p l e R s m args below meth c D N0 nL Q k n h sz pc (x0 :: x1 :: x2 :: x3 :: x4 :: x5 :: x6 :: x7 :: x8 :: x9 :: x10 :: L) (v :: st) :=
  g0_istore0 C 10 hdg hv (by show (10 : Nat) < _; simp only [List.length_cons]; omega) (fun x h0 hx => by cases (show some x9 = some x from hx); exact hp) kk
theorem g0_istore1011 {x0 x1 x2 x3 x4 x5 x6 x7 x8 x9 x10 x11 : Option Value} (C : gC0 p s m args meth c cc own nm nL ret D dA N0 Y) {v : Value} (hdg : decode cc pc = .ok (.istore 11, 2)) (hv : gInt v) (hp : gc1 x10 = true) (kk : G0 p l e R s m args below meth c D N0 nL Q k n h sz (pc + 2) (x0 :: x1 :: x2 :: x3 :: x4 :: x5 :: x6 :: x7 :: x8 :: x9 :: x10 :: some v :: L) st) : G0 p l e R s m args below meth c D N0 nL Q k n h sz pc (x0 :: x1 :: x2 :: x3 :: x4 :: x5 :: x6 :: x7 :: x8 :: x9 :: x10 :: x11 :: L) (v :: st) :=
  g0_istore0 C 11 hdg hv (by show (11 : Nat) < _; simp only [List.length_cons]; omega) (fun x h0 hx => by cases (show some x10 = some x from hx); exact hp) kk
theorem g0_astore1004 {x0 x1 x2 x3 x4 : Option Value} (C : gC0 p s m args meth c cc own nm nL ret D dA N0 Y) {v : Value} (hdg : decode cc pc = .ok (.astore 4, 2)) (hv : gRef v) (hp : gc1 x3 = true) (kk : G0 p l e R s m args below meth c D N0 nL Q k n h sz (pc + 2) (x0 :: x1 :: x2 :: x3 :: some v :: L) st) : G0 p l e R s m args below meth c D N0 nL Q k n h sz pc (x0 :: x1 :: x2 :: x3 :: x4 :: L) (v :: st) :=
  g0_astore0 C 4 hdg hv (by show (4 : Nat) < _; simp only [List.length_cons]; omega) (fun x h0 hx => by cases (show some x3 = some x from hx); exact hp) kk
theorem g0_astore1005 {x0 x1 x2 x3 x4 x5 : Option Value} (C : gC0 p s m args meth c cc own nm nL ret D dA N0 Y) {v : Value} (hdg : decode cc pc = .ok (.astore 5, 2)) (hv : gRef v) (hp : gc1 x4 = true) (kk : G0 p l e R s m args below meth c D N0 nL Q k n h sz (pc + 2) (x0 :: x1 :: x2 :: x3 :: x4 :: some v :: L) st) : G0 p l e R s m args below meth c D N0 nL Q k n h sz pc (x0 :: x1 :: x2 :: x3 :: x4 :: x5 :: L) (v :: st) :=
  g0_astore0 C 5 hdg hv (by show (5 : Nat) < _; simp only [List.length_cons]; omega) (fun x h0 hx => by cases (show some x4 = some x from hx); exact hp) kk
theorem g0_astore1006 {x0 x1 x2 x3 x4 x5 x6 : Option Value} (C : gC0 p s m args meth c cc own nm nL ret D dA N0 Y) {v : Value} (hdg : decode cc pc = .ok (.astore 6, 2)) (hv : gRef v) (hp : gc1 x5 = true) (kk : G0 p l e R s m args below meth c D N0 nL Q k n h sz (pc + 2) (x0 :: x1 :: x2 :: x3 :: x4 :: x5 :: some v :: L) st) : G0 p l e R s m args below meth c D N0 nL Q k n h sz pc (x0 :: x1 :: x2 :: x3 :: x4 :: x5 :: x6 :: L) (v :: st) :=
  g0_astore0 C 6 hdg hv (by show (6 : Nat) < _; simp only [List.length_cons]; omega) (fun x h0 hx => by cases (show some x5 = some x from hx); exact hp) kk
theorem g0_astore1007 {x0 x1 x2 x3 x4 x5 x6 x7 : Option Value} (C : gC0 p s m args meth c cc own nm nL ret D dA N0 Y) {v : Value} (hdg : decode cc pc = .ok (.astore 7, 2)) (hv : gRef v) (hp : gc1 x6 = true) (kk : G0 p l e R s m args below meth c D N0 nL Q k n h sz (pc + 2) (x0 :: x1 :: x2 :: x3 :: x4 :: x5 :: x6 :: some v :: L) st) : G0 p l e R s m args below meth c D N0 nL Q k n h sz pc (x0 :: x1 :: x2 :: x3 :: x4 :: x5 :: x6 :: x7 :: L) (v :: st) :=
  g0_astore0 C 7 hdg hv (by show (7 : Nat) < _; simp only [List.length_cons]; omega) (fun x h0 hx => by cases (show some x6 = some x from hx); exact hp) kk
theorem g0_astore1008 {x0 x1 x2 x3 x4 x5 x6 x7 x8 : Option Value} (C : gC0 p s m args meth c cc own nm nL ret D dA N0 Y) {v : Value} (hdg : decode cc pc = .ok (.astore 8, 2)) (hv : gRef v) (hp : gc1 x7 = true) (kk : G0 p l e R s m args below meth c D N0 nL Q k n h sz (pc + 2) (x0 :: x1 :: x2 :: x3 :: x4 :: x5 :: x6 :: x7 :: some v :: L) st) : G0 p l e R s m args below meth c D N0 nL Q k n h sz pc (x0 :: x1 :: x2 :: x3 :: x4 :: x5 :: x6 :: x7 :: x8 :: L) (v :: st) :=
  g0_astore0 C 8 hdg hv (by show (8 : Nat) < _; simp only [List.length_cons]; omega) (fun x h0 hx => by cases (show some x7 = some x from hx); exact hp) kk
theorem g0_astore1009 {x0 x1 x2 x3 x4 x5 x6 x7 x8 x9 : Option Value} (C : gC0 p s m args meth c cc own nm nL ret D dA N0 Y) {v : Value} (hdg : decode cc pc = .ok (.astore 9, 2)) (hv : gRef v) (hp : gc1 x8 = true) (kk : G0 p l e R s m args below meth c D N0 nL Q k n h sz (pc + 2) (x0 :: x1 :: x2 :: x3 :: x4 :: x5 :: x6 :: x7 :: x8 :: some v :: L) st) : G0 p l e R s m args below meth c D N0 nL Q k n h sz pc (x0 :: x1 :: x2 :: x3 :: x4 :: x5 :: x6 :: x7 :: x8 :: x9 :: L) (v :: st) :=
  g0_astore0 C 9 hdg hv (by show (9 : Nat) < _; simp only [List.length_cons]; omega) (fun x h0 hx => by cases (show some x8 = some x from hx); exact hp) kk
theorem g0_astore1010 {x0 x1 x2 x3 x4 x5 x6 x7 x8 x9 x10 : Option Value} (C : gC0 p s m args meth c cc own nm nL ret D dA N0 Y) {v : Value} (hdg : decode cc pc = .ok (.astore 10, 2)) (hv : gRef v) (hp : gc1 x9 = true) (kk : G0 p l e R s m args below meth c D N0 nL Q k n h sz (pc + 2) (x0 :: x1 :: x2 :: x3 :: x4 :: x5 :: x6 :: x7 :: x8 :: x9 :: some v :: L) st) : G0 p l e R s m args below meth c D N0 nL Q k n h sz pc (x0 :: x1 :: x2 :: x3 :: x4 :: x5 :: x6 :: x7 :: x8 :: x9 :: x10 :: L) (v :: st) :=
  g0_astore0 C 10 hdg hv (by show (10 : Nat) < _; simp only [List.length_cons]; omega) (fun x h0 hx => by cases (show some x9 = some x from hx); exact hp) kk
theorem g0_astore1011 {x0 x1 x2 x3 x4 x5 x6 x7 x8 x9 x10 x11 : Option Value} (C : gC0 p s m args meth c cc own nm nL ret D dA N0 Y) {v : Value} (hdg : decode cc pc = .ok (.astore 11, 2)) (hv : gRef v) (hp : gc1 x10 = true) (kk : G0 p l e R s m args below meth c D N0 nL Q k n h sz (pc + 2) (x0 :: x1 :: x2 :: x3 :: x4 :: x5 :: x6 :: x7 :: x8 :: x9 :: x10 :: some v :: L) st) : G0 p l e R s m args below meth c D N0 nL Q k n h sz pc (x0 :: x1 :: x2 :: x3 :: x4 :: x5 :: x6 :: x7 :: x8 :: x9 :: x10 :: x11 :: L) (v :: st) :=
  g0_astore0 C 11 hdg hv (by show (11 : Nat) < _; simp only [List.length_cons]; omega) (fun x h0 hx => by cases (show some x10 = some x from hx); exact hp) kk
theorem g0_iinc0 (C : gC0 p s m args meth c cc own nm nL ret D dA N0 Y) {i : Nat} {a z : Int} (hdg : decode cc pc = .ok (.iinc i z, 3)) (hi : L[i]? = some (some (vI a))) (hp : ∀ x : Option Value, i ≠ 0 → L[i - 1]? = some x → gc1 x = true) (kk : G0 p l e R s m args below meth c D N0 nL Q k n h sz (pc + 3) (L.set i (some (vI (a + z)))) st) : G0 p l e R s m args below meth c D N0 nL Q k n h sz pc L st := by
  intro H locs ls hH hS hL
  have hil : i < L.length := (List.getElem?_eq_some_iff.mp hi).1
  obtain ⟨ls', e', h'⟩ := hL.put (i := i) (v := vI (a + z)) (by rw [← hL.2.1]; exact hil) rfl hp
  have hg := hL.2.2.2 _ _ hi
  have hx := C.1
  have hb := C.2.1
  intro T hT X
  obtain ⟨t, a1, b1⟩ := kk H locs ls' hH hS h' T hT X
  refine ⟨t, ?_, b1⟩
  have hg : ls[i]? = some (.val (.int (zI a))) := hg
  have e' : storeLocals ls i (.int (zI a + Int32.ofInt z)) = some ls' := by rw [← e']; show _ = storeLocals ls i (.int (zI (a + z))); rw [← zI_add]; rfl
  jvm_step X.here [X.here.top, ↓top_set X.here.top, hx, hb, hdg, hg, e']
  exact a1
theorem g0_iinc1000 (C : gC0 p s m args meth c cc own nm nL ret D dA N0 Y) {a z : Int} (hdg : decode cc pc = .ok (.iinc 0 z, 3)) (kk : G0 p l e R s m args below meth c D N0 nL Q k n h sz (pc + 3) (some (vI (a + z)) :: L) st) : G0 p l e R s m args below meth c D N0 nL Q k n h sz pc (some (vI a) :: L) st :=
  g0_iinc0 (i := 0) C hdg (by simp) (fun x h0 hx => absurd rfl h0) kk
theorem g0_iinc1001 {x0 : Option Value} (C : gC0 p s m args meth c cc own nm nL ret D dA N0 Y) {a z : Int} (hdg : decode cc pc = .ok (.iinc 1 z, 3)) (hp : gc1 x0 = true) (kk : G0 p l e R s m args below meth c D N0 nL Q k n h sz (pc + 3) (x0 :: some (vI (a + z)) :: L) st) : G0 p l e R s m args below meth c D N0 nL Q k n h sz pc (x0 :: some (vI a) :: L) st :=
  g0_iinc0 (i := 1) C hdg (by simp) (fun x h0 hx => by cases (show some x0 = some x from hx); exact hp) kk
theorem g0_iinc1002 {x0 x1 : Option Value} (C : gC0 p s m args meth c cc own nm nL ret D dA N0 Y) {a z : Int} (hdg : decode cc pc = .ok (.iinc 2 z, 3)) (hp : gc1 x1 = true) (kk : G0 p l e R s m args below meth c D N0 nL Q k n h sz (pc + 3) (x0 :: x1 :: some (vI (a + z)) :: L) st) : G0 p l e R s m args below meth c D N0 nL Q k n h sz pc (x0 :: x1 :: some (vI a) :: L) st :=
  g0_iinc0 (i := 2) C hdg (by simp) (fun x h0 hx => by cases (show some x1 = some x from hx); exact hp) kk
theorem g0_iinc1003 {x0 x1 x2 : Option Value} (C : gC0 p s m args meth c cc own nm nL ret D dA N0 Y) {a z : Int} (hdg : decode cc pc = .ok (.iinc 3 z, 3)) (hp : gc1 x2 = true) (kk : G0 p l e R s m args below meth c D N0 nL Q k n h sz (pc + 3) (x0 :: x1 :: x2 :: some (vI (a + z)) :: L) st) : G0 p l e R s m args below meth c D N0 nL Q k n h sz pc (x0 :: x1 :: x2 :: some (vI a) :: L) st :=
  g0_iinc0 (i := 3) C hdg (by simp) (fun x h0 hx => by cases (show some x2 = some x from hx); exact hp) kk
theorem g0_iinc1004 {x0 x1 x2 x3 : Option Value} (C : gC0 p s m args meth c cc own nm nL ret D dA N0 Y) {a z : Int} (hdg : decode cc pc = .ok (.iinc 4 z, 3)) (hp : gc1 x3 = true) (kk : G0 p l e R s m args below meth c D N0 nL Q k n h sz (pc + 3) (x0 :: x1 :: x2 :: x3 :: some (vI (a + z)) :: L) st) : G0 p l e R s m args below meth c D N0 nL Q k n h sz pc (x0 :: x1 :: x2 :: x3 :: some (vI a) :: L) st :=
  g0_iinc0 (i := 4) C hdg (by simp) (fun x h0 hx => by cases (show some x3 = some x from hx); exact hp) kk
theorem g0_iinc1005 {x0 x1 x2 x3 x4 : Option Value} (C : gC0 p s m args meth c cc own nm nL ret D dA N0 Y) {a z : Int} (hdg : decode cc pc = .ok (.iinc 5 z, 3)) (hp : gc1 x4 = true) (kk : G0 p l e R s m args below meth c D N0 nL Q k n h sz (pc + 3) (x0 :: x1 :: x2 :: x3 :: x4 :: some (vI (a + z)) :: L) st) : G0 p l e R s m args below meth c D N0 nL Q k n h sz pc (x0 :: x1 :: x2 :: x3 :: x4 :: some (vI a) :: L) st :=
  g0_iinc0 (i := 5) C hdg (by simp) (fun x h0 hx => by cases (show some x4 = some x from hx); exact hp) kk
theorem g0_iinc1006 {x0 x1 x2 x3 x4 x5 : Option Value} (C : gC0 p s m args meth c cc own nm nL ret D dA N0 Y) {a z : Int} (hdg : decode cc pc = .ok (.iinc 6 z, 3)) (hp : gc1 x5 = true) (kk : G0 p l e R s m args below meth c D N0 nL Q k n h sz (pc + 3) (x0 :: x1 :: x2 :: x3 :: x4 :: x5 :: some (vI (a + z)) :: L) st) : G0 p l e R s m args below meth c D N0 nL Q k n h sz pc (x0 :: x1 :: x2 :: x3 :: x4 :: x5 :: some (vI a) :: L) st :=
  g0_iinc0 (i := 6) C hdg (by simp) (fun x h0 hx => by cases (show some x5 = some x from hx); exact hp) kk
theorem g0_iinc1007 {x0 x1 x2 x3 x4 x5 x6 : Option Value} (C : gC0 p s m args meth c cc own nm nL ret D dA N0 Y) {a z : Int} (hdg : decode cc pc = .ok (.iinc 7 z, 3)) (hp : gc1 x6 = true) (kk : G0 p l e R s m args below meth c D N0 nL Q k n h sz (pc + 3) (x0 :: x1 :: x2 :: x3 :: x4 :: x5 :: x6 :: some (vI (a + z)) :: L) st) : G0 p l e R s m args below meth c D N0 nL Q k n h sz pc (x0 :: x1 :: x2 :: x3 :: x4 :: x5 :: x6 :: some (vI a) :: L) st :=
  g0_iinc0 (i := 7) C hdg (by simp) (fun x h0 hx => by cases (show some x6 = some x from hx); exact hp) kk
theorem g0_iinc1008 {x0 x1 x2 x3 x4 x5 x6 x7 : Option Value} (C : gC0 p s m args meth c cc own nm nL ret D dA N0 Y) {a z : Int} (hdg : decode cc pc = .ok (.iinc 8 z, 3)) (hp : gc1 x7 = true) (kk : G0 p l e R s m args below meth c D N0 nL Q k n h sz (pc + 3) (x0 :: x1 :: x2 :: x3 :: x4 :: x5 :: x6 :: x7 :: some (vI (a + z)) :: L) st) : G0 p l e R s m args below meth c D N0 nL Q k n h sz pc (x0 :: x1 :: x2 :: x3 :: x4 :: x5 :: x6 :: x7 :: some (vI a) :: L) st :=
  g0_iinc0 (i := 8) C hdg (by simp) (fun x h0 hx => by cases (show some x7 = some x from hx); exact hp) kk
theorem g0_iinc1009 {x0 x1 x2 x3 x4 x5 x6 x7 x8 : Option Value} (C : gC0 p s m args meth c cc own nm nL ret D dA N0 Y) {a z : Int} (hdg : decode cc pc = .ok (.iinc 9 z, 3)) (hp : gc1 x8 = true) (kk : G0 p l e R s m args below meth c D N0 nL Q k n h sz (pc + 3) (x0 :: x1 :: x2 :: x3 :: x4 :: x5 :: x6 :: x7 :: x8 :: some (vI (a + z)) :: L) st) : G0 p l e R s m args below meth c D N0 nL Q k n h sz pc (x0 :: x1 :: x2 :: x3 :: x4 :: x5 :: x6 :: x7 :: x8 :: some (vI a) :: L) st :=
  g0_iinc0 (i := 9) C hdg (by simp) (fun x h0 hx => by cases (show some x8 = some x from hx); exact hp) kk
theorem g0_iinc1010 {x0 x1 x2 x3 x4 x5 x6 x7 x8 x9 : Option Value} (C : gC0 p s m args meth c cc own nm nL ret D dA N0 Y) {a z : Int} (hdg : decode cc pc = .ok (.iinc 10 z, 3)) (hp : gc1 x9 = true) (kk : G0 p l e R s m args below meth c D N0 nL Q k n h sz (pc + 3) (x0 :: x1 :: x2 :: x3 :: x4 :: x5 :: x6 :: x7 :: x8 :: x9 :: some (vI (a + z)) :: L) st) : G0 p l e R s m args below meth c D N0 nL Q k n h sz pc (x0 :: x1 :: x2 :: x3 :: x4 :: x5 :: x6 :: x7 :: x8 :: x9 :: some (vI a) :: L) st :=
  g0_iinc0 (i := 10) C hdg (by simp) (fun x h0 hx => by cases (show some x9 = some x from hx); exact hp) kk
theorem g0_iinc1011 {x0 x1 x2 x3 x4 x5 x6 x7 x8 x9 x10 : Option Value} (C : gC0 p s m args meth c cc own nm nL ret D dA N0 Y) {a z : Int} (hdg : decode cc pc = .ok (.iinc 11 z, 3)) (hp : gc1 x10 = true) (kk : G0 p l e R s m args below meth c D N0 nL Q k n h sz (pc + 3) (x0 :: x1 :: x2 :: x3 :: x4 :: x5 :: x6 :: x7 :: x8 :: x9 :: x10 :: some (vI (a + z)) :: L) st) : G0 p l e R s m args below meth c D N0 nL Q k n h sz pc (x0 :: x1 :: x2 :: x3 :: x4 :: x5 :: x6 :: x7 :: x8 :: x9 :: x10 :: some (vI a) :: L) st :=
  g0_iinc0 (i := 11) C hdg (by simp) (fun x h0 hx => by cases (show some x10 = some x from hx); exact hp) kk
theorem g0_iadd (C : gC0 p s m args meth c cc own nm nL ret D dA N0 Y) {a b : Int} (hdg : decode cc pc = .ok (.iadd, 1)) (kk : G0 p l e R s m args below meth c D N0 nL Q k n h sz (pc + 1) L (vI (a + b) :: st)) : G0 p l e R s m args below meth c D N0 nL Q k n h sz pc L (vI b :: vI a :: st) := by
  refine fun H locs ls hH hS hL => lv_iadd (x := zI a) (y := zI b) C.1 C.2.1 hdg ?_
  rw [zI_add]
  exact kk H locs ls hH hS hL
theorem g0_isub (C : gC0 p s m args meth c cc own nm nL ret D dA N0 Y) {a b : Int} (hdg : decode cc pc = .ok (.isub, 1)) (kk : G0 p l e R s m args below meth c D N0 nL Q k n h sz (pc + 1) L (vI (a - b) :: st)) : G0 p l e R s m args below meth c D N0 nL Q k n h sz pc L (vI b :: vI a :: st) := by
  refine fun H locs ls hH hS hL => lv_isub (x := zI a) (y := zI b) C.1 C.2.1 hdg ?_
  rw [zI_sub]
  exact kk H locs ls hH hS hL
theorem g0_imul (C : gC0 p s m args meth c cc own nm nL ret D dA N0 Y) {a b : Int} (hdg : decode cc pc = .ok (.imul, 1)) (kk : G0 p l e R s m args below meth c D N0 nL Q k n h sz (pc + 1) L (vI (a * b) :: st)) : G0 p l e R s m args below meth c D N0 nL Q k n h sz pc L (vI b :: vI a :: st) := by
  refine fun H locs ls hH hS hL => lv_imul (x := zI a) (y := zI b) C.1 C.2.1 hdg ?_
  rw [zI_mul]
  exact kk H locs ls hH hS hL
theorem g0_ineg (C : gC0 p s m args meth c cc own nm nL ret D dA N0 Y) {a : Int} (hdg : decode cc pc = .ok (.ineg, 1)) (kk : G0 p l e R s m args below meth c D N0 nL Q k n h sz (pc + 1) L (vI (-a) :: st)) : G0 p l e R s m args below meth c D N0 nL Q k n h sz pc L (vI a :: st) := by
  refine fun H locs ls hH hS hL => lv_ineg (x := zI a) C.1 C.2.1 hdg ?_
  rw [zI_neg]
  exact kk H locs ls hH hS hL
/-- an int by another name -/
theorem g0_top {a b : Int} (hab : a = b) (kk : G0 p l e R s m args below meth c D N0 nL Q k n h sz pc L (vI b :: st)) : G0 p l e R s m args below meth c D N0 nL Q k n h sz pc L (vI a :: st) := by rw [hab]; exact kk
theorem g0_topv {v v' : Value} (hab : v = v') (kk : G0 p l e R s m args below meth c D N0 nL Q k n h sz pc L (v' :: st)) : G0 p l e R s m args below meth c D N0 nL Q k n h sz pc L (v :: st) := by rw [hab]; exact kk
theorem g0_iandX (C : gC0 p s m args meth c cc own nm nL ret D dA N0 Y) {x y : Int32} (hdg : decode cc pc = .ok (.iand, 1)) (kk : G0 p l e R s m args below meth c D N0 nL Q k n h sz (pc + 1) L (.int (x &&& y) :: st)) : G0 p l e R s m args below meth c D N0 nL Q k n h sz pc L (.int y :: .int x :: st) := fun H locs ls hH hS hL => lv_iand C.1 C.2.1 hdg (kk H locs ls hH hS hL)
theorem g0_iand (C : gC0 p s m args meth c cc own nm nL ret D dA N0 Y) {a b r : Int} (hdg : decode cc pc = .ok (.iand, 1)) (hr : zI a &&& zI b = zI r) (kk : G0 p l e R s m args below meth c D N0 nL Q k n h sz (pc + 1) L (vI r :: st)) : G0 p l e R s m args below meth c D N0 nL Q k n h sz pc L (vI b :: vI a :: st) := by
  refine fun H locs ls hH hS hL => lv_iand (x := zI a) (y := zI b) C.1 C.2.1 hdg ?_
  rw [hr]
  exact kk H locs ls hH hS hL
theorem g0_iorX (C : gC0 p s m args meth c cc own nm nL ret D dA N0 Y) {x y : Int32} (hdg : decode cc pc = .ok (.ior, 1)) (kk : G0 p l e R s m args below meth c D N0 nL Q k n h sz (pc + 1) L (.int (x ||| y) :: st)) : G0 p l e R s m args below meth c D N0 nL Q k n h sz pc L (.int y :: .int x :: st) := fun H locs ls hH hS hL => lv_ior C.1 C.2.1 hdg (kk H locs ls hH hS hL)
theorem g0_ior (C : gC0 p s m args meth c cc own nm nL ret D dA N0 Y) {a b r : Int} (hdg : decode cc pc = .ok (.ior, 1)) (hr : zI a ||| zI b = zI r) (kk : G0 p l e R s m args below meth c D N0 nL Q k n h sz (pc + 1) L (vI r :: st)) : G0 p l e R s m args below meth c D N0 nL Q k n h sz pc L (vI b :: vI a :: st) := by
  refine fun H locs ls hH hS hL => lv_ior (x := zI a) (y := zI b) C.1 C.2.1 hdg ?_
  rw [hr]
  exact kk H locs ls hH hS hL
theorem g0_ixorX (C : gC0 p s m args meth c cc own nm nL ret D dA N0 Y) {x y : Int32} (hdg : decode cc pc = .ok (.ixor, 1)) (kk : G0 p l e R s m args below meth c D N0 nL Q k n h sz (pc + 1) L (.int (x ^^^ y) :: st)) : G0 p l e R s m args below meth c D N0 nL Q k n h sz pc L (.int y :: .int x :: st) := fun H locs ls hH hS hL => lv_ixor C.1 C.2.1 hdg (kk H locs ls hH hS hL)
theorem g0_ixor (C : gC0 p s m args meth c cc own nm nL ret D dA N0 Y) {a b r : Int} (hdg : decode cc pc = .ok (.ixor, 1)) (hr : zI a ^^^ zI b = zI r) (kk : G0 p l e R s m args below meth c D N0 nL Q k n h sz (pc + 1) L (vI r :: st)) : G0 p l e R s m args below meth c D N0 nL Q k n h sz pc L (vI b :: vI a :: st) := by
  refine fun H locs ls hH hS hL => lv_ixor (x := zI a) (y := zI b) C.1 C.2.1 hdg ?_
  rw [hr]
  exact kk H locs ls hH hS hL
theorem g0_ishl (C : gC0 p s m args meth c cc own nm nL ret D dA N0 Y) {a b r : Int} (hdg : decode cc pc = .ok (.ishl, 1)) (hr : zI a <<< (zI b &&& 31) = zI r) (kk : G0 p l e R s m args below meth c D N0 nL Q k n h sz (pc + 1) L (vI r :: st)) : G0 p l e R s m args below meth c D N0 nL Q k n h sz pc L (vI b :: vI a :: st) := by
  refine fun H locs ls hH hS hL => lv_ishl (x := zI a) (y := zI b) C.1 C.2.1 hdg ?_
  rw [hr]
  exact kk H locs ls hH hS hL
theorem g0_ishr (C : gC0 p s m args meth c cc own nm nL ret D dA N0 Y) {a b r : Int} (hdg : decode cc pc = .ok (.ishr, 1)) (hr : zI a >>> (zI b &&& 31) = zI r) (kk : G0 p l e R s m args below meth c D N0 nL Q k n h sz (pc + 1) L (vI r :: st)) : G0 p l e R s m args below meth c D N0 nL Q k n h sz pc L (vI b :: vI a :: st) := by
  refine fun H locs ls hH hS hL => lv_ishr (x := zI a) (y := zI b) C.1 C.2.1 hdg ?_
  rw [hr]
  exact kk H locs ls hH hS hL
theorem g0_iushr (C : gC0 p s m args meth c cc own nm nL ret D dA N0 Y) {a b r : Int} (hdg : decode cc pc = .ok (.iushr, 1)) (hr : ((zI a).toUInt32 >>> ((zI b).toUInt32 &&& Int32.toUInt32 31)).toInt32 = zI r) (kk : G0 p l e R s m args below meth c D N0 nL Q k n h sz (pc + 1) L (vI r :: st)) : G0 p l e R s m args below meth c D N0 nL Q k n h sz pc L (vI b :: vI a :: st) := fun H locs ls hH hS hL => lv_iushr (x := zI a) (y := zI b) C.1 C.2.1 hdg hr (kk H locs ls hH hS hL)
theorem zI_div {a b : Int} (ha : 0 ≤ a ∧ a ≤ 2147483647) (hb : 0 < b ∧ b ≤ 2147483647) : zI a / zI b = zI (a / b) := by
  obtain ⟨a', rfl⟩ := Int.eq_ofNat_of_zero_le ha.1
  obtain ⟨b', rfl⟩ := Int.eq_ofNat_of_zero_le (Int.le_of_lt hb.1)
  rw [zI_nI, zI_nI]
  have h := pk_div (a := a') (d := b') (by omega) (by omega) (by omega)
  have e : ((a' : Int) / (b' : Int)) = ((a' / b' : Nat) : Int) := (Int.natCast_ediv a' b').symm
  rw [e, zI_nI]
  exact h
theorem zI_rem {a b : Int} (ha : 0 ≤ a ∧ a ≤ 2147483647) (hb : 0 < b ∧ b ≤ 2147483647) : zI a - zI a / zI b * zI b = zI (a % b) := by
  rw [zI_div ha hb, zI_mul, zI_sub]
  congr 1
  have := Int.emod_def a b
  rw [Int.mul_comm] at this
  exact this.symm
theorem g0_irem (C : gC0 p s m args meth c cc own nm nL ret D dA N0 Y) {a b : Int} (hab : (0 ≤ a ∧ a ≤ 2147483647) ∧ 0 < b ∧ b ≤ 2147483647) (hdg : decode cc pc = .ok (.irem, 1)) (kk : G0 p l e R s m args below meth c D N0 nL Q k n h sz (pc + 1) L (vI (a % b) :: st)) : G0 p l e R s m args below meth c D N0 nL Q k n h sz pc L (vI b :: vI a :: st) := by
  refine fun H locs ls hH hS hL => lv_irem (x := zI a) (y := zI b) C.1 C.2.1 hdg (fun z => ?_) ?_
  · rw [← zI_0, zI_eq (by omega)] at z
    omega
  · rw [zI_rem hab.1 hab.2]
    exact kk H locs ls hH hS hL
theorem g0_idiv (C : gC0 p s m args meth c cc own nm nL ret D dA N0 Y) {a b : Int} (hab : (0 ≤ a ∧ a ≤ 2147483647) ∧ 0 < b ∧ b ≤ 2147483647) (hdg : decode cc pc = .ok (.idiv, 1)) (kk : G0 p l e R s m args below meth c D N0 nL Q k n h sz (pc + 1) L (vI (a / b) :: st)) : G0 p l e R s m args below meth c D N0 nL Q k n h sz pc L (vI b :: vI a :: st) := by
  refine fun H locs ls hH hS hL => lv_idiv (x := zI a) (y := zI b) C.1 C.2.1 hdg (fun z => ?_) ?_
  · rw [← zI_0, zI_eq (by omega)] at z
    omega
  · rw [zI_div hab.1 hab.2]
    exact kk H locs ls hH hS hL
theorem g0_i2l (C : gC0 p s m args meth c cc own nm nL ret D dA N0 Y) {a : Int} (hdg : decode cc pc = .ok (.i2l, 1)) (kk : G0 p l e R s m args below meth c D N0 nL Q k n h sz (pc + 1) L (.long (zI a).toInt64 :: st)) : G0 p l e R s m args below meth c D N0 nL Q k n h sz pc L (vI a :: st) := fun H locs ls hH hS hL => lv_i2l (x := zI a) C.1 C.2.1 hdg rfl (kk H locs ls hH hS hL)
theorem g0_i2b (C : gC0 p s m args meth c cc own nm nL ret D dA N0 Y) {a r : Int} (hdg : decode cc pc = .ok (.i2b, 1)) (hr : (zI a).toInt8.toInt32 = zI r) (kk : G0 p l e R s m args below meth c D N0 nL Q k n h sz (pc + 1) L (vI r :: st)) : G0 p l e R s m args below meth c D N0 nL Q k n h sz pc L (vI a :: st) := fun H locs ls hH hS hL => lv_i2b (x := zI a) C.1 C.2.1 hdg hr (kk H locs ls hH hS hL)
theorem g0_i2c (C : gC0 p s m args meth c cc own nm nL ret D dA N0 Y) {a r : Int} (hdg : decode cc pc = .ok (.i2c, 1)) (hr : ((zI a).toUInt32 % 65536).toInt32 = zI r) (kk : G0 p l e R s m args below meth c D N0 nL Q k n h sz (pc + 1) L (vI r :: st)) : G0 p l e R s m args below meth c D N0 nL Q k n h sz pc L (vI a :: st) := fun H locs ls hH hS hL => lv_i2c (x := zI a) C.1 C.2.1 hdg hr (kk H locs ls hH hS hL)
theorem g0_lcmp (C : gC0 p s m args meth c cc own nm nL ret D dA N0 Y) {x y : Int64} (hdg : decode cc pc = .ok (.lcmp, 1)) (kk : G0 p l e R s m args below meth c D N0 nL Q k n h sz (pc + 1) L (.int (lg_cmp x y) :: st)) : G0 p l e R s m args below meth c D N0 nL Q k n h sz pc L (.long y :: .long x :: st) := fun H locs ls hH hS hL => W.lcmp (x := x) (y := y) C.1 C.2.1 hdg (kk H locs ls hH hS hL)
theorem g0_dup (C : gC0 p s m args meth c cc own nm nL ret D dA N0 Y) {v : Value} (hdg : decode cc pc = .ok (.dup, 1)) (hv : v.category = 1) (kk : G0 p l e R s m args below meth c D N0 nL Q k n h sz (pc + 1) L (v :: v :: st)) : G0 p l e R s m args below meth c D N0 nL Q k n h sz pc L (v :: st) := fun H locs ls hH hS hL => lv_dup C.1 C.2.1 hdg hv (kk H locs ls hH hS hL)
theorem g0_pop (C : gC0 p s m args meth c cc own nm nL ret D dA N0 Y) {v : Value} (hdg : decode cc pc = .ok (.pop, 1)) (hv : v.category = 1) (kk : G0 p l e R s m args below meth c D N0 nL Q k n h sz (pc + 1) L st) : G0 p l e R s m args below meth c D N0 nL Q k n h sz pc L (v :: st) := fun H locs ls hH hS hL => lv_pop C.1 C.2.1 hdg hv (kk H locs ls hH hS hL)
theorem g0_dup_x1 (C : gC0 p s m args meth c cc own nm nL ret D dA N0 Y) {v u : Value} (hdg : decode cc pc = .ok (.dup_x1, 1)) (hv : v.category = 1) (hu : u.category = 1) (kk : G0 p l e R s m args below meth c D N0 nL Q k n h sz (pc + 1) L (v :: u :: v :: st)) : G0 p l e R s m args below meth c D N0 nL Q k n h sz pc L (v :: u :: st) := fun H locs ls hH hS hL => lv_dup_x1 C.1 C.2.1 hdg hv hu (kk H locs ls hH hS hL)
theorem g0_dup2 (C : gC0 p s m args meth c cc own nm nL ret D dA N0 Y) {v u : Value} (hdg : decode cc pc = .ok (.dup2, 1)) (hv : v.category = 1) (hu : u.category = 1) (kk : G0 p l e R s m args below meth c D N0 nL Q k n h sz (pc + 1) L (v :: u :: v :: u :: st)) : G0 p l e R s m args below meth c D N0 nL Q k n h sz pc L (v :: u :: st) := fun H locs ls hH hS hL => lv_dup2_11 C.1 C.2.1 hdg hv hu (kk H locs ls hH hS hL)
theorem g0_icmp_eq (C : gC0 p s m args meth c cc own nm nL ret D dA N0 Y) {a b : Int} {off : Int} {tgt : Nat} (hdg : decode cc pc = .ok (.if_icmp .eq off, 3)) (ht : (pc : Int) + off = (tgt : Int)) (hr : (-2147483648 ≤ a ∧ a ≤ 2147483647) ∧ -2147483648 ≤ b ∧ b ≤ 2147483647) (kt : a = b → G0 p l e R s m args below meth c D N0 nL Q k n h sz tgt L st) (kf : a ≠ b → G0 p l e R s m args below meth c D N0 nL Q k n h sz (pc + 3) L st) : G0 p l e R s m args below meth c D N0 nL Q k n h sz pc L (vI b :: vI a :: st) :=
  fun H locs ls hH hS hL => lv_icmp_eq (x := zI a) (y := zI b) C.1 C.2.1 hdg ht (fun q => kt ((zI_eq hr).mp q) H locs ls hH hS hL) (fun q => kf (fun z => q ((zI_eq hr).mpr z)) H locs ls hH hS hL)
theorem g0_icmp_ne (C : gC0 p s m args meth c cc own nm nL ret D dA N0 Y) {a b : Int} {off : Int} {tgt : Nat} (hdg : decode cc pc = .ok (.if_icmp .ne off, 3)) (ht : (pc : Int) + off = (tgt : Int)) (hr : (-2147483648 ≤ a ∧ a ≤ 2147483647) ∧ -2147483648 ≤ b ∧ b ≤ 2147483647) (kt : a ≠ b → G0 p l e R s m args below meth c D N0 nL Q k n h sz tgt L st) (kf : a = b → G0 p l e R s m args below meth c D N0 nL Q k n h sz (pc + 3) L st) : G0 p l e R s m args below meth c D N0 nL Q k n h sz pc L (vI b :: vI a :: st) :=
  fun H locs ls hH hS hL => lv_icmp_ne (x := zI a) (y := zI b) C.1 C.2.1 hdg ht (fun q => kt (fun z => q ((zI_eq hr).mpr z)) H locs ls hH hS hL) (fun q => kf ((zI_eq hr).mp q) H locs ls hH hS hL)
theorem g0_icmp_lt (C : gC0 p s m args meth c cc own nm nL ret D dA N0 Y) {a b : Int} {off : Int} {tgt : Nat} (hdg : decode cc pc = .ok (.if_icmp .lt off, 3)) (ht : (pc : Int) + off = (tgt : Int)) (hr : (-2147483648 ≤ a ∧ a ≤ 2147483647) ∧ -2147483648 ≤ b ∧ b ≤ 2147483647) (kt : a < b → G0 p l e R s m args below meth c D N0 nL Q k n h sz tgt L st) (kf : b ≤ a → G0 p l e R s m args below meth c D N0 nL Q k n h sz (pc + 3) L st) : G0 p l e R s m args below meth c D N0 nL Q k n h sz pc L (vI b :: vI a :: st) :=
  fun H locs ls hH hS hL => lv_icmp_lt (x := zI a) (y := zI b) C.1 C.2.1 hdg ht (fun q => kt ((zI_lt hr).mp q) H locs ls hH hS hL) (fun q => kf (Int.not_lt.mp (fun z => q ((zI_lt hr).mpr z))) H locs ls hH hS hL)
theorem g0_icmp_ge (C : gC0 p s m args meth c cc own nm nL ret D dA N0 Y) {a b : Int} {off : Int} {tgt : Nat} (hdg : decode cc pc = .ok (.if_icmp .ge off, 3)) (ht : (pc : Int) + off = (tgt : Int)) (hr : (-2147483648 ≤ a ∧ a ≤ 2147483647) ∧ -2147483648 ≤ b ∧ b ≤ 2147483647) (kt : b ≤ a → G0 p l e R s m args below meth c D N0 nL Q k n h sz tgt L st) (kf : a < b → G0 p l e R s m args below meth c D N0 nL Q k n h sz (pc + 3) L st) : G0 p l e R s m args below meth c D N0 nL Q k n h sz pc L (vI b :: vI a :: st) :=
  fun H locs ls hH hS hL => lv_icmp_ge (x := zI a) (y := zI b) C.1 C.2.1 hdg ht (fun q => kt ((zI_le ⟨hr.2, hr.1⟩).mp q) H locs ls hH hS hL) (fun q => kf (Int.not_le.mp (fun z => q ((zI_le ⟨hr.2, hr.1⟩).mpr z))) H locs ls hH hS hL)
theorem g0_icmp_gt (C : gC0 p s m args meth c cc own nm nL ret D dA N0 Y) {a b : Int} {off : Int} {tgt : Nat} (hdg : decode cc pc = .ok (.if_icmp .gt off, 3)) (ht : (pc : Int) + off = (tgt : Int)) (hr : (-2147483648 ≤ a ∧ a ≤ 2147483647) ∧ -2147483648 ≤ b ∧ b ≤ 2147483647) (kt : b < a → G0 p l e R s m args below meth c D N0 nL Q k n h sz tgt L st) (kf : a ≤ b → G0 p l e R s m args below meth c D N0 nL Q k n h sz (pc + 3) L st) : G0 p l e R s m args below meth c D N0 nL Q k n h sz pc L (vI b :: vI a :: st) :=
  fun H locs ls hH hS hL => lv_icmp_gt (x := zI a) (y := zI b) C.1 C.2.1 hdg ht (fun q => kt ((zI_lt ⟨hr.2, hr.1⟩).mp q) H locs ls hH hS hL) (fun q => kf (Int.not_lt.mp (fun z => q ((zI_lt ⟨hr.2, hr.1⟩).mpr z))) H locs ls hH hS hL)
theorem g0_icmp_le (C : gC0 p s m args meth c cc own nm nL ret D dA N0 Y) {a b : Int} {off : Int} {tgt : Nat} (hdg : decode cc pc = .ok (.if_icmp .le off, 3)) (ht : (pc : Int) + off = (tgt : Int)) (hr : (-2147483648 ≤ a ∧ a ≤ 2147483647) ∧ -2147483648 ≤ b ∧ b ≤ 2147483647) (kt : a ≤ b → G0 p l e R s m args below meth c D N0 nL Q k n h sz tgt L st) (kf : b < a → G0 p l e R s m args below meth c D N0 nL Q k n h sz (pc + 3) L st) : G0 p l e R s m args below meth c D N0 nL Q k n h sz pc L (vI b :: vI a :: st) :=
  fun H locs ls hH hS hL => lv_icmp_le (x := zI a) (y := zI b) C.1 C.2.1 hdg ht (fun q => kt ((zI_le hr).mp q) H locs ls hH hS hL) (fun q => kf (Int.not_le.mp (fun z => q ((zI_le hr).mpr z))) H locs ls hH hS hL)
theorem g0_if_eq (C : gC0 p s m args meth c cc own nm nL ret D dA N0 Y) {a : Int} {off : Int} {tgt : Nat} (hdg : decode cc pc = .ok (.ifCond .eq off, 3)) (ht : (pc : Int) + off = (tgt : Int)) (hr : -2147483648 ≤ a ∧ a ≤ 2147483647) (kt : a = 0 → G0 p l e R s m args below meth c D N0 nL Q k n h sz tgt L st) (kf : a ≠ 0 → G0 p l e R s m args below meth c D N0 nL Q k n h sz (pc + 3) L st) : G0 p l e R s m args below meth c D N0 nL Q k n h sz pc L (vI a :: st) := by
  have hr0 : (-2147483648 ≤ a ∧ a ≤ 2147483647) ∧ (-2147483648 : Int) ≤ 0 ∧ (0 : Int) ≤ 2147483647 := ⟨hr, by decide, by decide⟩
  exact fun H locs ls hH hS hL => lv_if_eq (x := zI a) C.1 C.2.1 hdg ht (fun q => by rw [← zI_0] at q; exact kt ((zI_eq hr0).mp q) H locs ls hH hS hL) (fun q => by rw [← zI_0] at q; exact kf (fun z => q ((zI_eq hr0).mpr z)) H locs ls hH hS hL)
theorem g0_if_ne (C : gC0 p s m args meth c cc own nm nL ret D dA N0 Y) {a : Int} {off : Int} {tgt : Nat} (hdg : decode cc pc = .ok (.ifCond .ne off, 3)) (ht : (pc : Int) + off = (tgt : Int)) (hr : -2147483648 ≤ a ∧ a ≤ 2147483647) (kt : a ≠ 0 → G0 p l e R s m args below meth c D N0 nL Q k n h sz tgt L st) (kf : a = 0 → G0 p l e R s m args below meth c D N0 nL Q k n h sz (pc + 3) L st) : G0 p l e R s m args below meth c D N0 nL Q k n h sz pc L (vI a :: st) := by
  have hr0 : (-2147483648 ≤ a ∧ a ≤ 2147483647) ∧ (-2147483648 : Int) ≤ 0 ∧ (0 : Int) ≤ 2147483647 := ⟨hr, by decide, by decide⟩
  exact fun H locs ls hH hS hL => lv_if_ne (x := zI a) C.1 C.2.1 hdg ht (fun q => by rw [← zI_0] at q; exact kt (fun z => q ((zI_eq hr0).mpr z)) H locs ls hH hS hL) (fun q => by rw [← zI_0] at q; exact kf ((zI_eq hr0).mp q) H locs ls hH hS hL)
theorem g0_if_lt (C : gC0 p s m args meth c cc own nm nL ret D dA N0 Y) {a : Int} {off : Int} {tgt : Nat} (hdg : decode cc pc = .ok (.ifCond .lt off, 3)) (ht : (pc : Int) + off = (tgt : Int)) (hr : -2147483648 ≤ a ∧ a ≤ 2147483647) (kt : a < 0 → G0 p l e R s m args below meth c D N0 nL Q k n h sz tgt L st) (kf : 0 ≤ a → G0 p l e R s m args below meth c D N0 nL Q k n h sz (pc + 3) L st) : G0 p l e R s m args below meth c D N0 nL Q k n h sz pc L (vI a :: st) := by
  have hr0 : (-2147483648 ≤ a ∧ a ≤ 2147483647) ∧ (-2147483648 : Int) ≤ 0 ∧ (0 : Int) ≤ 2147483647 := ⟨hr, by decide, by decide⟩
  exact fun H locs ls hH hS hL => lv_if_lt (x := zI a) C.1 C.2.1 hdg ht (fun q => by rw [← zI_0] at q; exact kt ((zI_lt hr0).mp q) H locs ls hH hS hL) (fun q => by rw [← zI_0] at q; exact kf (Int.not_lt.mp (fun z => q ((zI_lt hr0).mpr z))) H locs ls hH hS hL)
theorem g0_if_ge (C : gC0 p s m args meth c cc own nm nL ret D dA N0 Y) {a : Int} {off : Int} {tgt : Nat} (hdg : decode cc pc = .ok (.ifCond .ge off, 3)) (ht : (pc : Int) + off = (tgt : Int)) (hr : -2147483648 ≤ a ∧ a ≤ 2147483647) (kt : 0 ≤ a → G0 p l e R s m args below meth c D N0 nL Q k n h sz tgt L st) (kf : a < 0 → G0 p l e R s m args below meth c D N0 nL Q k n h sz (pc + 3) L st) : G0 p l e R s m args below meth c D N0 nL Q k n h sz pc L (vI a :: st) := by
  have hr0 : (-2147483648 ≤ a ∧ a ≤ 2147483647) ∧ (-2147483648 : Int) ≤ 0 ∧ (0 : Int) ≤ 2147483647 := ⟨hr, by decide, by decide⟩
  exact fun H locs ls hH hS hL => lv_if_ge (x := zI a) C.1 C.2.1 hdg ht (fun q => by rw [← zI_0] at q; exact kt ((zI_le ⟨hr0.2, hr0.1⟩).mp q) H locs ls hH hS hL) (fun q => by rw [← zI_0] at q; exact kf (Int.not_le.mp (fun z => q ((zI_le ⟨hr0.2, hr0.1⟩).mpr z))) H locs ls hH hS hL)
theorem g0_if_gt (C : gC0 p s m args meth c cc own nm nL ret D dA N0 Y) {a : Int} {off : Int} {tgt : Nat} (hdg : decode cc pc = .ok (.ifCond .gt off, 3)) (ht : (pc : Int) + off = (tgt : Int)) (hr : -2147483648 ≤ a ∧ a ≤ 2147483647) (kt : 0 < a → G0 p l e R s m args below meth c D N0 nL Q k n h sz tgt L st) (kf : a ≤ 0 → G0 p l e R s m args below meth c D N0 nL Q k n h sz (pc + 3) L st) : G0 p l e R s m args below meth c D N0 nL Q k n h sz pc L (vI a :: st) := by
  have hr0 : (-2147483648 ≤ a ∧ a ≤ 2147483647) ∧ (-2147483648 : Int) ≤ 0 ∧ (0 : Int) ≤ 2147483647 := ⟨hr, by decide, by decide⟩
  exact fun H locs ls hH hS hL => lv_if_gt (x := zI a) C.1 C.2.1 hdg ht (fun q => by rw [← zI_0] at q; exact kt ((zI_lt ⟨hr0.2, hr0.1⟩).mp q) H locs ls hH hS hL) (fun q => by rw [← zI_0] at q; exact kf (Int.not_lt.mp (fun z => q ((zI_lt ⟨hr0.2, hr0.1⟩).mpr z))) H locs ls hH hS hL)
theorem g0_if_le (C : gC0 p s m args meth c cc own nm nL ret D dA N0 Y) {a : Int} {off : Int} {tgt : Nat} (hdg : decode cc pc = .ok (.ifCond .le off, 3)) (ht : (pc : Int) + off = (tgt : Int)) (hr : -2147483648 ≤ a ∧ a ≤ 2147483647) (kt : a ≤ 0 → G0 p l e R s m args below meth c D N0 nL Q k n h sz tgt L st) (kf : 0 < a → G0 p l e R s m args below meth c D N0 nL Q k n h sz (pc + 3) L st) : G0 p l e R s m args below meth c D N0 nL Q k n h sz pc L (vI a :: st) := by
  have hr0 : (-2147483648 ≤ a ∧ a ≤ 2147483647) ∧ (-2147483648 : Int) ≤ 0 ∧ (0 : Int) ≤ 2147483647 := ⟨hr, by decide, by decide⟩
  exact fun H locs ls hH hS hL => lv_if_le (x := zI a) C.1 C.2.1 hdg ht (fun q => by rw [← zI_0] at q; exact kt ((zI_le hr0).mp q) H locs ls hH hS hL) (fun q => by rw [← zI_0] at q; exact kf (Int.not_le.mp (fun z => q ((zI_le hr0).mpr z))) H locs ls hH hS hL)
theorem g0_ifeq_b (C : gC0 p s m args meth c cc own nm nL ret D dA N0 Y) {b : Bool} {off : Int} {tgt : Nat} (hdg : decode cc pc = .ok (.ifCond .eq off, 3)) (ht : (pc : Int) + off = (tgt : Int)) (kt : b = false → G0 p l e R s m args below meth c D N0 nL Q k n h sz tgt L st) (kf : b = true → G0 p l e R s m args below meth c D N0 nL Q k n h sz (pc + 3) L st) : G0 p l e R s m args below meth c D N0 nL Q k n h sz pc L (vI (bI b) :: st) :=
  g0_if_eq C hdg ht (by have := bI_rg b; omega) (fun z => kt (by cases b <;> first | rfl | (simp [bI] at z))) (fun z => kf (by cases b <;> first | rfl | (simp [bI] at z)))
theorem g0_ifne_b (C : gC0 p s m args meth c cc own nm nL ret D dA N0 Y) {b : Bool} {off : Int} {tgt : Nat} (hdg : decode cc pc = .ok (.ifCond .ne off, 3)) (ht : (pc : Int) + off = (tgt : Int)) (kt : b = true → G0 p l e R s m args below meth c D N0 nL Q k n h sz tgt L st) (kf : b = false → G0 p l e R s m args below meth c D N0 nL Q k n h sz (pc + 3) L st) : G0 p l e R s m args below meth c D N0 nL Q k n h sz pc L (vI (bI b) :: st) :=
  g0_if_ne C hdg ht (by have := bI_rg b; omega) (fun z => kt (by cases b <;> first | rfl | (simp [bI] at z))) (fun z => kf (by cases b <;> first | rfl | (simp [bI] at z)))
theorem g0_goto (C : gC0 p s m args meth c cc own nm nL ret D dA N0 Y) {off : Int} {tgt : Nat} (hdg : decode cc pc = .ok (.goto off, 3)) (ht : (pc : Int) + off = (tgt : Int)) (kk : G0 p l e R s m args below meth c D N0 nL Q k n h sz tgt L st) : G0 p l e R s m args below meth c D N0 nL Q k n h sz pc L st := fun H locs ls hH hS hL => lv_goto C.1 C.2.1 hdg ht (kk H locs ls hH hS hL)
theorem g0_ifnull (C : gC0 p s m args meth c cc own nm nL ret D dA N0 Y) {o : Option Nat} {off : Int} {tgt : Nat} (hdg : decode cc pc = .ok (.ifnull off, 3)) (ht : (pc : Int) + off = (tgt : Int)) (kt : o = none → G0 p l e R s m args below meth c D N0 nL Q k n h sz tgt L st) (kf : ∀ a, o = some a → G0 p l e R s m args below meth c D N0 nL Q k n h sz (pc + 3) L st) : G0 p l e R s m args below meth c D N0 nL Q k n h sz pc L (va_rf o :: st) := by
  cases o with
  | none => exact fun H locs ls hH hS hL => lv_ifnullN C.1 C.2.1 hdg ht (kt rfl H locs ls hH hS hL)
  | some a => exact fun H locs ls hH hS hL => lv_ifnull C.1 C.2.1 hdg (kf a rfl H locs ls hH hS hL)
theorem g0_ifnonnull (C : gC0 p s m args meth c cc own nm nL ret D dA N0 Y) {o : Option Nat} {off : Int} {tgt : Nat} (hdg : decode cc pc = .ok (.ifnonnull off, 3)) (ht : (pc : Int) + off = (tgt : Int)) (kt : ∀ a, o = some a → G0 p l e R s m args below meth c D N0 nL Q k n h sz tgt L st) (kf : o = none → G0 p l e R s m args below meth c D N0 nL Q k n h sz (pc + 3) L st) : G0 p l e R s m args below meth c D N0 nL Q k n h sz pc L (va_rf o :: st) := by
  cases o with
  | none => exact fun H locs ls hH hS hL => lv_ifnonnullN C.1 C.2.1 hdg (kf rfl H locs ls hH hS hL)
  | some a => exact fun H locs ls hH hS hL => lv_ifnonnull C.1 C.2.1 hdg ht (kt a rfl H locs ls hH hS hL)
theorem g0_tabOut (C : gC0 p s m args meth c cc own nm nL ret D dA N0 Y) {a : Int} {dflt lo hi : Int} {offs : Array Int} {len tgt : Nat} (hdg : decode cc pc = .ok (.tableswitch dflt lo hi offs, len)) (hr : -2147483648 ≤ a ∧ a ≤ 2147483647) (ha : a < lo ∨ hi < a) (ht : (pc : Int) + dflt = (tgt : Int)) (kk : G0 p l e R s m args below meth c D N0 nL Q k n h sz tgt L st) : G0 p l e R s m args below meth c D N0 nL Q k n h sz pc L (vI a :: st) :=
  fun H locs ls hH hS hL => lv_tableOut (x := zI a) C.1 C.2.1 hdg (by rw [zI_toInt hr]; exact ha) ht (kk H locs ls hH hS hL)
theorem g0_tabIn (C : gC0 p s m args meth c cc own nm nL ret D dA N0 Y) {a : Int} {dflt lo hi : Int} {offs : Array Int} {len : Nat} {off : Int} {tgt : Nat} (hdg : decode cc pc = .ok (.tableswitch dflt lo hi offs, len)) (hr : -2147483648 ≤ a ∧ a ≤ 2147483647) (ha : lo ≤ a ∧ a ≤ hi) (ho : offs[(a - lo).toNat]? = some off) (ht : (pc : Int) + off = (tgt : Int)) (kk : G0 p l e R s m args below meth c D N0 nL Q k n h sz tgt L st) : G0 p l e R s m args below meth c D N0 nL Q k n h sz pc L (vI a :: st) :=
  fun H locs ls hH hS hL => lv_tableIn (x := zI a) C.1 C.2.1 hdg (by rw [zI_toInt hr]; omega) (by rw [zI_toInt hr]; omega) (by rw [zI_toInt hr]; exact ho) ht (kk H locs ls hH hS hL)
theorem g0_at {H : Heap} {a : Nat} {x : va_E} (hH : gHp D N0 h sz H) (ha : h a = some x) : va_P D vwCl [(a, x)] H := by
  intro q y hq
  have hz : q < 1 := (List.getElem?_eq_some_iff.mp hq).1
  rw [show q = 0 by omega] at hq
  cases hq
  exact (hH.2 a x ha).2
theorem g0_get (C : gC0 p s m args meth c cc own nm nL ret D dA N0 Y) {ref Cn : String} {T : u_T} {N ci i : Nat} {a : Nat} {fs : List Value} (ha : h a = some (gO ci fs)) (hc : vwCl[ci]? = some (Cn, T, N)) (hin : ∀ w ∈ u_ws Cn T N, w ∈ lw_all) (f : Nat) (hf : f < N) (hl : Cond.fieldLink own i ref (T f).2.1 (T f).2.2.1 ∈ lw_all) (hsm : ref = (T f).1 ∨ Cond.sameField ref (T f).1 (T f).2.1 (T f).2.2.1 ∈ lw_all) {v : Value} (hv : fs[f]? = some v) (hdg : decode cc pc = .ok (.getfield i, 3)) (kk : G0 p l e R s m args below meth c D N0 nL Q k n h sz (pc + 3) L (v :: st)) : G0 p l e R s m args below meth c D N0 nL Q k n h sz pc L (.ref a :: st) :=
  fun H locs ls hH hS hL => va_get C.1 C.2.1 C.2.2.2.2.1 hin C.2.2.2.1 C.2.2.2.2.2.1.1 (g0_at hH ha) 0 rfl hc f hf (C.2.2.2.2.1 _ hl) (fun x ho => by
    rcases hsm with e | e
    · rw [e]; exact ho
    · exact u_same (C.2.2.2.2.1 _ e) x ho) hv hdg (kk H locs ls hH hS hL)
theorem g0_putcore (C : gC0 p s m args meth c cc own nm nL ret D dA N0 Y) {ref Cn : String} {T : u_T} {N ci i : Nat} {a : Nat} {fs : List Value} (ha : h a = some (gO ci fs)) (hc : vwCl[ci]? = some (Cn, T, N)) (hin : ∀ w ∈ u_ws Cn T N, w ∈ lw_all) (f : Nat) (hf : f < N) (ty0 : Nat → FieldType) (hty : ∀ k, k < N → parseFieldDescriptor (T k).2.2.1 = some (ty0 k)) (hnm : ∀ a, a < N → ∀ b, b < N → a ≠ b → (T a).2.1 ≠ (T b).2.1) {v : Value} (hl2 : f < fs.length) (hfit : ∀ (cf fi : Nat) (kf : Class) (fd : Field), s.fieldFound? (T f).1 (T f).2.1 (T f).2.2.1 = some (cf, kf, fi, fd) → ∀ (kC : Class), s.vm.classes[D.1 ci]? = some kC → kC.kind = .ordinary → fd.isStatic = false → ∀ (cell : Cell) (H : Heap) (locs : List Loc) (ls : Array Slot), H[a]? = some cell → cell.cls = D.1 ci → cell.vm = .none → fd.slot < cell.slots.size →
      (∀ H' : Heap, H'[a]? = some (cell.setSlot fd.slot v) → H'.size = H.size → (∀ q, q ≠ a → H'[q]? = H[q]?) → W p l e R s m args below meth c H' (locs ++ [⟨a, fd.slot⟩]) k n Q (F0 m (pc + 3) ls st)) → W p l e R s m args below meth c H locs k n Q (F0 m pc ls (v :: .ref a :: st)))
    (kk : G0 p l e R s m args below meth c D N0 nL Q k n (gup h a (gO ci (fs.set f v))) sz (pc + 3) L st) : G0 p l e R s m args below meth c D N0 nL Q k n h sz pc L (v :: .ref a :: st) := by
  intro H locs ls hH hS hL
  have hK := C.2.2.2.2.2.1.1
  have hap := va_apart (own := own) C.2.2.2.2.1 hin ty0 hty hnm hK hc
  obtain ⟨hNa, r, h1, cell, q1, q2, q3, q4⟩ := hH.2 a _ ha
  have hr : r = (_, T, N) := Option.some.inj (h1.symm.trans hc)
  subst hr
  obtain ⟨hSl, hfc, kC, hkC, hkind⟩ := hK.1 ci _ hc
  obtain ⟨cf, kf, fi, fd, hi, hsl⟩ := hSl f hf
  have hst := (u_facts hfc hkC (u_lays C.2.2.2.2.1 hin hf) hi).1
  refine hfit _ _ _ _ hi kC hkC hkind hst cell H locs ls q1 q2 q3 (by rw [hsl]; exact k2_hasslot (q4 f hf)) (fun H' e1 e2 e3 => ?_)
  rw [hsl] at e1
  exact kk H' _ ls (hH.put ha ⟨_, hc, t_OB.to (V := updV (vp_V fs) f v) ⟨_, e1, q2, q3, t_set q4 hap hf v⟩ (fun j _ => vp_updV_set hl2 v j)⟩ e2 e3) (hS.put e2 e3 hNa) hL
theorem g0_put (C : gC0 p s m args meth c cc own nm nL ret D dA N0 Y) {ref Cn : String} {T : u_T} {N ci i : Nat} {a : Nat} {fs : List Value} (ha : h a = some (gO ci fs)) (hc : vwCl[ci]? = some (Cn, T, N)) (hin : ∀ w ∈ u_ws Cn T N, w ∈ lw_all) (f : Nat) (hf : f < N) (ty0 : Nat → FieldType) (hty : ∀ k, k < N → parseFieldDescriptor (T k).2.2.1 = some (ty0 k)) (hnm : ∀ a, a < N → ∀ b, b < N → a ≠ b → (T a).2.1 ≠ (T b).2.1) (hl : Cond.fieldLink own i ref (T f).2.1 (T f).2.2.1 ∈ lw_all) (hsm : ref = (T f).1 ∨ Cond.sameField ref (T f).1 (T f).2.1 (T f).2.2.1 ∈ lw_all) (hfin : (T f).2.2.2 = false) {v : Value} (hn : narrow (ty0 f) v = v) (hfit : fits (ty0 f) v = true) (hl2 : f < fs.length) (hdg : decode cc pc = .ok (.putfield i, 3)) (kk : G0 p l e R s m args below meth c D N0 nL Q k n (gup h a (gO ci (fs.set f v))) sz (pc + 3) L st) : G0 p l e R s m args below meth c D N0 nL Q k n h sz pc L (v :: .ref a :: st) := by
  refine g0_putcore (ref := ref) (i := i) C ha hc hin f hf ty0 hty hnm hl2 (fun cf fi kf fd hi kC hkC hkind hst cell H locs ls q1 q2 q3 q4 kk => ?_) kk
  have hlay := C.2.2.2.2.1 _ (hin _ (u_in_lay hf))
  unfold u_lay at hlay
  rw [if_neg (by rw [hfin]; decide)] at hlay
  have hfc := (C.2.2.2.2.2.1.1.1 ci _ hc).2.1
  have hsame : ∀ x, s.fieldFound? (T f).1 (T f).2.1 (T f).2.2.1 = some x → s.fieldFound? ref (T f).2.1 (T f).2.2.1 = some x := fun x ho => by
    rcases hsm with e | e
    · rw [e]; exact ho
    · exact u_same (C.2.2.2.2.1 _ e) x ho
  refine W.putK C.1 C.2.1 ⟨C.2.2.2.1, C.2.2.2.2.1 _ hl, ⟨_, _, _, hsame _ hi⟩, hst⟩ (by rw [q2]; exact u_store hfc hkC hkind hlay hi (hty f hf) hn hfit) q1 q3 q4 rfl rfl hdg kk
theorem g0_putF (C : gC0 p s m args meth c cc own nm nL ret D dA N0 Y) {ref Cn : String} {T : u_T} {N ci i : Nat} {a : Nat} {fs : List Value} (ha : h a = some (gO ci fs)) (hc : vwCl[ci]? = some (Cn, T, N)) (hin : ∀ w ∈ u_ws Cn T N, w ∈ lw_all) (f : Nat) (hf : f < N) (ty0 : Nat → FieldType) (hty : ∀ k, k < N → parseFieldDescriptor (T k).2.2.1 = some (ty0 k)) (hnm : ∀ a, a < N → ∀ b, b < N → a ≠ b → (T a).2.1 ≠ (T b).2.1) (hl : Cond.fieldLink own i ref (T f).2.1 (T f).2.2.1 ∈ lw_all) (hsm : ref = (T f).1 ∨ Cond.sameField ref (T f).1 (T f).2.1 (T f).2.2.1 ∈ lw_all) (hfin : (T f).2.2.2 = true) (hini : nm = "<init>") (hdecl : (T f).1 = own) {v : Value} (hn : narrow (ty0 f) v = v) (hfit : fits (ty0 f) v = true) (hl2 : f < fs.length) (hdg : decode cc pc = .ok (.putfield i, 3)) (kk : G0 p l e R s m args below meth c D N0 nL Q k n (gup h a (gO ci (fs.set f v))) sz (pc + 3) L st) : G0 p l e R s m args below meth c D N0 nL Q k n h sz pc L (v :: .ref a :: st) := by
  refine g0_putcore (ref := ref) (i := i) C ha hc hin f hf ty0 hty hnm hl2 (fun cf fi kf fd hi kC hkC hkind hst cell H locs ls q1 q2 q3 q4 kk => ?_) kk
  have hlay := C.2.2.2.2.1 _ (hin _ (u_in_lay hf))
  have hfc := (C.2.2.2.2.2.1.1.1 ci _ hc).2.1
  have hsame : ∀ x, s.fieldFound? (T f).1 (T f).2.1 (T f).2.2.1 = some x → s.fieldFound? ref (T f).2.1 (T f).2.2.1 = some x := fun x ho => by
    rcases hsm with e | e
    · rw [e]; exact ho
    · exact u_same (C.2.2.2.2.1 _ e) x ho
  have hlay' := hlay
  unfold u_lay at hlay'
  rw [if_pos hfin] at hlay'
  have hcf : m.cls = cf := by
    obtain ⟨_, _, c', _, _, _, -, -, hf', -, -, -, hown2, -⟩ := Cond.laysFinal_spec hlay'
    have e1 : c' = cf := by have := hi.symm.trans hf'; simp at this; exact this.1.symm
    rw [hdecl] at hown2
    rw [← e1]; exact Option.some.inj (C.2.2.2.1.symm.trans hown2)
  refine W.putFinK C.1 C.2.1 C.2.2.2.1 (C.2.2.2.2.1 _ hl) (hsame _ hi) hst hcf (C.2.2.2.2.2.2.2.2.2.trans hini) (by rw [q2]; exact u_fits hfc hkC hkind (u_lays C.2.2.2.2.1 hin hf) hi (hty f hf) hn hfit) q1 q3 q4 rfl rfl hdg kk
end GR
