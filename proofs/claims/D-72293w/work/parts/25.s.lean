/-! super.m(..) of a default method: what the lookup finds -/
set_option maxRecDepth 100000
theorem php : ∀ (n : Nat) (f : Nat → Nat), (∀ i, i ≤ n → f i < n) → ∃ i j, i < j ∧ j ≤ n ∧ f i = f j := by
  intro n
  induction n with
  | zero => intro f h; have := h 0 (Nat.le_refl _); omega
  | succ n ih =>
    intro f h
    by_cases hx : ∃ i, i ≤ n ∧ f i = f (n + 1)
    · obtain ⟨i, h1, h2⟩ := hx
      exact ⟨i, n + 1, by omega, Nat.le_refl _, h2⟩
    · have hne : ∀ i, i ≤ n → f i ≠ f (n + 1) := fun i hi he => hx ⟨i, hi, he⟩
      obtain ⟨i, j, h1, h2, h3⟩ := ih (fun i => if f (n + 1) < f i then f i - 1 else f i) (fun i hi => by
        have a1 := h i (by omega)
        have a2 := h (n + 1) (Nat.le_refl _)
        have a3 := hne i hi
        split <;> omega)
      refine ⟨i, j, h1, by omega, ?_⟩
      have a1 := hne i (by omega)
      have a2 := hne j h2
      split at h3 <;> split at h3 <;> omega
def supIt (vm : Vm) (c : ClassId) : Nat → Option ClassId
  | 0 => some c
  | n + 1 => (supIt vm c n).bind fun p => vm.classes[p]?.bind (·.super)
theorem supIt_head (vm : Vm) (c : ClassId) : ∀ n : Nat, supIt vm c (n + 1) = (vm.classes[c]?.bind (·.super)).bind fun q => supIt vm q n := by
  intro n
  induction n with
  | zero => show (some c).bind _ = _; cases h : vm.classes[c]?.bind (·.super) <;> simp [supIt, h]
  | succ n ih =>
    show (supIt vm c (n + 1)).bind _ = _
    rw [ih]
    cases h : vm.classes[c]?.bind (·.super) with
    | none => rfl
    | some q => rfl
theorem supIt_lookup (vm : Vm) (name desc : String) : ∀ (n : Nat) (c : ClassId), lookupInSuperclasses vm name desc n c = none → ∀ t, t < n → ∀ p, supIt vm c t = some p → ownMethod vm name desc p = none := by
  intro n
  induction n with
  | zero => intro c _ t ht; omega
  | succ n ih =>
    intro c h t ht p hp
    unfold lookupInSuperclasses at h
    cases hk : vm.classes[c]? with
    | none =>
      cases t with
      | zero => cases hp; simp [ownMethod, hk]
      | succ t => rw [supIt_head, hk] at hp; cases hp
    | some k =>
      simp only [hk, Option.bind_eq_bind, Option.bind_some] at h
      cases hf : k.findMethod name desc with
      | some i => simp [hf] at h
      | none =>
        simp only [hf] at h
        cases t with
        | zero => cases hp; simp [ownMethod, hk, hf]
        | succ t =>
          rw [supIt_head, hk] at hp
          cases hs : k.super with
          | none => simp [hs] at hp
          | some q =>
            simp only [hs, Option.bind_some] at h hp
            exact ih q h t (by omega) p hp
theorem supIt_mem (vm : Vm) : ∀ (n : Nat) (c p : ClassId), p ∈ vm.superclassesAux n c → ∃ t, 1 ≤ t ∧ t ≤ n ∧ supIt vm c t = some p := by
  intro n
  induction n with
  | zero => intro c p h; simp [Vm.superclassesAux] at h
  | succ n ih =>
    intro c p h
    unfold Vm.superclassesAux at h
    cases hs : vm.classes[c]?.bind (·.super) with
    | none => rw [hs] at h; cases h
    | some q =>
      rw [hs] at h
      rcases List.mem_cons.mp h with e | h
      · subst e
        exact ⟨1, by omega, by omega, by rw [supIt_head, hs]; rfl⟩
      · obtain ⟨t, h1, h2, h3⟩ := ih q p h
        exact ⟨t + 1, by omega, by omega, by rw [supIt_head, hs]; exact h3⟩
theorem supIt_add (vm : Vm) (c : ClassId) {i j : Nat} (h : supIt vm c i = supIt vm c j) : ∀ t : Nat, supIt vm c (i + t) = supIt vm c (j + t) := by
  intro t
  induction t with
  | zero => exact h
  | succ t ih => show (supIt vm c (i + t)).bind _ = (supIt vm c (j + t)).bind _; rw [ih]
theorem supIt_some (vm : Vm) (c : ClassId) : ∀ (n t : Nat), t ≤ n → (supIt vm c n).isSome = true → (supIt vm c t).isSome = true := by
  intro n
  induction n with
  | zero => intro t ht h; rw [show t = 0 by omega]; exact h
  | succ n ih =>
    intro t ht h
    by_cases e : t = n + 1
    · rw [e]; exact h
    · refine ih t (by omega) ?_
      cases hx : supIt vm c n with
      | none => unfold supIt at h; rw [hx] at h; exact h
      | some _ => rfl
/-- a lookup that found nothing up to the table's size finds nothing further up -/
theorem supIt_none (vm : Vm) (name desc : String) (c : ClassId) (h : lookupInSuperclasses vm name desc (vm.classes.size + 1) c = none) : ∀ p ∈ c :: vm.superclassesAux (vm.classes.size + 1) c, ownMethod vm name desc p = none := by
  intro p hp
  have key := supIt_lookup vm name desc _ c h
  rcases List.mem_cons.mp hp with e | hp
  · exact key 0 (by omega) p (by rw [e]; rfl)
  obtain ⟨t, h1, h2, h3⟩ := supIt_mem vm _ c p hp
  by_cases ht : t < vm.classes.size + 1
  · exact key t ht p h3
  have ht : t = vm.classes.size + 1 := by omega
  subst ht
  obtain ⟨i, j, g1, g2, g3⟩ := php vm.classes.size (fun t => (supIt vm c t).getD 0) (fun i hi => by
    have s1 := supIt_some vm c (vm.classes.size + 1) (i + 1) (by omega) (by rw [h3]; rfl)
    show (supIt vm c i).getD 0 < _
    cases hx : supIt vm c i with
    | none => unfold supIt at s1; rw [hx] at s1; cases s1
    | some q =>
      unfold supIt at s1
      rw [hx, Option.bind_some] at s1
      cases hk : vm.classes[q]? with
      | none => rw [hk] at s1; cases s1
      | some k => exact (Array.getElem?_eq_some_iff.mp hk).1)
  have e : supIt vm c i = supIt vm c j := by
    have si := supIt_some vm c (vm.classes.size + 1) i (by omega) (by rw [h3]; rfl : (supIt vm c (vm.classes.size + 1)).isSome = true)
    have sj := supIt_some vm c (vm.classes.size + 1) j (by omega) (by rw [h3]; rfl : (supIt vm c (vm.classes.size + 1)).isSome = true)
    cases hi : supIt vm c i with
    | none => rw [hi] at si; cases si
    | some a =>
      cases hj : supIt vm c j with
      | none => rw [hj] at sj; cases sj
      | some b => rw [hi, hj] at g3; exact congrArg some g3
  have e2 := supIt_add vm c e (vm.classes.size + 1 - j)
  rw [show j + (vm.classes.size + 1 - j) = vm.classes.size + 1 by omega, h3] at e2
  exact key _ (by omega) p e2
theorem lookupSpecial_default {vm : Vm} {c : ClassId} {k mk : Class} {name desc : String} {m : MethodId} {meth : Method} (hk : vm.classes[c]? = some k) (hni : k.isInterface = false) (hl : vm.lookupUp c name desc = some m) (hm : vm.method? m = some meth) (hst : meth.isStatic = false) (hn : meth.name = name) (hd : meth.desc = desc)
    (hmk : vm.classes[m.cls]? = some mk) (hi : mk.isInterface = true) (hsel : selectMethod {} vm c m = .method m) : lookupSpecial vm c name desc = .method m := by
  cases hx : lookupInSuperclasses vm name desc (vm.classes.size + 1) c with
  | some x => exact lookupSpecial_of_lookupUp hk hni hl (by rw [hx]; rfl) hm hst
  | none =>
    have hnone := supIt_none vm name desc c hx
    have hown : ((vm.classes[c]?.bind (·.findMethod name desc)).map fun i => (⟨c, i⟩ : MethodId)) = none := hnone c List.mem_cons_self
    have habove : superclassMethods vm c name desc = [] := by
      unfold superclassMethods Vm.superclasses
      exact List.filterMap_eq_nil_iff.mpr (fun p hp => hnone p (List.mem_cons_of_mem _ hp))
    unfold lookupSpecial
    simp only [hown, habove, List.filter_nil, Option.toList_none, List.append_nil, List.find?_nil]
    have hl2 : lookupInSuperinterfaces vm c name desc = some m := by simpa [Vm.lookupUp, hx] using hl
    unfold lookupInSuperinterfaces at hl2
    unfold selectMethod at hsel
    simp only [hm, hn, hd] at hsel
    have hsel0 : ∀ (n : Nat) (q : ClassId), (∀ t, ∀ p, supIt vm q t = some p → t < n → ownMethod vm name desc p = none) → selectInSuperclasses vm m name desc n q = none := by
      intro n
      induction n with
      | zero => intro q _; rfl
      | succ n ih =>
        intro q hq
        unfold selectInSuperclasses
        cases hkq : vm.classes[q]? with
        | none => rfl
        | some kq =>
          have h0 := hq 0 q rfl (by omega)
          have hf : kq.findMethod name desc = none := by
            unfold ownMethod at h0
            rw [hkq] at h0
            simpa using h0
          simp only [Option.bind_eq_bind, Option.bind_some, hf, Option.bind_none]
          cases hs : kq.super with
          | none => rfl
          | some r =>
            refine (show (none <|> selectInSuperclasses vm m name desc n r) = none from ?_)
            rw [ih r (fun t p hp ht => hq (t + 1) p (by rw [supIt_head, hkq]; show (kq.super.bind _) = _; rw [hs]; exact hp) (by omega))]
            rfl
    have hs0 := hsel0 (vm.classes.size + 1) c (fun t p hp ht => supIt_lookup vm name desc _ c hx t ht p hp)
    rw [hs0] at hsel
    have hitf : (vm.classes[m.cls]?).any (·.isInterface) = true := by rw [hmk]; exact hi
    generalize hL : (maximallySpecific vm c name desc).filter (fun m => (vm.method? m).any (!·.isAbstract)) = L0 at hl2 hsel ⊢
    have hpriv : ∀ z ∈ superinterfaceMethods vm c name desc, (vm.method? z).any (·.isPrivate) = false := by
      intro z hz
      unfold superinterfaceMethods at hz
      obtain ⟨a, -, ha⟩ := List.mem_filterMap.mp hz
      simp only [Option.bind_eq_bind, Option.bind_eq_some_iff] at ha
      obtain ⟨x1, -, x2, -, x3, h3, ha⟩ := ha
      split at ha
      · cases ha
      · rename_i hno
        cases ha
        rw [h3]
        simp at hno
        simp [hno.1]
    match L0 with
    | [z] => exact (Option.some.inj hl2) ▸ rfl
    | [] =>
      exfalso
      simp only at hl2
      obtain ⟨i, -, h2⟩ := List.exists_of_findSome?_eq_some hl2
      have h3 := hpriv m (List.mem_of_find?_eq_some h2)
      rw [hm] at h3
      have h4 : meth.isPrivate = false := by simpa using h3
      simp [h4, hitf] at hsel
      split at hsel <;> cases hsel
    | z :: y :: r =>
      exfalso
      simp only at hl2
      obtain ⟨i, -, h2⟩ := List.exists_of_findSome?_eq_some hl2
      have h3 := hpriv m (List.mem_of_find?_eq_some h2)
      rw [hm] at h3
      have h4 : meth.isPrivate = false := by simpa using h3
      simp [h4, hitf] at hsel
      split at hsel <;> cases hsel
section SUD
variable {p : Program} {l : Launch} {e : Env} {R : Room} {s : State} {m : MethodId} {args : Array Value} {below : List Frame} {meth : Method} {c : Code} {Q : State → Prop}
variable {cc : ByteArray} {own nm : String} {nL : Nat} {ret : Option FieldType} {D : va_G} {dA : Nat → ClassId} {N0 : Nat} {Y : State → Prop}
variable {k n : Nat} {h : gH} {sz pc : Nat} {L : List (Option Value)} {st : List Value}
theorem g_superD {T : State} {locs : List Loc} {cells slots : Nat} (X : Stand p l e R s m args below meth c T locs cells slots) (hexec : p.tables.exec = Jvm.exec) {index : Nat} {x y : MethodName}
    (hown : s.vm.findClass own = some m.cls) (hlink : (Cond.methodLink own index x).before args s = true) (hsame : (Cond.sameMethod x.cls y.cls x.name x.desc).before args s = true) (hsup : (Cond.superclass own x.cls).before args s = true)
    (hlid : (Cond.landsInDefault x.cls x y).before args s = true) (hxy : y = ⟨y.cls, x.name, x.desc⟩)
    (hinst : (Cond.instanceMethod y).before args s = true) {bytes : ByteArray} {maxL : Nat} {rt : Option FieldType} (hcode : (Cond.code y bytes maxL rt).before args s = true) (hno : x.name ≠ "<init>")
    {W1 : Nat} {Pre : Pt → Array Value → Prop} {Post : Pt → Array Value → Option Value → Pt → Prop} (hK : Back l R p e below s args y 3 W1 Pre Post)
    {b : Addr} {cellB : Cell} {kB : Class} (hcell : T.heap[b]? = some cellB) (hobj : cellB.vm.isStatics = false) (hkB : s.vm.classes[cellB.cls]? = some kB)
    {g : JFrame} (hg : g.method = m) (hsize : g.locals.size = c.maxLocals) {argsL rest : List Value} (hlen : ∀ sig, parseMethodDescriptor x.desc = some sig → argsL.length = sig.parameters.length)
    (hstack : g.stack = argsL.reverse ++ .ref b :: rest) (hW : 2 * g.monitorRoom + (rest.map fun v => v.category).sum ≤ W1) (hdg : decode c.code g.pc = .ok (.invokespecial index, 3))
    (hpre : ∀ vm₁, s.WarmedH vm₁ → Pre ⟨T.setVm vm₁, locs, cells, slots⟩ (Value.ref b :: argsL).toArray) :
    ∃ (v : Option Value) (vm₁ : Vm) (B : Pt), s.WarmedH vm₁ ∧ Stand p l e R s m args below meth c B.U B.locs B.cells B.slots ∧ Post ⟨T.setVm vm₁, locs, cells, slots⟩ (Value.ref b :: argsL).toArray v B ∧
      ∀ target, Steps p.tables e below (B.U.setTop { g with pc := g.pc + 3, stack := v.toList ++ rest }) target → Steps p.tables e below (T.setTop g) target := by
  obtain ⟨mk, methM, hnamed, hmethM, hstM, habM⟩ := Cond.instanceMethod_spec hinst
  obtain ⟨methM', cM, hmethM', -, -, -, -, -, -, hsigM⟩ := Cond.code_spec hnamed hcode
  cases hmethM.symm.trans hmethM'
  obtain ⟨ps, dk, kp, hps, hdk, hkp, hsuper, -, -, hnid⟩ := Cond.superclass_spec hown hsup
  have hn : s.methodNamed? ⟨y.cls, x.name, x.desc⟩ = some mk := by rw [← hxy]; exact hnamed
  have hpl : e.platform.magicAccessors = ({} : Platform).magicAccessors := by rw [X.admits.platform]
  obtain ⟨cn', ck, r1, hcn', hck, hni, hf, hn1⟩ := Cond.sameMethod_found hsame
  cases hn.symm.trans hn1
  cases hps.symm.trans hcn'
  obtain ⟨ci, hl, hright⟩ := Cond.methodLink_specUp hown hps hck hni hf hlink e.platform hpl (by rw [X.admits.platform])
  obtain ⟨kr, hkr, -⟩ := className_of_methodNamed hn
  obtain ⟨hrn, hrd⟩ := name_of_methodNamed hn hmethM
  obtain ⟨dk₀, cfile, nt, _, _, ck₀, _, _, hd₀, hcf, hcp, -, -, -, hc₀, -, hpoly, -⟩ := hl.here
  cases hdk.symm.trans hd₀
  cases hck.symm.trans hc₀
  have hup : s.vm.lookupUp ps x.name x.desc = some mk := ((State.methodFound?_class hps hck hni hpoly mk).mp hf).1
  obtain ⟨c2, r2, m2, rm, q1, q2, q3, q5, q4, ⟨kI, hkI, hkII⟩, -, -⟩ := Cond.landsInDefault_spec hlid
  cases hps.symm.trans q1
  cases hf.symm.trans q2
  cases hnamed.symm.trans q3
  have hfound0 : lookupSpecial s.vm ps x.name x.desc = .method mk := lookupSpecial_default hck hni hup hmethM hstM hrn hrd hkI hkII q4
  subst hg
  obtain ⟨vm', hW', st⟩ := Steps.invokeSuperColdArgs (tb := p.tables) (e := e) (s₀ := s) (U := T) (f := g) (args := argsL) (rest := rest) (a := b) (cell := cellB) (m := mk) X.here hexec hdg X.warmed hl hright hdk hcf hcp hmethM hck
    (by rw [hrn]; simp [hno]) hstM (by rw [hrn, hrd, hsuper]; simpa using hfound0) hnid hkr habM (hlen _ (by rw [hxy] at hsigM; exact hsigM)) hstack hcell (fun z h => by rw [h] at hobj; cases hobj) hkB
  have X₁ := X.noted hW'
  obtain ⟨v, B, X', hpost, hsteps⟩ := hK _ meth c ⟨T.setVm vm', locs, cells, slots⟩ { g with stack := rest } (.invokespecial index) mk (Value.ref b :: argsL).toArray X₁ rfl hsize hdg hW (X₁.named hnamed) (hpre vm' X₁.warmed)
  exact ⟨v, vm', B, X₁.warmed, X', hpost, fun target h => st _ (by rw [doInvoke_state]; exact hsteps.trans h)⟩
end SUD

section GR4
variable {p : Program} {l : Launch} {e : Env} {R : Room} {s : State} {m : MethodId} {args : Array Value} {below : List Frame} {meth : Method} {c : Code} {Q : State → Prop}
variable {cc : ByteArray} {own nm : String} {nL : Nat} {ret : Option FieldType} {D : va_G} {dA : Nat → ClassId} {N0 : Nat} {Y : State → Prop}
variable {k n : Nat} {h : gH} {sz pc : Nat} {L : List (Option Value)} {st : List Value}
theorem g0_callSUD (C : gC0 p s m args meth c cc own nm nL ret D dA N0 Y) {y : MethodName} {cy : ByteArray} {nLy : Nat} {rty : Option FieldType} {fr lo mc ms i : Nat} {P : Option Value → gH → Nat → Prop} {b ci : Nat} {fs As rest st0 : List Value} {Cn : String} {T : u_T} {N : Nat} {x : MethodName} (hM : gM l D dA N0 Y y cy nLy rty fr lo mc ms (.ref b :: As) h sz P) (hcode : Cond.code y cy nLy rty ∈ lw_all) (hini : Cond.initialized y.cls ∈ lw_all) (hlk : va_Nw (.methodLink own i x) s) (hsame : va_Nw (.sameMethod x.cls y.cls x.name x.desc) s) (hsup : Cond.superclass own x.cls ∈ lw_all) (hsel : ∀ A : Array Value, (Cond.landsInDefault x.cls x y).before A s = true) (hxy : y = ⟨y.cls, x.name, x.desc⟩) (hinst : Cond.instanceMethod y ∈ lw_all) (hno : x.name ≠ "<init>") (hd : (parseMethodDescriptor x.desc).map (fun d => d.parameters.length) = some As.length) (hb : h b = some (gO ci fs)) (hc : vwCl[ci]? = some (Cn, T, N)) (hR : fr + 1 ≤ R.frames ∧ 8 + (nLy + 11) + lo ≤ R.locals) (hf : k + mc ≤ R.cells ∧ n + ms ≤ R.slots) (hst : st0 = As.reverse ++ .ref b :: rest) (hcat : (rest.map fun v => v.category).sum ≤ 8) (hdg : decode cc pc = .ok (.invokespecial i, 3))
    (kk : ∀ (v : Option Value) (h1 : gH) (z1 : Nat), P v h1 z1 → G0 p l e R s m args below meth c D N0 nL Q (k + mc) (n + ms) h1 z1 (pc + 3) L (v.toList ++ rest)) : G0 p l e R s m args below meth c D N0 nL Q k n h sz pc L st0 := by
  intro H locs ls hH hS hL
  subst hst
  have hts := C.2.2.2.2.1
  have hpre := g0_pre (av := .ref b :: As) C hH hS
  have hG := lw_meth hcode
  have hK : Back l R p e below s args y 3 8 (PreOf R mc ms _) (PostOf _ mc ms (gA N0)) := back_of (bytes := cy) (maxL := nLy) (ret := rty) hM hpre.1 rfl rfl hR.1 hR.2 (pay_in hts hG) List.mem_cons_self (fun a' U hW => word_at hW (Or.inl (by first | rfl | simp [Cond.onTables, Cond.keeps, Cond.steady])) (hts _ hini))
  obtain ⟨cellB, hcB, hoB, hclB⟩ := va_recv C.2.2.2.2.2.1.1 (g0_at hH hb) (q0 := 0) hc rfl
  obtain ⟨-, hfc, kC, hkC, hkind⟩ := C.2.2.2.2.2.1.1.1 ci _ hc
  have hcl : cellB.cls = D.1 ci := Option.some.inj (hclB.symm.trans hfc)
  refine g0_run (aa := (Value.ref b :: As).toArray) ?_ hS hL kk
  intro T hT X
  obtain ⟨v, vm₁, ⟨U', l2, c2, s2⟩, hW₁, X', ⟨g', mk, t, Lc, e1, e2, hq, h1, hLc, h2, h3⟩, st⟩ := g_superD X C.1 C.2.2.2.1 (va_Nw.use rfl hlk) (va_Nw.use rfl hsame) (hts _ hsup) (hsel _) hxy (hts _ hinst) (hts _ hcode) hno hK (by rw [hT]; exact hcB) hoB (by rw [hcl]; exact hkC) (g := F0 m pc ls (As.reverse ++ .ref b :: rest)) rfl (hL.1.trans C.2.2.1.symm) (argsL := As) (rest := rest) (fun sig hsg => by have h2 := hd; rw [hsg] at h2; exact (Option.some.inj h2).symm) rfl (lv_room hcat) (by rw [C.2.1]; exact hdg)
    (fun vm₁ hW₁ => ⟨hf.1, hf.2, hpre.2 (T.setVm vm₁) hT hW₁⟩)
  dsimp only [Pt.U, Pt.locs, Pt.cells, Pt.slots] at X' e1 e2 h1 h2 h3 st
  subst h1; subst h2; subst h3
  exact ⟨v, (T.setVm vm₁).calling g' mk (Value.ref b :: As).toArray, t, U', Lc, hT, X', hLc, e1, e2, hq, st⟩
theorem g0_mmax (C : gC0 p s m args meth c cc own nm nL ret D dA N0 Y) {a b : Int} {i : Nat} (hl : Cond.methodLink own i Lib.Math.max.name ∈ lw_all) (hst : Cond.static Lib.Math.max.name ∈ lw_all) (hini : Cond.initialized "java/lang/Math" ∈ lw_all) (hcode : Cond.code Lib.Math.max.name Lib.Math.max.code 2 (some .int) ∈ lw_all) (hr : (-2147483648 ≤ a ∧ a ≤ 2147483647) ∧ -2147483648 ≤ b ∧ b ≤ 2147483647) (hcat : (st.map fun v => v.category).sum ≤ 8) (hR : 1 ≤ R.frames ∧ 21 ≤ R.locals) (hf : k ≤ R.cells ∧ n ≤ R.slots) (hdg : decode cc pc = .ok (.invokestatic i, 3)) (kk : G0 p l e R s m args below meth c D N0 nL Q k n h sz (pc + 3) L (vI (mxI a b) :: st)) : G0 p l e R s m args below meth c D N0 nL Q k n h sz pc L (vI b :: vI a :: st) := by
  intro H locs ls hH hS hL
  have hts := C.2.2.2.2.1
  refine va_mmax C.1 C.2.1 (C.2.2.1.trans hL.1.symm) C.2.2.2.1 (hts _ hl) (hts _ hst) (hts _ hini) (hts _ hcode) hR.1 (by omega) hf.1 hf.2 hdg ?_
  have e : (if zI a < zI b then zI b else zI a) = zI (mxI a b) := by
    unfold mxI
    by_cases q : a < b
    · rw [if_pos ((zI_lt (by omega)).mpr q), if_pos q]
    · rw [if_neg (fun z => q ((zI_lt (by omega)).mp z)), if_neg q]
  rw [e]
  exact kk H locs ls hH hS hL
theorem g0_mmin (C : gC0 p s m args meth c cc own nm nL ret D dA N0 Y) {a b : Int} {i : Nat} (hl : Cond.methodLink own i Lib.Math.min.name ∈ lw_all) (hst : Cond.static Lib.Math.min.name ∈ lw_all) (hini : Cond.initialized "java/lang/Math" ∈ lw_all) (hcode : Cond.code Lib.Math.min.name Lib.Math.min.code 2 (some .int) ∈ lw_all) (hr : (-2147483648 ≤ a ∧ a ≤ 2147483647) ∧ -2147483648 ≤ b ∧ b ≤ 2147483647) (hcat : (st.map fun v => v.category).sum ≤ 8) (hR : 1 ≤ R.frames ∧ 21 ≤ R.locals) (hf : k ≤ R.cells ∧ n ≤ R.slots) (hdg : decode cc pc = .ok (.invokestatic i, 3)) (kk : G0 p l e R s m args below meth c D N0 nL Q k n h sz (pc + 3) L (vI (minI a b) :: st)) : G0 p l e R s m args below meth c D N0 nL Q k n h sz pc L (vI b :: vI a :: st) := by
  intro H locs ls hH hS hL
  have hts := C.2.2.2.2.1
  refine va_mmin C.1 C.2.1 (C.2.2.1.trans hL.1.symm) C.2.2.2.1 (hts _ hl) (hts _ hst) (hts _ hini) (hts _ hcode) hR.1 (by omega) hf.1 hf.2 hdg ?_
  have e : (if zI b < zI a then zI b else zI a) = zI (minI a b) := by
    unfold minI
    by_cases q : b < a
    · rw [if_pos ((zI_lt (by omega)).mpr q), if_pos q]
    · rw [if_neg (fun z => q ((zI_lt (by omega)).mp z)), if_neg q]
  rw [e]
  exact kk H locs ls hH hS hL
theorem g0_cloneI (C : gC0 p s m args meth c cc own nm nL ret D dA N0 Y) {a N i : Nat} {F : Int → Int} (ha : h a = some (gI (dA 0) N F)) (hlk : Cond.methodLink own i ⟨"[I", "clone", "()Ljava/lang/Object;"⟩ ∈ lw_all) (hsame : Cond.sameMethod "[I" "java/lang/Object" "clone" "()Ljava/lang/Object;" ∈ lw_all) (hnat : Cond.native ⟨"java/lang/Object", "clone", "()Ljava/lang/Object;"⟩ ∈ lw_all) (hinst : Cond.instanceMethod ⟨"java/lang/Object", "clone", "()Ljava/lang/Object;"⟩ ∈ lw_all) (hsel : Cond.selects "[I" ⟨"[I", "clone", "()Ljava/lang/Object;"⟩ ⟨"java/lang/Object", "clone", "()Ljava/lang/Object;"⟩ ∈ lw_all) (hcl : va_Nw (.castable "[I" "java/lang/Cloneable") s) (hcat : (st.map fun v => v.category).sum ≤ 8) (hfr : 1 ≤ R.frames ∧ 22 ≤ R.locals) (hR : k + 1 ≤ R.cells ∧ n + N ≤ R.slots) (hdg : decode cc pc = .ok (.invokevirtual i, 3)) (kk : G0 p l e R s m args below meth c D N0 nL Q (k + 1) (n + N) (gup h sz (gI (dA 0) N F)) (sz + 1) (pc + 3) L (.ref sz :: st)) : G0 p l e R s m args below meth c D N0 nL Q k n h sz pc L (.ref a :: st) := by
  intro H locs ls hH hS hL T hT X
  have hts := C.2.2.2.2.1
  have hK := C.2.2.2.2.2.1.1
  have ht : (gTys dA)[0]? = some (dA 0, .int) := rfl
  have hce : H[a]? = some (vp_cell (dA 0) (N, .inl (fun j => zI (F (j : Int))))) := (hH.2 a _ ha).2
  generalize hx : vp_cell (dA 0) (N, .inl (fun j => zI (F (j : Int)))) = ce at hce
  have hsz : ce.slots.size = N := by rw [← hx]; exact arrV_size _ _ _
  have hvm0 : ce.vm = .none := by rw [← hx]; rfl
  have hcl0 : ce.cls = dA 0 := by rw [← hx]; rfl
  have hnm := va_nm_int (hK.2 0 _ ht).2
  have hcE : ({ cls := ce.cls, slots := ce.slots } : Cell) = ce := by rw [← hx]; rfl
  obtain ⟨c0, t0', f1, f2, f3⟩ := Cond.castable_spec (va_Nw.use (A := args) rfl hcl)
  cases hnm.symm.trans f1
  obtain ⟨-, kA, hkA, comp, hkind⟩ := State.isArrayOf_alike X.warmed.alike ((hK.2 0 _ ht).1 0 (fun _ => .null))
  obtain ⟨-, kS, hkS, compS, hkindS⟩ := (hK.2 0 _ ht).1 0 (fun _ => .null)
  obtain ⟨vm', X', stp⟩ := X.cloneArray C.1 C.2.2.2.1 (hts _ hlk) (hts _ hsame) (hts _ hnat) (hts _ hinst) (hts _ hsel) (a := a) (cell := ce) (by rw [hT]; exact hce) (fun k h => by rw [hvm0] at h; cases h) (by rw [hvm0]; exact fun h => by cases h) (by rw [hcl0]; exact hnm) f2 (by rw [hcl0]; exact f3)
    (fun i v hv => by
      rw [hcl0]
      have hk' : T.vm.classes[dA 0]? = some kA := hkA
      have hi : i < N := by rw [← hsz]; exact (Array.getElem?_eq_some_iff.mp hv).1
      have hv2 : ce.slots[i]? = some (.int (zI (F (i : Int)))) := by
        rw [← hx]
        show (arrV (dA 0) N (fun j => .int (zI (F (j : Int))))).slots[i]? = _
        rw [arrV_read _ _ hi]
      have hvv := hv.symm.trans hv2
      cases hvv
      simp only [State.fitsSlot, State.slotType?, hk', hkind, hvm0, Option.bind_some, Option.bind_eq_bind]
      rfl)
    (g := F0 m pc ls (.ref a :: st)) rfl (by show ls.size = _; rw [C.2.2.1]; exact hL.1) rfl (by rw [C.2.1]; exact hdg) hfr.1 (by show 2 * 0 + _ + 14 ≤ _; omega) hR.1 (by rw [hsz]; exact hR.2) (hloader := by rw [hcl0]; exact Vm.clonesLoader_of_array hkS hkindS)
  rw [hcE, hsz] at X'
  generalize hH1 : H.push ce = H1
  have hHs := hH.1
  have z1 : H1.size = sz + 1 := by rw [← hH1, Array.size_push, hHs]
  have e1 : H1[sz]? = some ce := by rw [← hH1, ← hHs, Array.getElem?_push_size]
  have o1 : ∀ q : Nat, q < sz → H1[q]? = H[q]? := fun q hq => by rw [← hH1, Array.getElem?_push, if_neg (by omega)]
  have hN : N0 ≤ sz := by
    have := (hH.2 a _ ha).1
    have := hH.lt ha
    omega
  obtain ⟨t, b1, b2⟩ := kk H1 locs ls (hH.push hN (by rw [← hx] at e1; exact e1) z1 o1) (gS.push hS hHs z1 o1) hL
    ((T.setVm vm').pushCell ce) (by rw [← hH1, ← hT]; rfl) X'
  refine ⟨t, stp t ?_, b2⟩
  rw [hcE, hT, hHs]
  exact b1
theorem g0_castI (C : gC0 p s m args meth c cc own nm nL ret D dA N0 Y) {a N i : Nat} {F : Int → Int} (ha : h a = some (gI (dA 0) N F)) (hl : Cond.classLink own i "[I" ∈ lw_all) (hdg : decode cc pc = .ok (.checkcast i, 3)) (kk : G0 p l e R s m args below meth c D N0 nL Q k n h sz (pc + 3) L (.ref a :: st)) : G0 p l e R s m args below meth c D N0 nL Q k n h sz pc L (.ref a :: st) := by
  intro H locs ls hH hS hL
  exact va_castA C.1 C.2.1 C.2.2.2.1 (C.2.2.2.2.1 _ hl) (g0_at hH ha) 0 rfl (va_nm_int (C.2.2.2.2.2.1.1.2 0 (dA 0, .int) rfl).2) hdg (kk H locs ls hH hS hL)
theorem g0_copyR (C : gC0 p s m args meth c cc own nm nL ret D dA N0 Y) {a b N1 N2 i ci : Nat} {F G1 : Int → Option Nat} {sp dp q : Int} {T0 : u_T} {M : Nat} {Cn : String} (t : Nat) (ht : (gTys dA)[t]? = some (dA t, .object Cn)) (hc : vwCl[ci]? = some (Cn, T0, M)) (ha : h a = some (gR (dA t) N1 F)) (hb : h b = some (gR (dA t) N2 G1)) (hel : ∀ j : Int, 0 ≤ j → j < q → ∀ y : Nat, F (sp + j) = some y → ∃ fs, h y = some (gO ci fs)) (hr : (0 ≤ sp ∧ sp < 2147483648) ∧ (0 ≤ dp ∧ dp < 2147483648) ∧ 0 ≤ q ∧ q < 2147483648) (hr2 : sp + q ≤ N1 ∧ dp + q ≤ N2) (hlk : Cond.methodLink own i arraycopyName ∈ lw_all) (hnat : Cond.native arraycopyName ∈ lw_all) (hstat : Cond.static arraycopyName ∈ lw_all) (hini : Cond.initialized "java/lang/System" ∈ lw_all) (hcat : (st.map fun v => v.category).sum ≤ 8) (hfr : 1 ≤ R.frames) (hlo : 8 + (nativeFrameWords "java/lang/System" "arraycopy" 5 + 11) ≤ R.locals) (hdg : decode cc pc = .ok (.invokestatic i, 3)) (kk : G0 p l e R s m args below meth c D N0 nL Q k n (gup h b (gR (dA t) N2 (cpI F G1 sp dp q))) sz (pc + 3) L st) : G0 p l e R s m args below meth c D N0 nL Q k n h sz pc L (vI q :: vI dp :: .ref b :: vI sp :: .ref a :: st) := by
  intro H locs ls hH hS hL T hT X
  have hts := C.2.2.2.2.1
  have hK := C.2.2.2.2.2.1.1
  have hc0 : H[a]? = some (vp_cell (dA t) (N1, .inr (.inr (.inr (.inr (fun j => F (j : Int))))))) := (hH.2 a _ ha).2
  have hc1 : H[b]? = some (vp_cell (dA t) (N2, .inr (.inr (.inr (.inr (fun j => G1 (j : Int))))))) := (hH.2 b _ hb).2
  obtain ⟨-, k0, hk0, cm0, hkk0⟩ := (hK.2 t _ ht).1 N1 (fun j => va_rf (F (j : Int)))
  obtain ⟨-, k1, hk1, cm1, hkk1⟩ := (hK.2 t _ ht).1 N2 (fun j => va_rf (G1 (j : Int)))
  have z1 := zI_cl hr.1
  have z2 := zI_cl hr.2.1
  have z3 := zI_cl hr.2.2
  obtain ⟨vm', X', step⟩ := X.arraycopy C.1 C.2.2.2.1 (hts _ hlk) (hts _ hnat) (hts _ hstat) (hts _ hini) (src := a) (dst := b) (cs := vp_cell (dA t) (N1, .inr (.inr (.inr (.inr (fun j => F (j : Int))))))) (cd := vp_cell (dA t) (N2, .inr (.inr (.inr (.inr (fun j => G1 (j : Int))))))) (srcPos := zI sp) (destPos := zI dp) (n := zI q) (by rw [hT]; exact hc0) (by rw [hT]; exact hc1)
    (fun _ h => by cases h) (fun _ h => by cases h) (fun h => by cases h) (fun h => by cases h) hk0 hk1 hkk0 hkk1 rfl (nn_nn hr.1) (nn_nn hr.2.1) (nn_nn hr.2.2)
    (by rw [nn_cl hr.1, nn_cl hr.2.2]; show ¬ _ > ((arrV (dA t) N1 (fun j => va_rf (F (j : Int)))).slots.size : Int); rw [arrV_size]; omega)
    (by rw [nn_cl hr.2.1, nn_cl hr.2.2]; show ¬ _ > ((arrV (dA t) N2 (fun j => va_rf (G1 (j : Int)))).slots.size : Int); rw [arrV_size]; omega)
    (fun vm₁ hal i hi => by
      have e : (vp_cell (dA t) (N1, .inr (.inr (.inr (.inr (fun j => F (j : Int))))))).slots.getD ((zI sp).toNatClampNeg + i) .null = va_rf (F (sp + (i : Int))) := by
        show (arrV (dA t) N1 (fun j => va_rf (F (j : Int)))).slots.getD _ _ = _
        rw [Array.getD_eq_getD_getElem?, arrV_read _ _ (by omega)]
        show va_rf (F (((zI sp).toNatClampNeg + i : Nat) : Int)) = _
        rw [show (((zI sp).toNatClampNeg + i : Nat) : Int) = sp + (i : Int) by omega]
      rw [e]
      cases hy : F (sp + (i : Int)) with
      | none => exact ⟨rfl, trivial⟩
      | some y =>
        obtain ⟨fs, hfs⟩ := hel (i : Int) (by omega) (by omega) y hy
        obtain ⟨cellV, g1, g2, g3⟩ := va_recv hK (g0_at hH hfs) (q0 := 0) hc rfl
        obtain ⟨kA, comp, r1, r2, r3, -⟩ := (hK.2 t _ ht).2
        cases hk1.symm.trans r1
        cases hkk1.symm.trans r2
        obtain ⟨kC, hkC, -⟩ := Vm.findClass_spec g3
        obtain ⟨kC', hkC', -⟩ := hal.2.2 _ _ hkC
        have hcc : cm1 = cellV.cls := Option.some.inj (r3.symm.trans g3)
        refine ⟨rfl, cellV, (show T.heap[y]? = some cellV by rw [hT]; exact g1), (fun q h => by rw [h] at g2; cases g2), ⟨kC', hkC'⟩, ?_, ?_⟩
        · rw [hcc]; exact ⟨kC', hkC'⟩
        · show vm₁.assignable _ _ = true
          rw [hcc]
          exact va_asg _ _)
    (g := F0 m pc ls (vI q :: vI dp :: .ref b :: vI sp :: .ref a :: st)) rfl (by show ls.size = _; rw [C.2.2.1]; exact hL.1) (rest := st) rfl (by rw [C.2.1]; exact hdg) hfr (by show 2 * 0 + _ + _ ≤ _; omega)
  have e1 : copied (vp_cell (dA t) (N1, .inr (.inr (.inr (.inr (fun j => F (j : Int))))))) (vp_cell (dA t) (N2, .inr (.inr (.inr (.inr (fun j => G1 (j : Int))))))) (zI sp) (zI dp) (zI q) = vp_cell (dA t) (N2, .inr (.inr (.inr (.inr (fun j => cpI F G1 sp dp q (j : Int)))))) := by
    rw [copied_R (dA t) (dA t) (fun j : Nat => F (j : Int)) (fun j : Nat => G1 (j : Int)) (by omega), gR_cpy hr]
  rw [e1] at X' step
  have hl : b < H.size := (Array.getElem?_eq_some_iff.mp hc1).1
  have hNb := (hH.2 b _ hb).1
  generalize hce : vp_cell (dA t) (N2, .inr (.inr (.inr (.inr (fun j => cpI F G1 sp dp q (j : Int)))))) = ce at X' step
  have oq : ∀ q : Nat, q ≠ b → (H.setIfInBounds b ce)[q]? = H[q]? := fun q hq => by simp [Array.getElem?_setIfInBounds, Ne.symm hq]
  have hb1 : (H.setIfInBounds b ce)[b]? = some ce := by simp [Array.getElem?_setIfInBounds, hl]
  have zz : (H.setIfInBounds b ce).size = H.size := by simp
  obtain ⟨t2, a1, b1⟩ := kk _ _ ls (hH.put hb (by rw [← hce] at hb1; rw [← hce]; exact hb1) zz oq) ⟨by rw [zz]; exact hS.1, fun x g1 g2 => by
      rw [oq x (fun e => g2 (by rw [e]; exact hNb))]
      exact hS.2.1 x g1 g2, fun x hx => by
      rcases List.mem_append.mp hx with h | h
      · exact hS.2.2 x h
      · obtain ⟨z, -, hz⟩ := List.mem_map.mp h
        rw [← hz]
        exact hNb⟩ hL _ (show ((T.setVm vm').setCell b ce).heap = _ by rw [← hT]; rfl) X'
  exact ⟨t2, step t2 a1, b1⟩
end GR4
section GX4
variable {X : gX} {cc : ByteArray} {own nm : String} {nL : Nat} {ret : Option FieldType} {D : va_G} {dA : Nat → ClassId} {N0 : Nat} {Y : State → Prop} {R : Room}
variable {k n : Nat} {h : gH} {sz pc : Nat} {L : List (Option Value)} {st : List Value} {P : Option Value → gH → Nat → Prop} {mc ms : Nat}

theorem g_callSUD (C : gC X cc own nm nL ret D dA N0 Y R) {y : MethodName} {cy : ByteArray} {nLy : Nat} {rty : Option FieldType} {fr lo mc ms i : Nat} {P : Option Value → gH → Nat → Prop} {b ci : Nat} {fs As rest st0 : List Value} {Cn : String} {T : u_T} {N : Nat} {x : MethodName} (hM : gM (gl X) D dA N0 Y y cy nLy rty fr lo mc ms (.ref b :: As) h sz P) (hcode : Cond.code y cy nLy rty ∈ lw_all) (hini : Cond.initialized y.cls ∈ lw_all) (hlk : va_Nw (.methodLink own i x) (gs X)) (hsame : va_Nw (.sameMethod x.cls y.cls x.name x.desc) (gs X)) (hsup : Cond.superclass own x.cls ∈ lw_all) (hsel : ∀ A : Array Value, (Cond.landsInDefault x.cls x y).before A (gs X) = true) (hxy : y = ⟨y.cls, x.name, x.desc⟩) (hinst : Cond.instanceMethod y ∈ lw_all) (hno : x.name ≠ "<init>") (hd : (parseMethodDescriptor x.desc).map (fun d => d.parameters.length) = some As.length) (hb : h b = some (gO ci fs)) (hc : vwCl[ci]? = some (Cn, T, N)) (hR : fr + 1 ≤ R.frames ∧ 8 + (nLy + 11) + lo ≤ R.locals) (hf : k + mc ≤ R.cells ∧ n + ms ≤ R.slots) (hst : st0 = As.reverse ++ .ref b :: rest) (hcat : (rest.map fun v => v.category).sum ≤ 8) (hdg : decode cc pc = .ok (.invokespecial i, 3)) (kk : ∀ (v : Option Value) (h1 : gH) (z1 : Nat), P v h1 z1 → G X (k + mc) (n + ms) h1 z1 (pc + 3) L (v.toList ++ rest)) : G X k n h sz pc L st0 := by
  obtain ⟨p, l, e, s, m, args, below, meth, c, R', Q, D', N0', nL'⟩ := X
  obtain ⟨⟨rfl, rfl, rfl, rfl⟩, C⟩ := C
  exact g0_callSUD C hM hcode hini hlk hsame hsup hsel hxy hinst hno hd hb hc hR hf hst hcat hdg kk
theorem g_callSUD1z (C : gC X cc own nm nL ret D dA N0 Y R) {y : MethodName} {cy : ByteArray} {nLy : Nat} {rty : Option FieldType} {fr lo i : Nat} {v1 : Value} {h1 : gH} {z1 : Nat} {b ci : Nat} {fs As rest st0 : List Value} {Cn : String} {T : u_T} {N : Nat} {x : MethodName} (hM : gM (gl X) D dA N0 Y y cy nLy rty fr lo 0 0 (.ref b :: As) h sz (gP (some v1) h1 z1)) (hcode : Cond.code y cy nLy rty ∈ lw_all) (hini : Cond.initialized y.cls ∈ lw_all) (hlk : va_Nw (.methodLink own i x) (gs X)) (hsame : va_Nw (.sameMethod x.cls y.cls x.name x.desc) (gs X)) (hsup : Cond.superclass own x.cls ∈ lw_all) (hsel : ∀ A : Array Value, (Cond.landsInDefault x.cls x y).before A (gs X) = true) (hxy : y = ⟨y.cls, x.name, x.desc⟩) (hinst : Cond.instanceMethod y ∈ lw_all) (hno : x.name ≠ "<init>") (hd : (parseMethodDescriptor x.desc).map (fun d => d.parameters.length) = some As.length) (hb : h b = some (gO ci fs)) (hc : vwCl[ci]? = some (Cn, T, N)) (hR : fr + 1 ≤ R.frames ∧ 8 + (nLy + 11) + lo ≤ R.locals) (hf : k ≤ R.cells ∧ n ≤ R.slots) (hst : st0 = As.reverse ++ .ref b :: rest) (hcat : (rest.map fun v => v.category).sum ≤ 8) (hdg : decode cc pc = .ok (.invokespecial i, 3)) (kk : G X k n h1 z1 (pc + 3) L (v1 :: rest)) : G X k n h sz pc L st0 :=
  g_callSUD C hM hcode hini hlk hsame hsup hsel hxy hinst hno hd hb hc hR hf hst hcat hdg (fun v h2 z2 hp => by obtain ⟨rfl, rfl, rfl⟩ := hp; exact kk)
theorem g_callSUD1 (C : gC X cc own nm nL ret D dA N0 Y R) {y : MethodName} {cy : ByteArray} {nLy : Nat} {rty : Option FieldType} {fr lo mc ms i : Nat} {v1 : Value} {h1 : gH} {z1 : Nat} {b ci : Nat} {fs As rest st0 : List Value} {Cn : String} {T : u_T} {N : Nat} {x : MethodName} (hM : gM (gl X) D dA N0 Y y cy nLy rty fr lo mc ms (.ref b :: As) h sz (gP (some v1) h1 z1)) (hcode : Cond.code y cy nLy rty ∈ lw_all) (hini : Cond.initialized y.cls ∈ lw_all) (hlk : va_Nw (.methodLink own i x) (gs X)) (hsame : va_Nw (.sameMethod x.cls y.cls x.name x.desc) (gs X)) (hsup : Cond.superclass own x.cls ∈ lw_all) (hsel : ∀ A : Array Value, (Cond.landsInDefault x.cls x y).before A (gs X) = true) (hxy : y = ⟨y.cls, x.name, x.desc⟩) (hinst : Cond.instanceMethod y ∈ lw_all) (hno : x.name ≠ "<init>") (hd : (parseMethodDescriptor x.desc).map (fun d => d.parameters.length) = some As.length) (hb : h b = some (gO ci fs)) (hc : vwCl[ci]? = some (Cn, T, N)) (hR : fr + 1 ≤ R.frames ∧ 8 + (nLy + 11) + lo ≤ R.locals) (hf : k + mc ≤ R.cells ∧ n + ms ≤ R.slots) (hst : st0 = As.reverse ++ .ref b :: rest) (hcat : (rest.map fun v => v.category).sum ≤ 8) (hdg : decode cc pc = .ok (.invokespecial i, 3)) (kk : G X (k + mc) (n + ms) h1 z1 (pc + 3) L (v1 :: rest)) : G X k n h sz pc L st0 :=
  g_callSUD C hM hcode hini hlk hsame hsup hsel hxy hinst hno hd hb hc hR hf hst hcat hdg (fun v h2 z2 hp => by obtain ⟨rfl, rfl, rfl⟩ := hp; exact kk)
theorem g_callSUD0z (C : gC X cc own nm nL ret D dA N0 Y R) {y : MethodName} {cy : ByteArray} {nLy : Nat} {rty : Option FieldType} {fr lo i : Nat} {h1 : gH} {z1 : Nat} {b ci : Nat} {fs As rest st0 : List Value} {Cn : String} {T : u_T} {N : Nat} {x : MethodName} (hM : gM (gl X) D dA N0 Y y cy nLy rty fr lo 0 0 (.ref b :: As) h sz (gP none h1 z1)) (hcode : Cond.code y cy nLy rty ∈ lw_all) (hini : Cond.initialized y.cls ∈ lw_all) (hlk : va_Nw (.methodLink own i x) (gs X)) (hsame : va_Nw (.sameMethod x.cls y.cls x.name x.desc) (gs X)) (hsup : Cond.superclass own x.cls ∈ lw_all) (hsel : ∀ A : Array Value, (Cond.landsInDefault x.cls x y).before A (gs X) = true) (hxy : y = ⟨y.cls, x.name, x.desc⟩) (hinst : Cond.instanceMethod y ∈ lw_all) (hno : x.name ≠ "<init>") (hd : (parseMethodDescriptor x.desc).map (fun d => d.parameters.length) = some As.length) (hb : h b = some (gO ci fs)) (hc : vwCl[ci]? = some (Cn, T, N)) (hR : fr + 1 ≤ R.frames ∧ 8 + (nLy + 11) + lo ≤ R.locals) (hf : k ≤ R.cells ∧ n ≤ R.slots) (hst : st0 = As.reverse ++ .ref b :: rest) (hcat : (rest.map fun v => v.category).sum ≤ 8) (hdg : decode cc pc = .ok (.invokespecial i, 3)) (kk : G X k n h1 z1 (pc + 3) L rest) : G X k n h sz pc L st0 :=
  g_callSUD C hM hcode hini hlk hsame hsup hsel hxy hinst hno hd hb hc hR hf hst hcat hdg (fun v h2 z2 hp => by obtain ⟨rfl, rfl, rfl⟩ := hp; exact kk)
theorem g_callSUD0 (C : gC X cc own nm nL ret D dA N0 Y R) {y : MethodName} {cy : ByteArray} {nLy : Nat} {rty : Option FieldType} {fr lo mc ms i : Nat} {h1 : gH} {z1 : Nat} {b ci : Nat} {fs As rest st0 : List Value} {Cn : String} {T : u_T} {N : Nat} {x : MethodName} (hM : gM (gl X) D dA N0 Y y cy nLy rty fr lo mc ms (.ref b :: As) h sz (gP none h1 z1)) (hcode : Cond.code y cy nLy rty ∈ lw_all) (hini : Cond.initialized y.cls ∈ lw_all) (hlk : va_Nw (.methodLink own i x) (gs X)) (hsame : va_Nw (.sameMethod x.cls y.cls x.name x.desc) (gs X)) (hsup : Cond.superclass own x.cls ∈ lw_all) (hsel : ∀ A : Array Value, (Cond.landsInDefault x.cls x y).before A (gs X) = true) (hxy : y = ⟨y.cls, x.name, x.desc⟩) (hinst : Cond.instanceMethod y ∈ lw_all) (hno : x.name ≠ "<init>") (hd : (parseMethodDescriptor x.desc).map (fun d => d.parameters.length) = some As.length) (hb : h b = some (gO ci fs)) (hc : vwCl[ci]? = some (Cn, T, N)) (hR : fr + 1 ≤ R.frames ∧ 8 + (nLy + 11) + lo ≤ R.locals) (hf : k + mc ≤ R.cells ∧ n + ms ≤ R.slots) (hst : st0 = As.reverse ++ .ref b :: rest) (hcat : (rest.map fun v => v.category).sum ≤ 8) (hdg : decode cc pc = .ok (.invokespecial i, 3)) (kk : G X (k + mc) (n + ms) h1 z1 (pc + 3) L rest) : G X k n h sz pc L st0 :=
  g_callSUD C hM hcode hini hlk hsame hsup hsel hxy hinst hno hd hb hc hR hf hst hcat hdg (fun v h2 z2 hp => by obtain ⟨rfl, rfl, rfl⟩ := hp; exact kk)
theorem g_mmax (C : gC X cc own nm nL ret D dA N0 Y R) {a b : Int} {i : Nat} (hl : Cond.methodLink own i Lib.Math.max.name ∈ lw_all) (hst : Cond.static Lib.Math.max.name ∈ lw_all) (hini : Cond.initialized "java/lang/Math" ∈ lw_all) (hcode : Cond.code Lib.Math.max.name Lib.Math.max.code 2 (some .int) ∈ lw_all) (hr : (-2147483648 ≤ a ∧ a ≤ 2147483647) ∧ -2147483648 ≤ b ∧ b ≤ 2147483647) (hcat : (st.map fun v => v.category).sum ≤ 8) (hR : 1 ≤ R.frames ∧ 21 ≤ R.locals) (hf : k ≤ R.cells ∧ n ≤ R.slots) (hdg : decode cc pc = .ok (.invokestatic i, 3)) (kk : G X k n h sz (pc + 3) L (vI (mxI a b) :: st)) : G X k n h sz pc L (vI b :: vI a :: st) := by
  obtain ⟨p, l, e, s, m, args, below, meth, c, R', Q, D', N0', nL'⟩ := X
  obtain ⟨⟨rfl, rfl, rfl, rfl⟩, C⟩ := C
  exact g0_mmax C hl hst hini hcode hr hcat hR hf hdg kk
theorem g_mmin (C : gC X cc own nm nL ret D dA N0 Y R) {a b : Int} {i : Nat} (hl : Cond.methodLink own i Lib.Math.min.name ∈ lw_all) (hst : Cond.static Lib.Math.min.name ∈ lw_all) (hini : Cond.initialized "java/lang/Math" ∈ lw_all) (hcode : Cond.code Lib.Math.min.name Lib.Math.min.code 2 (some .int) ∈ lw_all) (hr : (-2147483648 ≤ a ∧ a ≤ 2147483647) ∧ -2147483648 ≤ b ∧ b ≤ 2147483647) (hcat : (st.map fun v => v.category).sum ≤ 8) (hR : 1 ≤ R.frames ∧ 21 ≤ R.locals) (hf : k ≤ R.cells ∧ n ≤ R.slots) (hdg : decode cc pc = .ok (.invokestatic i, 3)) (kk : G X k n h sz (pc + 3) L (vI (minI a b) :: st)) : G X k n h sz pc L (vI b :: vI a :: st) := by
  obtain ⟨p, l, e, s, m, args, below, meth, c, R', Q, D', N0', nL'⟩ := X
  obtain ⟨⟨rfl, rfl, rfl, rfl⟩, C⟩ := C
  exact g0_mmin C hl hst hini hcode hr hcat hR hf hdg kk
theorem g_cloneI (C : gC X cc own nm nL ret D dA N0 Y R) {a N i : Nat} {F : Int → Int} (ha : h a = some (gI (dA 0) N F)) (hlk : Cond.methodLink own i ⟨"[I", "clone", "()Ljava/lang/Object;"⟩ ∈ lw_all) (hsame : Cond.sameMethod "[I" "java/lang/Object" "clone" "()Ljava/lang/Object;" ∈ lw_all) (hnat : Cond.native ⟨"java/lang/Object", "clone", "()Ljava/lang/Object;"⟩ ∈ lw_all) (hinst : Cond.instanceMethod ⟨"java/lang/Object", "clone", "()Ljava/lang/Object;"⟩ ∈ lw_all) (hsel : Cond.selects "[I" ⟨"[I", "clone", "()Ljava/lang/Object;"⟩ ⟨"java/lang/Object", "clone", "()Ljava/lang/Object;"⟩ ∈ lw_all) (hcl : va_Nw (.castable "[I" "java/lang/Cloneable") (gs X)) (hcat : (st.map fun v => v.category).sum ≤ 8) (hfr : 1 ≤ R.frames ∧ 22 ≤ R.locals) (hR : k + 1 ≤ R.cells ∧ n + N ≤ R.slots) (hdg : decode cc pc = .ok (.invokevirtual i, 3)) (kk : G X (k + 1) (n + N) (gup h sz (gI (dA 0) N F)) (sz + 1) (pc + 3) L (.ref sz :: st)) : G X k n h sz pc L (.ref a :: st) := by
  obtain ⟨p, l, e, s, m, args, below, meth, c, R', Q, D', N0', nL'⟩ := X
  obtain ⟨⟨rfl, rfl, rfl, rfl⟩, C⟩ := C
  exact g0_cloneI C ha hlk hsame hnat hinst hsel hcl hcat hfr hR hdg kk
theorem g_castI (C : gC X cc own nm nL ret D dA N0 Y R) {a N i : Nat} {F : Int → Int} (ha : h a = some (gI (dA 0) N F)) (hl : Cond.classLink own i "[I" ∈ lw_all) (hdg : decode cc pc = .ok (.checkcast i, 3)) (kk : G X k n h sz (pc + 3) L (.ref a :: st)) : G X k n h sz pc L (.ref a :: st) := by
  obtain ⟨p, l, e, s, m, args, below, meth, c, R', Q, D', N0', nL'⟩ := X
  obtain ⟨⟨rfl, rfl, rfl, rfl⟩, C⟩ := C
  exact g0_castI C ha hl hdg kk
theorem g_copyR (C : gC X cc own nm nL ret D dA N0 Y R) {a b N1 N2 i ci : Nat} {F G1 : Int → Option Nat} {sp dp q : Int} {T0 : u_T} {M : Nat} {Cn : String} (t : Nat) (ht : (gTys dA)[t]? = some (dA t, .object Cn)) (hc : vwCl[ci]? = some (Cn, T0, M)) (ha : h a = some (gR (dA t) N1 F)) (hb : h b = some (gR (dA t) N2 G1)) (hel : ∀ j : Int, 0 ≤ j → j < q → ∀ y : Nat, F (sp + j) = some y → ∃ fs, h y = some (gO ci fs)) (hr : (0 ≤ sp ∧ sp < 2147483648) ∧ (0 ≤ dp ∧ dp < 2147483648) ∧ 0 ≤ q ∧ q < 2147483648) (hr2 : sp + q ≤ N1 ∧ dp + q ≤ N2) (hlk : Cond.methodLink own i arraycopyName ∈ lw_all) (hnat : Cond.native arraycopyName ∈ lw_all) (hstat : Cond.static arraycopyName ∈ lw_all) (hini : Cond.initialized "java/lang/System" ∈ lw_all) (hcat : (st.map fun v => v.category).sum ≤ 8) (hfr : 1 ≤ R.frames) (hlo : 8 + (nativeFrameWords "java/lang/System" "arraycopy" 5 + 11) ≤ R.locals) (hdg : decode cc pc = .ok (.invokestatic i, 3)) (kk : G X k n (gup h b (gR (dA t) N2 (cpI F G1 sp dp q))) sz (pc + 3) L st) : G X k n h sz pc L (vI q :: vI dp :: .ref b :: vI sp :: .ref a :: st) := by
  obtain ⟨p, l, e, s, m, args, below, meth, c, R', Q, D', N0', nL'⟩ := X
  obtain ⟨⟨rfl, rfl, rfl, rfl⟩, C⟩ := C
  exact g0_copyR C t ht hc ha hb hel hr hr2 hlk hnat hstat hini hcat hfr hlo hdg kk
end GX4
