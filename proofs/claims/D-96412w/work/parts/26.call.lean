/-! CALLS: a call instruction up to the callee's entry (z_Iv), the callee by its contract, back in the frame or thrown -/
section ZIV
variable {p : Program} {l : Launch} {e : Env} {R : Room} {s : State} {m : MethodId} {args : Array Value} {below : List Frame} {meth : Method} {c : Code} {T : State} {locs : List Loc} {cells slots : Nat}
def z_Iv (p : Program) (l : Launch) (e : Env) (R : Room) (s : State) (m : MethodId) (args : Array Value) (below : List Frame) (meth : Method) (c : Code) (T : State) (locs : List Loc) (cells slots : Nat) (y : MethodName) (av : Array Value) (g : JFrame) (rest : List Value) : Prop :=
  ∃ (vm₁ : Vm) (mk : MethodId), s.WarmedH vm₁ ∧ Stand p l e R s m args below meth c (T.setVm vm₁) locs cells slots ∧ (T.setVm vm₁).methodNamed? y = some mk ∧ ∀ target, Steps p.tables e below (doInvoke e ((T.setVm vm₁).setTop { g with stack := rest }) [] mk av).1 target → Steps p.tables e below (T.setTop g) target
/-- the head word of a method -/
def z_cw (M : z_M) : Cond := match M.2.2.2.2 with | [] => Cond.code M.1 M.2.1 M.2.2.1 M.2.2.2.1 | hh => Cond.codeWith M.1 M.2.1 M.2.2.1 M.2.2.2.1 hh
theorem z_ws_eq (M : z_M) : z_ws M = z_cw M :: lw_all := rfl
theorem z_cspec {M : z_M} {U : State} {a : Array Value} {mk : MethodId} (hn : U.methodNamed? M.1 = some mk) (h : (z_cw M).before a U = true) : ∃ (mY : Method) (cY : Code), U.vm.method? mk = some mY ∧ mY.code = some cY ∧ cY.maxLocals = M.2.2.1 ∧ parseMethodDescriptor M.1.desc = some mY.sig := by
  unfold z_cw at h
  cases hh : M.2.2.2.2 with
  | nil =>
    rw [hh] at h
    obtain ⟨mY, cY, h1, h2, -, h4, -, -, -, h8⟩ := Cond.code_spec hn h
    exact ⟨mY, cY, h1, h2, h4, h8⟩
  | cons x t =>
    rw [hh] at h
    obtain ⟨m9, mY, cY, hn9, h1, h2, -, h4, -, -, -, h8⟩ := Cond.codeWith_spec h
    cases hn.symm.trans hn9
    exact ⟨mY, cY, h1, h2, h4, h8⟩
theorem z_cnamed {M : z_M} {U : State} {a : Array Value} (h : (z_cw M).before a U = true) : ∃ mk, U.methodNamed? M.1 = some mk := by
  unfold z_cw at h
  cases hh : M.2.2.2.2 with
  | nil =>
    rw [hh] at h
    exact Cond.code_named h
  | cons x t =>
    rw [hh] at h
    obtain ⟨m9, mY, cY, hn9, -⟩ := Cond.codeWith_spec h
    exact ⟨m9, hn9⟩
theorem z_good {M : z_M} (h : z_cw M ∈ lw_all) : GoodIn lw_all (z_ws M) := by
  intro w hw
  rw [z_ws_eq] at hw
  rcases List.mem_cons.mp hw with e | e
  · rw [e]; exact lw_self _ h
  · exact lw_self _ e
/-- invokevirtual: the method named is the one that runs -/
theorem z_ivV (X : Stand p l e R s m args below meth c T locs cells slots) (hexec : p.tables.exec = Jvm.exec) {own C : String} {index : Nat} {M : z_M}
    (hown : s.vm.findClass own = some m.cls) (hlink : (Cond.methodLink own index M.1).before args s = true) (hinst : (Cond.instanceMethod M.1).before args s = true) (hsel : (Cond.selects C M.1 M.1).before args s = true)
    (hcode : (z_cw M).before args s = true) (hy : M.1.cls ≠ "java/lang/invoke/MethodHandle" ∧ M.1.cls ≠ "java/lang/invoke/VarHandle")
    {b : Addr} {cellB : Cell} (hcell : T.heap[b]? = some cellB) (hobj : cellB.vm.isStatics = false) (hcls : s.vm.findClass C = some cellB.cls)
    {g : JFrame} (hg : g.method = m) {argsL rest : List Value} (hlen : ∀ sig, parseMethodDescriptor M.1.desc = some sig → argsL.length = sig.parameters.length)
    (hstack : g.stack = argsL.reverse ++ .ref b :: rest) (hdg : decode c.code g.pc = .ok (.invokevirtual index, 3)) :
    z_Iv p l e R s m args below meth c T locs cells slots M.1 (Value.ref b :: argsL).toArray g rest := by
  obtain ⟨mk, methM, hnamed, hmethM, hstM, habM⟩ := Cond.instanceMethod_spec hinst
  obtain ⟨methM', cM, hmethM', -, -, hsigM⟩ := z_cspec hnamed hcode
  cases hmethM.symm.trans hmethM'
  obtain ⟨c2, r2, m2, q1, q2, q3, q4, kP, hkP, hkPi⟩ := Cond.selects_spec hsel
  cases hcls.symm.trans q1
  cases (State.methodFound?_of_named hnamed hy).symm.trans q2
  cases hnamed.symm.trans q3
  have hselP : selectMethod e.platform s.vm cellB.cls mk = .method mk := by rw [Launch.admits_selectMethod X.admits]; exact q4
  obtain ⟨vm₁, X₁, hstep₁⟩ := X.invokevirtual hexec hown hlink hnamed hmethM hstM hkP hkPi hy (a := b) (cell := cellB) hcell
    (fun z h => by rw [h] at hobj; cases hobj) hselP hmethM habM hkP hkPi (g := g) hg (argsL := argsL) (rest := rest) (hlen _ hsigM) hstack hdg
  exact ⟨vm₁, mk, X₁.warmed, X₁, X₁.named hnamed, fun target h => hstep₁ _ fun acts => by rw [doInvoke_state]; exact h⟩
/-- invokevirtual of a method that is inherited or overridden: x is named, M runs -/
theorem z_ivU (X : Stand p l e R s m args below meth c T locs cells slots) (hexec : p.tables.exec = Jvm.exec) {own C owner : String} {index : Nat} {x : MethodName} {M : z_M}
    (hown : s.vm.findClass own = some m.cls) (hlink : (Cond.methodLink own index x).before args s = true) (hsame : (Cond.sameMethod x.cls owner x.name x.desc).before args s = true)
    (hd0 : va_Decl s ⟨owner, x.name, x.desc⟩) (howner : owner ≠ "java/lang/invoke/MethodHandle" ∧ owner ≠ "java/lang/invoke/VarHandle")
    (hsel : (Cond.selects C x M.1).before args s = true) (hinst : (Cond.instanceMethod M.1).before args s = true)
    {b : Addr} {cellB : Cell} (hcell : T.heap[b]? = some cellB) (hobj : cellB.vm.isStatics = false) (hcls : s.vm.findClass C = some cellB.cls)
    {g : JFrame} (hg : g.method = m) {argsL rest : List Value} (hlen : ∀ sig, parseMethodDescriptor x.desc = some sig → argsL.length = sig.parameters.length)
    (hstack : g.stack = argsL.reverse ++ .ref b :: rest) (hdg : decode c.code g.pc = .ok (.invokevirtual index, 3)) :
    z_Iv p l e R s m args below meth c T locs cells slots M.1 (Value.ref b :: argsL).toArray g rest := by
  obtain ⟨r0, r, hn, hrm, hstR, hsigR⟩ := hd0
  obtain ⟨cn, ck, r1, hcn, hck, hni, hf, hn1⟩ := Cond.sameMethod_found hsame
  cases hn.symm.trans hn1
  obtain ⟨mk, methM, hnamed, hmethM, -, habM⟩ := Cond.instanceMethod_spec hinst
  obtain ⟨c2, r2, m2, q1, q2, q3, q4, kP, hkP, hkPi⟩ := Cond.selects_spec hsel
  cases hcls.symm.trans q1
  cases hf.symm.trans q2
  cases hnamed.symm.trans q3
  have hselP : selectMethod e.platform s.vm cellB.cls r0 = .method mk := by rw [Launch.admits_selectMethod X.admits]; exact q4
  obtain ⟨vm₁, X₁, hstep₁⟩ := X.invokevirtualUp hexec hown hlink hsame howner hn hrm hstR (a := b) (cell := cellB) hcell
    (fun z h => by rw [h] at hobj; cases hobj) hselP hmethM habM hkP hkPi (g := g) hg (argsL := argsL) (rest := rest) (hlen _ hsigR) hstack hdg
  exact ⟨vm₁, mk, X₁.warmed, X₁, X₁.named hnamed, fun target h => hstep₁ _ fun acts => by rw [doInvoke_state]; exact h⟩
theorem z_ivS (X : Stand p l e R s m args below meth c T locs cells slots) (hexec : p.tables.exec = Jvm.exec) {own : String} {index : Nat} {M : z_M}
    (hown : s.vm.findClass own = some m.cls) (hlink : (Cond.methodLink own index M.1).before args s = true) (hstat : (Cond.static M.1).before args s = true) (hinit : (Cond.initialized M.1.cls).before args s = true)
    (hcode : (z_cw M).before args s = true) (hy : M.1.cls ≠ "java/lang/invoke/MethodHandle" ∧ M.1.cls ≠ "java/lang/invoke/VarHandle")
    {g : JFrame} (hg : g.method = m) {argsL rest : List Value} (hlen : ∀ sig, parseMethodDescriptor M.1.desc = some sig → argsL.length = sig.parameters.length)
    (hstack : g.stack = argsL.reverse ++ rest) (hdg : decode c.code g.pc = .ok (.invokestatic index, 3)) :
    z_Iv p l e R s m args below meth c T locs cells slots M.1 argsL.toArray g rest := by
  obtain ⟨mk, hnamed⟩ := z_cnamed hcode
  obtain ⟨methM, cM, hmethM, -, -, hsigM⟩ := z_cspec hnamed hcode
  have hstatic : methM.isStatic = true := Cond.static_spec hnamed hmethM hstat
  obtain ⟨kP, hkP, -⟩ := className_of_methodNamed hnamed
  have hinitP : kP.init = .initialized := Cond.initialized_spec (findClass_of_methodNamed hnamed) hkP hinit
  obtain ⟨vm₁, X₁, hstep₁⟩ := X.invokestatic hexec hown hlink hnamed hmethM hstatic hkP hinitP hy (g := g) hg (argsL := argsL) (rest := rest) (hlen _ hsigM) hstack hdg
  exact ⟨vm₁, mk, X₁.warmed, X₁, X₁.named hnamed, fun target h => hstep₁ _ fun acts => by rw [doInvoke_state]; exact h⟩
theorem z_ivI (X : Stand p l e R s m args below meth c T locs cells slots) (hexec : p.tables.exec = Jvm.exec) {own : String} {index : Nat} {y : MethodName} {bytes : ByteArray} {maxL : Nat}
    (hown : s.vm.findClass own = some m.cls) (hy1 : y.name = "<init>") (hlink : (Cond.methodLink own index y).before args s = true) (hinst : (Cond.instanceMethod y).before args s = true)
    (hcode : (Cond.code y bytes maxL none).before args s = true) (hy : y.cls ≠ "java/lang/invoke/MethodHandle" ∧ y.cls ≠ "java/lang/invoke/VarHandle")
    {g : JFrame} (hg : g.method = m) {a : Addr} {argsL rest : List Value} (hlen : ∀ sig, parseMethodDescriptor y.desc = some sig → argsL.length = sig.parameters.length)
    (hstack : g.stack = argsL.reverse ++ .ref a :: rest) (hdg : decode c.code g.pc = .ok (.invokespecial index, 3)) :
    z_Iv p l e R s m args below meth c T locs cells slots y (Value.ref a :: argsL).toArray g rest := by
  subst hg
  have hpl : e.platform.magicAccessors = ({} : Platform).magicAccessors := by rw [X.admits.platform]
  obtain ⟨mk, methM, cM, kP, vm₁, hnamed, hmethM, hcodeM, -, hlocalsM, -, hkP, -, hW₁, hstep₁⟩ := Steps.initColdArgs (e := e) X.here hexec X.warmed hpl hown hy1 hy hlink hinst hcode (f := g) rfl hlen hstack hdg
  have X₁ := X.noted hW₁
  exact ⟨vm₁, mk, X₁.warmed, X₁, X₁.named hnamed, fun target h => hstep₁ _ fun acts => by rw [doInvoke_state]; exact h⟩
/-- super.m(..) -/
theorem z_ivSU (X : Stand p l e R s m args below meth c T locs cells slots) (hexec : p.tables.exec = Jvm.exec) {own : String} {index : Nat} {M : z_M}
    (hown : s.vm.findClass own = some m.cls) (hlink : (Cond.methodLink own index M.1).before args s = true) (hsame : (Cond.sameMethod M.1.cls M.1.cls M.1.name M.1.desc).before args s = true) (hsup : (Cond.superclass own M.1.cls).before args s = true)
    (hinst : (Cond.instanceMethod M.1).before args s = true) (hcode : (z_cw M).before args s = true) (hno : M.1.name ≠ "<init>")
    {b : Addr} {cellB : Cell} {kB : Class} (hcell : T.heap[b]? = some cellB) (hobj : cellB.vm.isStatics = false) (hkB : s.vm.classes[cellB.cls]? = some kB)
    {g : JFrame} (hg : g.method = m) {argsL rest : List Value} (hlen : ∀ sig, parseMethodDescriptor M.1.desc = some sig → argsL.length = sig.parameters.length)
    (hstack : g.stack = argsL.reverse ++ .ref b :: rest) (hdg : decode c.code g.pc = .ok (.invokespecial index, 3)) :
    z_Iv p l e R s m args below meth c T locs cells slots M.1 (Value.ref b :: argsL).toArray g rest := by
  obtain ⟨mk, methM, hnamed, hmethM, hstM, habM⟩ := Cond.instanceMethod_spec hinst
  obtain ⟨methM', cM, hmethM', -, -, hsigM⟩ := z_cspec hnamed hcode
  cases hmethM.symm.trans hmethM'
  obtain ⟨ps, dk, kp, hps, hdk, hkp, hsuper, -, -, hnid⟩ := Cond.superclass_spec hown hsup
  have hn : s.methodNamed? ⟨M.1.cls, M.1.name, M.1.desc⟩ = some mk := hnamed
  have hpm : ps = mk.cls := Option.some.inj (hps.symm.trans (findClass_of_methodNamed hnamed))
  have hsub : s.vm.isSubclass ps mk.cls = true := by rw [hpm]; simp [Vm.isSubclass, Vm.isSubclassAux]
  obtain ⟨vm₁, X₁, hstep₁⟩ := X.invokespecialUp hexec hown hlink hsame hn hmethM hstM habM hno hdk hnid hps hsuper hsub (a := b) (cell := cellB) hcell
    (fun z h => by rw [h] at hobj; cases hobj) hkB (g := g) hg (argsL := argsL) (rest := rest) (hlen _ hsigM) hstack hdg
  exact ⟨vm₁, mk, X₁.warmed, X₁, X₁.named hnamed, fun target h => hstep₁ _ (by rw [doInvoke_state]; exact h)⟩
theorem z_ivVN (X : Stand p l e R s m args below meth c T locs cells slots) (hexec : p.tables.exec = Jvm.exec) {own C host : String} {index : Nat} {M : z_M}
    (hown : s.vm.findClass own = some m.cls) (hlink : (Cond.methodLinkNest own index M.1 host).before args s = true) (hinst : (Cond.instanceMethod M.1).before args s = true) (hsel : (Cond.selects C M.1 M.1).before args s = true)
    (hcode : (z_cw M).before args s = true) (hy : M.1.cls ≠ "java/lang/invoke/MethodHandle" ∧ M.1.cls ≠ "java/lang/invoke/VarHandle")
    {b : Addr} {cellB : Cell} (hcell : T.heap[b]? = some cellB) (hobj : cellB.vm.isStatics = false) (hcls : s.vm.findClass C = some cellB.cls)
    {g : JFrame} (hg : g.method = m) {argsL rest : List Value} (hlen : ∀ sig, parseMethodDescriptor M.1.desc = some sig → argsL.length = sig.parameters.length)
    (hstack : g.stack = argsL.reverse ++ .ref b :: rest) (hdg : decode c.code g.pc = .ok (.invokevirtual index, 3)) :
    z_Iv p l e R s m args below meth c T locs cells slots M.1 (Value.ref b :: argsL).toArray g rest := by
  obtain ⟨mk, methM, hnamed, hmethM, hstM, habM⟩ := Cond.instanceMethod_spec hinst
  obtain ⟨methM', cM, hmethM', -, -, hsigM⟩ := z_cspec hnamed hcode
  cases hmethM.symm.trans hmethM'
  obtain ⟨c2, r2, m2, q1, q2, q3, q4, kP, hkP, hkPi⟩ := Cond.selects_spec hsel
  cases hcls.symm.trans q1
  cases (State.methodFound?_of_named hnamed hy).symm.trans q2
  cases hnamed.symm.trans q3
  have hselP : selectMethod e.platform s.vm cellB.cls mk = .method mk := by rw [Launch.admits_selectMethod X.admits]; exact q4
  obtain ⟨vm₁, X₁, hstep₁⟩ := X.invokevirtualNest hexec hown hlink hnamed hmethM hstM hkP hkPi hy (a := b) (cell := cellB) hcell
    (fun z h => by rw [h] at hobj; cases hobj) hselP hmethM habM hkP hkPi (g := g) hg (argsL := argsL) (rest := rest) (hlen _ hsigM) hstack hdg
  exact ⟨vm₁, mk, X₁.warmed, X₁, X₁.named hnamed, fun target h => hstep₁ _ fun acts => by rw [doInvoke_state]; exact h⟩
theorem z_ivSN (X : Stand p l e R s m args below meth c T locs cells slots) (hexec : p.tables.exec = Jvm.exec) {own host : String} {index : Nat} {M : z_M}
    (hown : s.vm.findClass own = some m.cls) (hlink : (Cond.methodLinkNest own index M.1 host).before args s = true) (hstat : (Cond.static M.1).before args s = true) (hinit : (Cond.initialized M.1.cls).before args s = true)
    (hcode : (z_cw M).before args s = true) (hy : M.1.cls ≠ "java/lang/invoke/MethodHandle" ∧ M.1.cls ≠ "java/lang/invoke/VarHandle")
    {g : JFrame} (hg : g.method = m) {argsL rest : List Value} (hlen : ∀ sig, parseMethodDescriptor M.1.desc = some sig → argsL.length = sig.parameters.length)
    (hstack : g.stack = argsL.reverse ++ rest) (hdg : decode c.code g.pc = .ok (.invokestatic index, 3)) :
    z_Iv p l e R s m args below meth c T locs cells slots M.1 argsL.toArray g rest := by
  obtain ⟨mk, hnamed⟩ := z_cnamed hcode
  obtain ⟨methM, cM, hmethM, -, -, hsigM⟩ := z_cspec hnamed hcode
  have hstatic : methM.isStatic = true := Cond.static_spec hnamed hmethM hstat
  obtain ⟨kP, hkP, -⟩ := className_of_methodNamed hnamed
  have hinitP : kP.init = .initialized := Cond.initialized_spec (findClass_of_methodNamed hnamed) hkP hinit
  obtain ⟨vm₁, X₁, hstep₁⟩ := X.invokestaticNest hexec hown hlink hnamed hmethM hstatic hkP hinitP hy (g := g) hg (argsL := argsL) (rest := rest) (hlen _ hsigM) hstack hdg
  exact ⟨vm₁, mk, X₁.warmed, X₁, X₁.named hnamed, fun target h => hstep₁ _ fun acts => by rw [doInvoke_state]; exact h⟩
theorem z_ivIN (X : Stand p l e R s m args below meth c T locs cells slots) (hexec : p.tables.exec = Jvm.exec) {own host : String} {index : Nat} {y : MethodName} {bytes : ByteArray} {maxL : Nat}
    (hown : s.vm.findClass own = some m.cls) (hy1 : y.name = "<init>") (hlink : (Cond.methodLinkNest own index y host).before args s = true) (hinst : (Cond.instanceMethod y).before args s = true)
    (hcode : (Cond.code y bytes maxL none).before args s = true) (hy : y.cls ≠ "java/lang/invoke/MethodHandle" ∧ y.cls ≠ "java/lang/invoke/VarHandle")
    {g : JFrame} (hg : g.method = m) {a : Addr} {argsL rest : List Value} (hlen : ∀ sig, parseMethodDescriptor y.desc = some sig → argsL.length = sig.parameters.length)
    (hstack : g.stack = argsL.reverse ++ .ref a :: rest) (hdg : decode c.code g.pc = .ok (.invokespecial index, 3)) :
    z_Iv p l e R s m args below meth c T locs cells slots y (Value.ref a :: argsL).toArray g rest := by
  subst hg
  have hpl : e.platform.magicAccessors = ({} : Platform).magicAccessors := by rw [X.admits.platform]
  obtain ⟨mk, methM, cM, kP, vm₁, hnamed, hmethM, hcodeM, -, hlocalsM, -, hkP, -, hW₁, hstep₁⟩ := Steps.initColdArgsNest (e := e) X.here hexec X.warmed hpl hown hy1 hy hlink hinst hcode (f := g) rfl hlen hstack hdg
  have X₁ := X.noted hW₁
  exact ⟨vm₁, mk, X₁.warmed, X₁, X₁.named hnamed, fun target h => hstep₁ _ fun acts => by rw [doInvoke_state]; exact h⟩
/-- the callee, by its contract, from the caller's frame: it comes back, or throws into the frame -/
theorem z_bk {Γ : z_W} {M : z_M} {rm : Room} {av : List Value} {h : z_H} {Q : Outcome → z_H → Prop} (hC : z_C Γ M rm av h Q) (X : Stand p l e R s m args below meth c T locs cells slots) {g : JFrame} (hg : g.method = m) (hsize : g.locals.size = c.maxLocals) {ig : Instr} {len : Nat} (hdg : decode c.code g.pc = .ok (ig, len))
    {mk : MethodId} (hn : T.methodNamed? M.1 = some mk) (hpre : ∀ w ∈ z_ws M, w.before (av.map (z_cv Γ)).toArray T = true) (hini : (Cond.initialized M.1.cls).before (av.map (z_cv Γ)).toArray T = true) (hframes : rm.frames + 1 ≤ R.frames) (hlocals : 2 * g.monitorRoom + (g.stack.map fun v => v.category).sum + (M.2.2.1 + 11) + rm.locals ≤ R.locals) (h4 : cells + rm.cells ≤ R.cells) (h5 : slots + rm.slots ≤ R.slots)
    (hK : z_K Γ l T) (hR : z_Rl Γ h T.heap) :
    ∃ (o : Outcome) (h' : z_H) (T' : State) (L : List Loc), Q o h' ∧ Stand p l e R s m args below meth c T' (locs ++ L) (cells + rm.cells) (slots + rm.slots) ∧ (∀ q ∈ L, z_B Γ ≤ q.base) ∧ z_Rl Γ h' T'.heap ∧
      match o with
      | .returned v => Steps p.tables e below (doInvoke e (T.setTop g) [] mk (av.map (z_cv Γ)).toArray).1 (T'.setTop { g with pc := g.pc + len, stack := (v.map (z_cv Γ)).toList ++ g.stack })
      | .threw x => Steps p.tables e below (doInvoke e (T.setTop g) [] mk (av.map (z_cv Γ)).toArray).1 ((T'.setTop g).pushFrame (.throwing (z_ad Γ x))) := by
  obtain ⟨mY, cY, hmY, hcY, hlY, -⟩ := z_cspec hn (hpre _ (by rw [z_ws_eq]; exact List.mem_cons_self))
  obtain ⟨kY, hkY, -⟩ := className_of_methodNamed hn
  have hinitY : kY.init = .initialized := Cond.initialized_spec (findClass_of_methodNamed hn) hkY hini
  have hAt : At T g.method c below := by rw [hg]; exact X.here
  have happ : (headSpec (z_ws M) rm).appliesLoose M.1 e.platform (T.calling g mk (av.map (z_cv Γ)).toArray) = true :=
    Spec.appliesLoose_calling (g := g) hAt hdg hn hkY hinitY (X.room_calling (g := g) (R' := rm) hsize hmY hcY hframes (by rw [hlY]; omega) h4 h5) (atoms_intro hpre)
  obtain ⟨mid, hmid⟩ := hAt.above
  have hfr : (T.setTop g).frames = (.java g :: mid) ++ below := by rw [State.frames_setTop' g hAt.top, hmid]; rfl
  obtain ⟨o, s₂, hsteps, -, hend, hq⟩ := Steps.callFree (hC l) p X.admits X.cas X.clock (acts := []) hfr happ ⟨rfl, z_K.vm (s := T) rfl hK, hR⟩ trivial
  have hq' : ∃ o' h', o = z_oc Γ o' ∧ Q o' h' ∧ z_Rl Γ h' s₂.heap ∧ (T.calling g mk (av.map (z_cv Γ)).toArray).WarmedH s₂.vm ∧ ∃ L, (T.calling g mk (av.map (z_cv Γ)).toArray).sameButNew ({ s₂ with vm := (T.calling g mk (av.map (z_cv Γ)).toArray).vm } : State) L rm.cells rm.slots ∧ ∀ q ∈ L, z_B Γ ≤ q.base := hq
  obtain ⟨o', h', rfl, hQ, hR', hW₂, L, hsm, hL⟩ := hq'
  rw [State.frames_setTop' g hAt.top, X.tail] at hend
  cases o' with
  | returned v =>
    obtain ⟨e2, q2, q3, q4, q5, q6⟩ := hsm
    have e3 : s₂ = ({ (T.calling g mk (av.map (z_cv Γ)).toArray).setFrames s₂.frames with heap := s₂.heap, slotsUsed := s₂.slotsUsed } : State).setVm s₂.vm := by
      have : s₂ = ({ s₂ with vm := (T.calling g mk (av.map (z_cv Γ)).toArray).vm } : State).setVm s₂.vm := rfl
      rw [e2] at this
      exact this
    obtain ⟨c₂, i₂, len₂, hc₂, hd₂, hf₂⟩ := hend
    have hW' : T.WarmedH s₂.vm := hW₂
    have hcc : c₂ = c := by
      have h1 : s₂.code? g.method = T.code? g.method := by
        rw [State.code?_eq, State.code?_eq, hW'.alike.method?]
      exact Option.some.inj (hc₂.symm.trans (h1.trans hAt.code))
    subst hcc
    have hlen : len₂ = len := by rw [hdg] at hd₂; cases hd₂; rfl
    subst hlen
    obtain ⟨g₀, hr⟩ := X.frames_eq
    have hs₂ : s₂ = (({ T with heap := s₂.heap, slotsUsed := s₂.slotsUsed } : State).setVm s₂.vm).setTop { g with pc := g.pc + len₂, stack := (v.map (z_cv Γ)).toList ++ g.stack } := by
      have hr' : (({ T with heap := s₂.heap, slotsUsed := s₂.slotsUsed } : State).setVm s₂.vm).frames = .java g₀ :: below := hr
      refine e3.trans ?_
      rw [hf₂, State.calling_eq hAt.top, State.setFrames_setFrames, State.setTop_of_frames _ hr']
      rfl
    have hsame : T.sameButNew ({ T with heap := s₂.heap, slotsUsed := s₂.slotsUsed } : State) L rm.cells rm.slots := by
      refine ⟨?_, q2, q3, q4, q5, q6⟩
      obtain ⟨t, ht, -⟩ := State.frames_cons hr
      show ({ T with heap := s₂.heap, slotsUsed := s₂.slotsUsed } : State) = { T.setFrames T.frames with heap := s₂.heap, slotsUsed := s₂.slotsUsed }
      rw [State.setFrames_self ht]
    subst hg
    refine ⟨.returned v, h', ({ T with heap := s₂.heap, slotsUsed := s₂.slotsUsed } : State).setVm s₂.vm, L, hQ, ⟨X.admits, X.cas, X.clock, X.frames, X.room, X.hears, X.method, X.code, (X.here.setHeapUsed s₂.heap s₂.slotsUsed).setVm hW'.alike, X.tail, State.WarmedH.trans X.warmed hW', X.limits, X.bytes, X.same.trans (hsame.setVm s.vm)⟩, hL, hR', ?_⟩
    show Steps p.tables e below _ ((({ T with heap := s₂.heap, slotsUsed := s₂.slotsUsed } : State).setVm s₂.vm).setTop { g with pc := g.pc + len₂, stack := (v.map (z_cv Γ)).toList ++ g.stack })
    rw [← hs₂]
    exact hsteps
  | threw x =>
    obtain ⟨T', X', -, -, ht⟩ := X.outOfThrown hg hend hW₂ hsm
    refine ⟨.threw x, h', T', L, hQ, X', hL, ?_, ?_⟩
    · rw [ht, throwing_heap] at hR'
      exact hR'
    · show Steps p.tables e below _ ((T'.setTop g).pushFrame (.throwing (z_ad Γ x)))
      rw [← ht]
      exact hsteps
end ZIV
