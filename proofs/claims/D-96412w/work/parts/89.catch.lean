/-! CATCHING: the search through a method's handlers, their classes cold or warm (by hand). -/
section ZFIND
variable {E : CtlPost} {e : Env} {d : Bool} {acts : List Action} {f : JFrame} {a : Addr} {Q : Handler → Pre}
theorem z_go {s : State} {x : ExceptionTableEntry} {t : List ExceptionTableEntry} {c : ClassId} {w : Cell} (hx : covers x f.pc = true) (h0 : x.catchType ≠ 0) (hl : s.vm.ClassLinks e.platform f.method.cls x.catchType c) (hcell : s.heap[a]? = some w) (hobj : ∀ k, w.vm ≠ .statics k) (hk : ∃ k, s.vm.classes[w.cls]? = some k) (hc : ∃ k, s.vm.classes[c]? = some k) :
    wp (findHandler.go f a (x :: t)) Q E e d acts s ↔ if s.vm.assignable w.cls c = true then Q (.found x.handlerPc) d acts (s.setVm (s.vm.noted f.method.cls x.catchType (.cls c))) else wp (findHandler.go f a t) Q E e d acts (s.setVm (s.vm.noted f.method.cls x.catchType (.cls c))) := by
  simp only [covers] at hx
  obtain ⟨q1, q2⟩ := (resolveClass_links e.toSetting hl).op (op := VmOp.resolveClass f.method.cls x.catchType) rfl
  have hal : s.vm.Alike (s.vm.noted f.method.cls x.catchType (.cls c)) := (Vm.Alike.refl s.vm).noted _ _ _
  obtain ⟨k1, hk1⟩ := hk
  obtain ⟨k2, hk2⟩ := hc
  obtain ⟨k3, hk3, -⟩ := hal.2.2 _ _ hk1
  obtain ⟨k4, hk4, -⟩ := hal.2.2 _ _ hk2
  have hfe := hal.assignable w.cls c
  cases hfit : s.vm.assignable w.cls c
  · rw [hfit] at hfe
    simp [findHandler.go, hx, h0, q1, q2, hcell, hobj, hk3, hk4, hfe, VmOp.dirties, VmOp.acts]
  · rw [hfit] at hfe
    simp [findHandler.go, hx, h0, q1, q2, hcell, hobj, hk3, hk4, hfe, VmOp.dirties, VmOp.acts]
/-- a handler that is passed: it does not cover the place, or its class is another -/
def z_Ps (args : Array Value) (s : State) (own : String) (pc : Nat) (w : Cell) (y : ExceptionTableEntry) : Prop := covers y pc = false ∨ (covers y pc = true ∧ y.catchType ≠ 0 ∧ ∃ name cT, (Cond.classLink own y.catchType name).before args s = true ∧ s.vm.findClass name = some cT ∧ s.vm.assignable w.cls cT = false)
theorem z_find {args : Array Value} {s : State} {own name : String} {w : Cell} {x : ExceptionTableEntry} {rest : List ExceptionTableEntry} {cT : ClassId} (hpl : e.platform.magicAccessors = ({} : Platform).magicAccessors) (hown : s.vm.findClass own = some f.method.cls) (hobj : ∀ k, w.vm ≠ .statics k) (hk : ∃ k, s.vm.classes[w.cls]? = some k)
    (hx : covers x f.pc = true) (h0 : x.catchType ≠ 0) (hlink : (Cond.classLink own x.catchType name).before args s = true) (hcT : s.vm.findClass name = some cT) (hfit : s.vm.assignable w.cls cT = true) :
    ∀ (pre : List ExceptionTableEntry) (S : State), s.WarmedH S.vm → S.heap[a]? = some w → (∀ y ∈ pre, z_Ps args s own f.pc w y) → ∃ vm', s.WarmedH vm' ∧ ∀ (Q : Handler → Pre) (E : CtlPost) (d : Bool) (acts : List Action), wp (findHandler.go f a (pre ++ x :: rest)) Q E e d acts S ↔ Q (.found x.handlerPc) d acts (S.setVm vm') := by
  have key : ∀ (S : State) (ct : Nat) (nm : String) (c' : ClassId), s.WarmedH S.vm → (Cond.classLink own ct nm).before args s = true → s.vm.findClass nm = some c' → S.vm.ClassLinks e.platform f.method.cls ct c' ∧ s.WarmedH (S.vm.noted f.method.cls ct (.cls c')) ∧ (∃ k, S.vm.classes[c']? = some k) ∧ ∃ k, S.vm.classes[w.cls]? = some k := by
    intro S ct nm c' hW hl hc
    obtain ⟨c2, hc2, hcl⟩ := Cond.classLink_spec hown hl e.platform hpl
    cases hc.symm.trans hc2
    obtain ⟨dk, _, _, kt, hd, _, _, _, _, hkt, _, hopen⟩ := hcl.here
    obtain ⟨k1, hk1⟩ := hk
    obtain ⟨k2, hk2, -⟩ := hW.alike.2.2 _ _ hkt
    obtain ⟨k3, hk3, -⟩ := hW.alike.2.2 _ _ hk1
    exact ⟨hW.classLinks hcl, hW.noted hd hopen (State.rightAt_cls hcl), ⟨k2, hk2⟩, k3, hk3⟩
  intro pre
  induction pre with
  | nil =>
    intro S hW hcell _
    obtain ⟨g1, g2, g3, g4⟩ := key S _ _ _ hW hlink hcT
    refine ⟨_, g2, fun Q E d acts => ?_⟩
    rw [List.nil_append, z_go hx h0 g1 hcell hobj g4 g3, if_pos (by rw [hW.alike.assignable]; exact hfit)]
  | cons y ys ih =>
    intro S hW hcell hp
    have hp2 : ∀ z ∈ ys, z_Ps args s own f.pc w z := fun z hz => hp z (List.mem_cons_of_mem _ hz)
    rcases hp y List.mem_cons_self with hn | ⟨hy, hy0, nm, c', y1, y2, y3⟩
    · obtain ⟨vm', h1, h2⟩ := ih S hW hcell hp2
      exact ⟨vm', h1, fun Q E d acts => by rw [List.cons_append, W.findHandler_go_skip hn]; exact h2 Q E d acts⟩
    · obtain ⟨g1, g2, g3, g4⟩ := key S _ _ _ hW y1 y2
      obtain ⟨vm', h1, h2⟩ := ih (S.setVm (S.vm.noted f.method.cls y.catchType (.cls c'))) g2 hcell hp2
      exact ⟨vm', h1, fun Q E d acts => by
        rw [List.cons_append, z_go hy hy0 g1 hcell hobj g4 g3, if_neg (by rw [hW.alike.assignable, y3]; decide)]
        exact h2 Q E d acts⟩
theorem z_caught {tb : Tables} {e : Env} {s target : State} {g : JFrame} {c : Code} {below : List Frame} {a : Addr} {meth : Method} (h : At s g.method c below) (hm : s.vm.method? g.method = some meth) (hc : meth.code = some c) {pc : Nat} {vm' : Vm}
    (hf : ∀ (Q : Handler → Pre) (E : CtlPost) (d : Bool) (acts : List Action), wp (findHandler.go g a c.exceptionTable.toList) Q E e d acts ((s.setTop g).pushFrame (.throwing a)) ↔ Q (.found pc) d acts (((s.setTop g).pushFrame (.throwing a)).setVm vm')) (hrest : Steps tb e below ((s.setVm vm').setTop { g with pc := pc, stack := [.ref a] }) target) :
    Steps tb e below ((s.setTop g).pushFrame (.throwing a)) target := by
  obtain ⟨hgo, hw⟩ := h.throwing a
  have hm2 : ((s.setTop g).pushFrame (.throwing a)).vm.method? g.method = some meth := by rw [Stand.throwing_vm]; exact hm
  have hstep : (stepThrowing e ((s.setTop g).pushFrame (.throwing a)) a (.java g :: s.frames.tail)).Is ((((s.setTop g).pushFrame (.throwing a)).setVm vm').setFrames (.java { g with pc := pc, stack := [.ref a] } :: s.frames.tail)) [] := by
    simp only [stepThrowing, searchFrame, vmDo]
    generalize hr : Sem.go _ e false [] ((s.setTop g).pushFrame (.throwing a)) = res
    obtain ⟨as, rfl, ha⟩ := Sem.eq_ok_of hr (a := Handler.found pc) (s' := ((s.setTop g).pushFrame (.throwing a)).setVm vm') (acts' := []) (by simp [W.findHandler_eq hm2 hc, hf])
    exact ⟨rfl, ha⟩
  refine Steps.head hgo hw ?_
  obtain ⟨g₀, hg⟩ := Option.isSome_iff_exists.mp h.top
  obtain ⟨r, hr⟩ := State.topJava?_eq_some.mp hg
  have hr2 : (s.setVm vm').frames = .java g₀ :: r := hr
  rw [stepThread_throwing (frames_entered h.top _), hstep.1]
  rw [State.setTop_of_frames _ hr2] at hrest
  have e1 : s.frames.tail = r := by rw [hr]; rfl
  rw [e1, State.pushFrame, State.setTop_of_frames _ hr]
  have e2 : ∀ (u : State) (F G : List Frame), ((u.setFrames F).setVm vm').setFrames G = (u.setVm vm').setFrames G := fun u F G => by
    have h1 : (u.setFrames F).setVm vm' = (u.setVm vm').setFrames F := rfl
    rw [h1, State.setFrames_setFrames]
  rw [e2, e2]
  exact hrest
end ZFIND
section ZCATCH
variable {Γ : z_W} {M : z_M} {rm : Room} {Q : Outcome → z_H → Prop} {cs ss pc : Nat} {ls : List (Option Value)} {st : List Value} {h : z_H}
/-- no object of the class C is of the class D -/
def z_nca (C D : String) : Prop := ∀ (A : Array Value) (s0 : State), narrow_1.before A s0 = true → (Cond.not (.castable C D)).before A s0 = true
theorem z_nca.use {Γ : z_W} {l : Launch} {s : State} {C D : String} {c d : ClassId} (hn : z_nca C D) (hK : z_K Γ l s) (hc : s.vm.findClass C = some c) (hd : s.vm.findClass D = some d) : s.vm.assignable c d = false := by
  obtain ⟨-, -, s0, a0, e1, e2, e3, e4, -⟩ := hK.2.2.2.2.2.2.2
  have h1 := Cond.castAtom_setVm (args := a0) e2.alike (.not (.castable C D)) rfl (hn a0 s0 e4)
  simp only [Cond.before, Cond.holds, Cond.value] at h1
  have f1 : (s0.setVm s.vm).vm.findClass C = some c := hc
  have f2 : (s0.setVm s.vm).vm.findClass D = some d := hd
  simp only [f1, f2] at h1
  cases hq : s.vm.assignable c d
  · rfl
  · have : (s0.setVm s.vm).vm.assignable c d = true := hq
    simp [this] at h1
    rw [hq] at h1
    cases h1
/-- caught -/
theorem z_thCatch {x hs he hp ct : Nat} {C name : String} (hX : z_Xo h x C) (pre post : List (Nat × Nat × Nat × Nat)) (hM : M.2.2.2.2 = pre ++ (hs, he, hp, ct) :: post) (hpass : ∀ y ∈ pre, ¬ (y.1 ≤ pc ∧ pc < y.2.1) ∨ ((y.1 ≤ pc ∧ pc < y.2.1) ∧ y.2.2.2 ≠ 0 ∧ ∃ nm, Cond.classLink M.1.cls y.2.2.2 nm ∈ lw_all ∧ z_nca C nm)) (hcov : hs ≤ pc ∧ pc < he) (h0 : ct ≠ 0) (hlk : Cond.classLink M.1.cls ct name ∈ lw_all) (hcast : Cond.castable C name ∈ lw_tbl) (kk : z_G Γ M rm Q cs ss hp ls [.ref x] h) : z_Th Γ M rm Q cs ss pc ls h x := by
  intro p l e s m args below meth c H locs la st X hR hL hl T hT S
  have hK := X.2.2.2.2.2.2.2.2.2
  have hts := X.2.2.2.2.2.1
  have hpl : e.platform.magicAccessors = ({} : Platform).magicAccessors := by rw [S.admits.platform]
  obtain ⟨w, w1, w2, w3⟩ := hX.cell hK hR
  obtain ⟨c0, t0, f1, f2, f3⟩ := Cond.castable_spec (va_Nw.use (A := args) rfl (hK.2.2.2.1 _ hcast rfl))
  cases w3.symm.trans f1
  obtain ⟨kW, hkW, -⟩ := Vm.findClass_spec w3
  have hmap := X.2.2.2.2.2.2.2.2.1
  rw [hM] at hmap
  obtain ⟨P, R', hPR, hP, hR2⟩ := List.map_eq_append_iff.mp hmap
  obtain ⟨xe, R3, rfl, hxe, hR3⟩ := List.map_eq_cons_iff.mp hR2
  have ex : xe.startPc = hs ∧ xe.endPc = he ∧ xe.handlerPc = hp ∧ xe.catchType = ct := by
    simp only [Prod.mk.injEq] at hxe
    exact hxe
  obtain ⟨x1, x2, x3, x4⟩ := ex
  have hcovx : covers xe pc = true := by simp only [covers, x1, x2, Bool.and_eq_true, decide_eq_true_eq]; exact hcov
  have hps : ∀ y ∈ P, z_Ps args s M.1.cls pc w y := by
    intro y hy
    have hy2 : (y.startPc, y.endPc, y.handlerPc, y.catchType) ∈ pre := by
      rw [← hP]
      exact List.mem_map.mpr ⟨y, hy, rfl⟩
    rcases hpass _ hy2 with hn | ⟨hc, hc0, nm, n1, n2⟩
    · left
      simp only [covers, Bool.and_eq_false_iff, decide_eq_false_iff_not]
      simp only at hn
      omega
    · right
      obtain ⟨c2, hc2, hcl⟩ := Cond.classLink_spec X.2.2.2.2.1 (hts _ n1) e.platform hpl
      exact ⟨by simp only [covers, Bool.and_eq_true, decide_eq_true_eq]; exact hc, hc0, nm, c2, hts _ n1, hc2, n2.use hK w3 hc2⟩
  obtain ⟨vm', hW', hf⟩ := z_find (e := e) (f := F0 m pc la st) (a := z_ad Γ x) (rest := R3) (x := xe) (name := name) (cT := t0) hpl X.2.2.2.2.1 (fun k q => by rw [w2] at q; cases q) ⟨kW, hkW⟩ hcovx (by rw [x4]; exact h0) (by rw [x4]; exact hts _ hlk) f2 f3 P ((T.setTop (F0 m pc la st)).pushFrame (.throwing (z_ad Γ x))) (by rw [Stand.throwing_vm]; exact S.warmed) (by rw [Stand.throwing_heap, hT]; exact w1) hps
  rw [← hPR] at hf
  obtain ⟨t, a1, b1⟩ := kk p l e s m args below meth c H locs la X hR hL hl (T.setVm vm') hT (S.noted hW')
  refine ⟨t, z_caught (g := F0 m pc la st) S.here S.method' S.code hf ?_, b1⟩
  rw [x3]
  exact a1
end ZCATCH
