/-! THE MACHINE THROWS ABOVE A NATIVE FRAME (by hand): the same makings, over any frames B. -/
section ZOVER
/-- a state that goes on; B lies on 'below' -/
def z_ov (U : State) (B below : List Frame) : Prop := U.goesOn ∧ U.cur < U.threads.size ∧ ∃ mid, B = mid ++ below
theorem z_ov.vm {U : State} {B below : List Frame} (h : z_ov U B below) (vm : Vm) : z_ov (U.setVm vm) B below := h
theorem z_ov.go {U : State} {B below : List Frame} (h : z_ov U B below) (F : List Frame) : (U.setFrames F).goesOn := ⟨h.1.1, by simpa using h.1.2.1, by simpa using h.1.2.2⟩
/-- a constructor's frame over the note -/
theorem z_ovIn {W : State} {B below : List Frame} (hW : z_ov W B below) (a : Addr) (x : JFrame) {m : MethodId} {meth : Method} {code : Code} (hm : W.vm.method? m = some meth) (hc : meth.code = some code) (hp : W.plainMethod m) :
    (W.setFrames (.thenThrow a :: B)).frames = .thenThrow a :: B ∧ ((W.setFrames (.thenThrow a :: B)).pushFrame (.java x)).frames = .java x :: .thenThrow a :: B ∧ At ((W.setFrames (.thenThrow a :: B)).pushFrame (.java x)) m code below := by
  obtain ⟨-, hcur, mid, rfl⟩ := id hW
  have f1 : (W.setFrames (.thenThrow a :: (mid ++ below))).frames = .thenThrow a :: (mid ++ below) := State.frames_setFrames _ hcur
  have c1 := State.cur_lt_of_frames f1
  have f2 : ((W.setFrames (.thenThrow a :: (mid ++ below))).pushFrame (.java x)).frames = .java x :: (W.setFrames (.thenThrow a :: (mid ++ below))).frames := State.frames_setFrames _ c1
  rw [f1] at f2
  exact ⟨f1, f2, At.pushOn x (hW.go _) c1 ⟨.thenThrow a :: mid, f1⟩ hm hc hp⟩
/-- the constructor returns; the note turns into a throw -/
theorem z_ovEnd {tb : Tables} [Ours tb] {e : Env} {W target : State} {B below : List Frame} (hW : z_ov W B below) (hexec : tb.exec = Jvm.exec) {H : State → State} (hH : HeapOnly H) (a : Addr) {x y : JFrame} {meth : Method} {code : Code} (hm : W.vm.method? y.method = some meth) (hc : meth.code = some code) (hp : W.plainMethod y.method) (hl : meth.locks = false) (y1 : y.locked = none) (y2 : y.entered = []) (hd : decode code.code y.pc = .ok (.return_, 1))
    (hrest : Steps tb e below ((H W).setFrames (.throwing a :: B)) target) : Steps tb e below ((H ((W.setFrames (.thenThrow a :: B)).pushFrame (.java x))).setTop y) target := by
  obtain ⟨f1, f2, hA⟩ := z_ovIn hW a x hm hc hp
  have hB := hH.at_ hA
  have f3 : (H ((W.setFrames (.thenThrow a :: B)).pushFrame (.java x))).frames = .java x :: .thenThrow a :: B := by rw [hH.frames]; exact f2
  have c3 := State.cur_lt_of_frames f3
  obtain ⟨-, -, mid, hmid⟩ := id hW
  jvm_step hB [hexec, hd, return_.wp_sem]
  intro acts2
  rw [ret_to (t := H ((W.setFrames (.thenThrow a :: B)).pushFrame (.java x))) (f := y) (f₀ := x) (below := .thenThrow a :: B) (fs := .thenThrow a :: B) (meth := meth) f3 (by rw [hH.vm]; exact hm) hl y1 y2 rfl acts2]
  have f4 : ((H ((W.setFrames (.thenThrow a :: B)).pushFrame (.java x))).setFrames (.thenThrow a :: B)).frames = .thenThrow a :: B := State.frames_setFrames _ c3
  refine Steps.head ⟨hB.running, by simpa using hB.runnable, by simpa using hB.alone⟩ ⟨.thenThrow a :: mid, by rw [f4, hmid]; rfl, by simp, by simp⟩ ?_
  rw [stepThread_thenThrow f4]
  show Steps tb e below (((H ((W.setFrames (.thenThrow a :: B)).pushFrame (.java x))).setFrames (.thenThrow a :: B)).setFrames (.throwing a :: B)) target
  rw [State.setFrames_setFrames, State.pushFrame, hH.setFrames, hH.setFrames, State.setFrames_setFrames, State.setFrames_setFrames]
  exact hrest
/-- out of a native frame -/
theorem z_ovOut {tb : Tables} {e : Env} {U target : State} {below r : List Frame} {a : Addr} {f : NFrame} (hU : z_ov U r below) (haw : f.awaiting = false) (hl : f.locked = none) (hrest : Steps tb e below (U.setFrames (.throwing a :: r)) target) : Steps tb e below (U.setFrames (.throwing a :: .native f :: r)) target := by
  obtain ⟨-, hcur, mid, hmid⟩ := id hU
  have hf : (U.setFrames (.throwing a :: .native f :: r)).frames = .throwing a :: .native f :: r := State.frames_setFrames _ hcur
  refine Steps.head (hU.go _) ⟨.throwing a :: .native f :: mid, by rw [hf, hmid]; rfl, by simp, by simp⟩ ?_
  have hst : (stepThread tb e (U.setFrames (.throwing a :: .native f :: r))).1 = (U.setFrames (.throwing a :: .native f :: r)).setFrames (.throwing a :: r) := by
    rw [stepThread_throwing hf]
    simp only [stepThrowing, haw, Bool.false_eq_true, if_false, hl]
    unfold vmDo
    generalize hr : Sem.go _ e false _ (U.setFrames (.throwing a :: .native f :: r)) = res
    obtain ⟨as, rfl, -⟩ := Sem.eq_ok_of hr (a := true) (s' := U.setFrames (.throwing a :: .native f :: r)) (acts' := []) (by simp [leaveIfLocked, unmarked, Action.isMark])
    rfl
  rw [hst, State.setFrames_setFrames]
  exact hrest
/-- a native method throws a new exception -/
theorem z_ovNote {tb : Tables} {e : Env} {below : List Frame} {s target : State} {g : JFrame} {c : Code} (h : At s g.method c below) {m : MethodId} {meth : Method} {k : Class} {row : NativeRow} {args : Array Value} (acts : List Action)
    (hk : s.vm.classes[m.cls]? = some k) (hx : k.methods[m.idx]? = some meth) (hboot : k.loader = none) (hnat : meth.isNative = true) (hc : meth.code = none) (hl : meth.locks = false)
    (hrow : NativeRow.find? tb.natives k.name meth.name meth.desc = some row) (hseen : seenByNative meth args = args)
    (hroom : e.platform.stackFull (((s.setTop g).threads[(s.setTop g).cur]?).getD { frames := [] }) (s.setTop g).frames (nativeFrameWords k.name meth.name (operandWords args.toList)) = false)
    {cls : String} {msg : Option String} (hw : ∀ (U : State) (E : CtlPost), U.heap = s.heap → U.vm = s.vm → (∀ acts', E (.throwNew cls msg) acts' U) → wp (row.sem args) (fun _ _ _ _ => False) E e false [] U)
    (hrest : Steps tb e below (((s.setTop g).pushFrame (.native { method := m, args := args, locked := none })).pushFrame (.throwNew cls msg none)) target) : Steps tb e below (doInvoke e (s.setTop g) acts m args).1 target := by
  have hm : (s.setTop g).vm.method? m = some meth := by
    show s.vm.method? m = some meth
    simp [Vm.method?, hk, hx]
  have hroom' : e.platform.stackFull (((s.setTop g).threads[(s.setTop g).cur]?).getD { frames := [] }) (s.setTop g).frames (nativeFrameWords ((((s.setTop g).vm.classes[m.cls]?).map (·.name)).getD "") meth.name (operandWords args.toList)) = false := by
    have : (((s.setTop g).vm.classes[m.cls]?).map (·.name)).getD "" = k.name := by
      show ((s.vm.classes[m.cls]?).map (·.name)).getD "" = k.name
      simp [hk]
    rw [this]; exact hroom
  rw [(Fast.doInvoke_native (s := s.setTop g) (e := e) (acts := acts) (args := args) hm hnat hc hl hroom').1, hseen]
  have hfe := frames_entered (g := g) h.top (.native { method := m, args := args, locked := none })
  obtain ⟨mid, hmid⟩ := h.above
  refine Steps.head ⟨h.running, by simpa using h.runnable, by simpa using h.alone⟩ ⟨.native { method := m, args := args, locked := none } :: .java g :: mid, by rw [hfe, hmid]; rfl, by simp, by simp⟩ ?_
  rw [stepThread_native (f := { method := m, args := args, locked := none }) (k := k) (x := meth) (row := row) hfe hk hx hboot hrow rfl]
  have hw2 : wpRun (row.sem args) (fun _ _ _ => False) (fun ctl s₁ _ => ctl = .throwNew cls msg ∧ s₁ = (s.setTop g).pushFrame (.native { method := m, args := args, locked := none })) e ((s.setTop g).pushFrame (.native { method := m, args := args, locked := none })) := by
    simp only [wpRun]
    exact hw _ _ rfl rfl (fun acts' => ⟨rfl, rfl⟩)
  have hw3 := (wpRun_iff_run _ _ _ _ _).mp hw2
  cases hr : (row.sem args).run e ((s.setTop g).pushFrame (.native { method := m, args := args, locked := none })) with
  | ok v s₁ acts₁ => rw [hr] at hw3; exact hw3.elim
  | ctl x s₁ acts₁ =>
    rw [hr] at hw3
    cases x with
    | throwNew c1 m1 =>
      obtain ⟨q1, q2⟩ := hw3
      cases q1
      rw [q2]
      exact hrest
    | stop => exact hw3.elim
    | _ => cases hw3.1
end ZOVER
