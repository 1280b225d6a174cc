/-! EXCEPTIONS MADE ABOVE A NATIVE FRAME, in the judgement (printed by over3.py out of parts 90 and 91). -/
section ZOVM
theorem z_ovMsg (p : Program) {e : Env} {below B : List Frame} {s₀ S : State} (h : z_ov S B below) (hexec : p.tables.exec = Jvm.exec) (T : ThrowableC) (L : T.Links e.platform s₀) (Z : Init0T) (LZ : Z.LaidS T.toThrowableT) (M : MsgC) (LM : M.Links T e.platform s₀) (hW : s₀.WarmedH S.vm) (Zs : StringT) (LZs : Zs.Laid s₀.vm)
    (P1 : PassC) (L1 : P1.LinksS e.platform s₀) (Ps : List PassC) (hL : ∀ P, P ∈ Ps → P.LinksS e.platform s₀) (hlink1 : P1.sup = firstOf (Z.m T.toThrowableT) (Ps.map (·.toPassT))) (hlink : PassesOn (Z.m T.toThrowableT) (Ps.map (·.toPassT)))
    {cls m : String} {kX : Class} (hsoe : (cls == "java/lang/StackOverflowError") = false) (hoom : (cls == "java/lang/OutOfMemoryError") = false) (hfound : s₀.vm.findClass cls = some P1.m.cls) (hk : s₀.vm.classes[P1.m.cls]? = some kX) (hinit : kX.init = .initialized) (hord : kX.kind = .ordinary) (hctor : kX.findMethod "<init>" "(Ljava/lang/String;)V" = some P1.m.idx) (hhot : e.platform.hotImplicitExceptions = false)
    (hbeyond : e.platform.stackBeyond ((((S.setFrames (.throwNew cls (some m) none :: B)).threads[S.cur]?).map (·.stackBytes)).getD 0) (S.setFrames (.throwNew cls (some m) none :: B)).frames = false) (hfreeW : e.platform.vmThrowRoom ≤ e.platform.stackFree ((((S.setFrames (.throwNew cls (some m) none :: B)).threads[S.cur]?).map (·.stackBytes)).getD 0) (S.setFrames (.throwNew cls (some m) none :: B)).frames)
    (hm : (m == notModelled) = false) (hlimit : ¬ (stringBytes (stringToUtf16 m)).size > e.platform.arrayLengthLimit) (hheap : ¬ (stringBytes (stringToUtf16 m)).size * componentBytes .byte > e.platform.maxHeapBytes) (hcells : S.heap.size + 3 ≤ e.platform.maxCells) (hslots : S.slotsUsed + (stringBytes (stringToUtf16 m)).size + Zs.kS.instanceTypes.size + kX.instanceTypes.size ≤ e.platform.maxSlots)
    (hfitv : s₀.fitsSlot Zs.cS .none Zs.fv.slot (.ref S.heap.size) = true) (hfitc : s₀.fitsSlot Zs.cS .none Zs.fc.slot (.int (stringCoder (stringToUtf16 m))) = true) {u0 sen : RefV} {cellS : Cell}
    (hsel0 : selectMethod e.platform s₀.vm (freshCell P1.m.cls kX).cls T.fill0 = .method T.fill0) (hcellS : S.heap[T.aS]? = some cellS) (hknownS : cellS.vm ≠ .unknown) (hvU : cellS.slots[T.fUnassigned.slot]? = some u0.v) (htS : Takes s₀ (freshCell P1.m.cls kX) T.fStack u0.v)
    (hskip : SkipFacts T e.platform s₀ (fun u => u) u0 ((preparedCellV T.toThrowableT (freshCell P1.m.cls kX) (S.heap.size + 2) u0 sen).withEntry S.cur)) (htr : e.platform.stackTraces = false)
    (hselF : selectMethod e.platform s₀.vm (freshCell P1.m.cls kX).cls T.fill = .method T.fill) (hvSen : cellS.slots[T.fSentinel.slot]? = some sen.v) (htC : Takes s₀ (freshCell P1.m.cls kX) T.fCause (.ref (S.heap.size + 2))) (htP : Takes s₀ (freshCell P1.m.cls kX) T.fSupp sen.v) (htM : Takes s₀ (freshCell P1.m.cls kX) T.fMsg (.ref (S.heap.size + 1))) (hobjLocals : T.codeObj.maxLocals = 1)
    {lim : Nat × Nat} (hlim : e.platform.stackLimits S.me = lim) (hframes : B.length + Ps.length + 4 < lim.1) (hwords : (stackUse B).2 + 13 * Ps.length + 55 ≤ lim.2) :
    ∃ vm', s₀.WarmedH vm' ∧ ∀ target, Steps p.tables e below ((((withThrown S Zs m P1.m.cls kX).setVm vm').setCell (S.heap.size + 2) ((((preparedCellV T.toThrowableT (freshCell P1.m.cls kX) (S.heap.size + 2) u0 sen).withEntry S.cur).setSlot T.fStack.slot u0.v).left.setSlot T.fMsg.slot (.ref (S.heap.size + 1)))).setFrames (.throwing (S.heap.size + 2) :: B)) target →
      Steps p.tables e below (S.setFrames (.throwNew cls (some m) none :: B)) target := by
  obtain ⟨kX', hk', he'⟩ := hW.alike.2.2 _ _ hk
  have hty : kX'.instanceTypes = kX.instanceTypes := by rw [he']
  have hfresh : freshCell P1.m.cls kX' = freshCell P1.m.cls kX := by
    show ({ cls := P1.m.cls, slots := kX'.instanceTypes.map defaultValue, vm := .none } : Cell) = _
    rw [hty]
  obtain ⟨kS', kB', LZ', htyS⟩ := LZs.warmer hW.alike
  have hsame : withThrown S { Zs with kS := kS', kB := kB' } m P1.m.cls kX' = withThrown S Zs m P1.m.cls kX := by
    rw [← withThrown_warmer S Zs (kB' := kB') htyS m P1.m.cls kX]
    show (withString S _ _ _ _ _ _).pushCell (freshCell P1.m.cls kX') = (withString S _ _ _ _ _ _).pushCell (freshCell P1.m.cls kX)
    rw [hfresh]
  have hfs : S.fitsSlot = s₀.fitsSlot := (show S.fitsSlot = (s₀.setVm S.vm).fitsSlot from rfl).trans (State.fitsSlot_setVm hW.alike)
  obtain ⟨w1, w2, -, w4, w5, -, w7⟩ := withThrown_facts e.platform S Zs m P1.m.cls kX
  have hlt : T.aS < S.heap.size := (Array.getElem?_eq_some_iff.mp hcellS).1
  have hov : z_ov (withThrown S Zs m P1.m.cls kX) B below := h
  have hcur : (withThrown S Zs m P1.m.cls kX).cur = S.cur := by simp [withThrown, withString]
  obtain ⟨vm', hW', st⟩ := z_ovS p (W := withThrown S Zs m P1.m.cls kX) (self := S.heap.size + 2) (str := S.heap.size + 1) (u0 := u0) (sen := sen) hov hexec T L Z LZ M LM (by rw [w1]; exact hW) w4 rfl rfl hsel0 ((w5 _ hlt).trans hcellS) (Nat.ne_of_lt (Nat.lt_of_lt_of_le hlt (Nat.le_add_right _ 2))) hknownS hvU htS (by rw [hcur]; exact hskip) htr hselF hvSen htC htP htM hobjLocals P1 L1 Ps hL hlink1 hlink (lim := lim) (by rw [w7]; exact hlim) hframes hwords
  rw [hcur] at st
  refine ⟨vm', hW', fun target hrest => ?_⟩
  obtain ⟨-, hc, mid, hmid⟩ := id h
  have hf0 : (S.setFrames (.throwNew cls (some m) none :: B)).frames = .throwNew cls (some m) none :: B := State.frames_setFrames _ hc
  refine Steps.head (h.go _) ⟨.throwNew cls (some m) none :: mid, by rw [hf0, hmid]; rfl, by simp, by simp⟩ ?_
  rw [stepThread_throwNew hf0, stepThrowNew_message (s := S.setFrames (.throwNew cls (some m) none :: B)) (c := P1.m.cls) (k := kX') (i := P1.m.idx) { Zs with kS := kS', kB := kB' } LZ' hsoe hoom (by show S.vm.findClass cls = _; rw [hW.alike.findClass]; exact hfound) hk' (by rw [he']; exact hinit) (by rw [he']; exact hord) hhot hbeyond hfreeW hm (by rw [he']; exact hctor) hlimit hheap hcells (by show S.slotsUsed + _ + kS'.instanceTypes.size + kX'.instanceTypes.size ≤ _; rw [htyS, hty]; exact hslots) (show S.fitsSlot Zs.cS .none Zs.fv.slot (.ref S.heap.size) = true by rw [hfs]; exact hfitv) (show S.fitsSlot Zs.cS .none Zs.fc.slot (.int (stringCoder (stringToUtf16 m))) = true by rw [hfs]; exact hfitc)]
  have hN : (withThrown (S.setFrames (.throwNew cls (some m) none :: B)) { Zs with kS := kS', kB := kB' } m P1.m.cls kX').setFrames (.thenThrow ((S.setFrames (.throwNew cls (some m) none :: B)).heap.size + 2) :: B) = (withThrown S Zs m P1.m.cls kX).setFrames (.thenThrow (S.heap.size + 2) :: B) := by
    rw [withThrown_setFrames, State.setFrames_setFrames, hsame]
    rfl
  rw [hN]
  exact st target hrest
theorem z_ovNpe (p : Program) {e : Env} {below B : List Frame} {s₀ S : State} (h : z_ov S B below) (hexec : p.tables.exec = Jvm.exec) (T : ThrowableC) (L : T.Links e.platform s₀) (Z : Init0T) (LZ : Z.Laid T.toThrowableT) (N : NpeC) (LN : N.Links T e.platform s₀) (hW : s₀.WarmedH S.vm)
    (P1 : PassC) (L1 : P1.Links0 e.platform s₀) (Ps : List PassC) (hL : ∀ P, P ∈ Ps → P.Links0 e.platform s₀) (hlink1 : P1.sup = firstOf (Z.m T.toThrowableT) (Ps.map (·.toPassT))) (hlink : PassesOn (Z.m T.toThrowableT) (Ps.map (·.toPassT)))
    {kX : Class} (hfound : s₀.vm.findClass "java/lang/NullPointerException" = some P1.m.cls) (hk : s₀.vm.classes[P1.m.cls]? = some kX) (hinit : kX.init = .initialized) (hord : kX.kind = .ordinary) (hctor : kX.findMethod "<init>" "()V" = some P1.m.idx) (hhot : e.platform.hotImplicitExceptions = false)
    (hbeyond : e.platform.stackBeyond ((((S.setFrames (.throwNew "java/lang/NullPointerException" none none :: B)).threads[S.cur]?).map (·.stackBytes)).getD 0) (S.setFrames (.throwNew "java/lang/NullPointerException" none none :: B)).frames = false) (hfreeW : e.platform.vmThrowRoom ≤ e.platform.stackFree ((((S.setFrames (.throwNew "java/lang/NullPointerException" none none :: B)).threads[S.cur]?).map (·.stackBytes)).getD 0) (S.setFrames (.throwNew "java/lang/NullPointerException" none none :: B)).frames)
    (hcells : S.heap.size + 1 ≤ e.platform.maxCells) (hslots : S.slotsUsed + kX.instanceTypes.size ≤ e.platform.maxSlots) {u0 sen : RefV} {cellS : Cell}
    (hsel0 : selectMethod e.platform s₀.vm (freshCell P1.m.cls kX).cls T.fill0 = .method T.fill0) (hcellS : S.heap[T.aS]? = some cellS) (hknownS : cellS.vm ≠ .unknown) (hvU : cellS.slots[T.fUnassigned.slot]? = some u0.v)
    (hv0 : (freshCell P1.m.cls kX).slots[N.fState.slot]? = some (.int 0)) (hneC : T.fCause.slot ≠ N.fState.slot) (hneSt : T.fStack.slot ≠ N.fState.slot) (hneP : T.fSupp.slot ≠ N.fState.slot) (htS : Takes s₀ (freshCell P1.m.cls kX) T.fStack u0.v) (ht1 : Takes s₀ (freshCell P1.m.cls kX) N.fState (.int 1))
    (hskip : SkipFacts T e.platform s₀ (fun u => u) u0 ((npeCell N.toNpeT (preparedCellV T.toThrowableT (freshCell P1.m.cls kX) S.heap.size u0 sen) S.cur).withEntry S.cur)) (htr : e.platform.stackTraces = false)
    (hselF : selectMethod e.platform s₀.vm (freshCell P1.m.cls kX).cls T.fill = .method N.fill) (hvSen : cellS.slots[T.fSentinel.slot]? = some sen.v) (htC : Takes s₀ (freshCell P1.m.cls kX) T.fCause (.ref S.heap.size)) (htP : Takes s₀ (freshCell P1.m.cls kX) T.fSupp sen.v) (hobjLocals : T.codeObj.maxLocals = 1)
    {lim : Nat × Nat} (hlim : e.platform.stackLimits S.me = lim) (hframes : B.length + Ps.length + 5 < lim.1) (hwords : (stackUse B).2 + 13 * Ps.length + 68 ≤ lim.2) :
    ∃ vm', s₀.WarmedH vm' ∧ ∀ target, Steps p.tables e below ((((S.pushCell (freshCell P1.m.cls kX)).setVm vm').setCell S.heap.size ((((npeCell N.toNpeT (preparedCellV T.toThrowableT (freshCell P1.m.cls kX) S.heap.size u0 sen) S.cur).withEntry S.cur).setSlot T.fStack.slot u0.v).left.left)).setFrames (.throwing S.heap.size :: B)) target →
      Steps p.tables e below (S.setFrames (.throwNew "java/lang/NullPointerException" none none :: B)) target := by
  obtain ⟨kX', hk', he'⟩ := hW.alike.2.2 _ _ hk
  have hty : kX'.instanceTypes = kX.instanceTypes := by rw [he']
  have hfresh : freshCell P1.m.cls kX' = freshCell P1.m.cls kX := by
    show ({ cls := P1.m.cls, slots := kX'.instanceTypes.map defaultValue, vm := .none } : Cell) = _
    rw [hty]
  have hlt : T.aS < S.heap.size := (Array.getElem?_eq_some_iff.mp hcellS).1
  have hov : z_ov (S.pushCell (freshCell P1.m.cls kX)) B below := h
  have w5 : (S.pushCell (freshCell P1.m.cls kX)).heap[T.aS]? = some cellS := by
    rw [← hcellS]
    simp [State.pushCell, Array.getElem?_push, Nat.ne_of_lt hlt]
  obtain ⟨vm', hW', st⟩ := z_ovN p (W := S.pushCell (freshCell P1.m.cls kX)) (self := S.heap.size) (u0 := u0) (sen := sen) hov hexec T L Z LZ N LN hW (State.heap_pushCell_size S (freshCell P1.m.cls kX)) rfl rfl hk hsel0 w5 (Nat.ne_of_lt hlt) hknownS hvU hv0 hneC hneSt hneP htS ht1 hskip htr hselF hvSen htC htP hobjLocals P1 L1 Ps hL hlink1 hlink (lim := lim) hlim hframes hwords
  refine ⟨vm', hW', fun target hrest => ?_⟩
  obtain ⟨-, hc, mid, hmid⟩ := id h
  have hf0 : (S.setFrames (.throwNew "java/lang/NullPointerException" none none :: B)).frames = .throwNew "java/lang/NullPointerException" none none :: B := State.frames_setFrames _ hc
  refine Steps.head (h.go _) ⟨.throwNew "java/lang/NullPointerException" none none :: mid, by rw [hf0, hmid]; rfl, by simp, by simp⟩ ?_
  rw [stepThread_throwNew hf0, stepThrowNew_plain (s := S.setFrames (.throwNew "java/lang/NullPointerException" none none :: B)) (c := P1.m.cls) (k := kX') (i := P1.m.idx) (by decide) (by decide) (by show S.vm.findClass _ = _; rw [hW.alike.findClass]; exact hfound) hk' (by rw [he']; exact hinit) (by rw [he']; exact hord) hhot hbeyond hfreeW (by rw [he']; exact hctor) hcells (by show S.slotsUsed + _ ≤ _; rw [hty]; exact hslots)]
  have hN : ((S.setFrames (.throwNew "java/lang/NullPointerException" none none :: B)).pushCell (freshCell P1.m.cls kX')).setFrames (.thenThrow (S.setFrames (.throwNew "java/lang/NullPointerException" none none :: B)).heap.size :: B) = (S.pushCell (freshCell P1.m.cls kX)).setFrames (.thenThrow S.heap.size :: B) := by
    rw [State.pushCell_setFrames, State.setFrames_setFrames, hfresh]
    rfl
  rw [hN]
  exact st target hrest
end ZOVM
/-- the machine is about to throw a new exception over a native frame over the frame -/
def z_TO (Γ : z_W) (M : z_M) (rm : Room) (Q : Outcome → z_H → Prop) (cs ss : Nat) (pc : Nat) (ls : List (Option Value)) (st : List Value) (h : z_H) (nf : NFrame) (cls : String) (msg : Option String) : Prop :=
  ∀ (p : Program) (l : Launch) (e : Env) (s : State) (m : MethodId) (args : Array Value) (below : List Frame) (meth : Method) (c : Code) (H : Heap) (locs : List Loc) (la : Array Slot),
    z_Cx Γ M p l s m args meth c → z_Rl Γ h H → (∀ q ∈ locs, z_B Γ ≤ q.base) → z_lh Γ la M.2.2.1 ls → ∀ T : State, T.heap = H → Stand p l e rm s m args below meth c T locs cs ss →
    ∃ t, Steps p.tables e below (T.setFrames (.throwNew cls msg none :: .native nf :: .java (F0 m pc la (st.map (z_cv Γ))) :: below)) t ∧ z_MQ Γ Q rm below s t
section ZOVR
variable {p : Program} {l : Launch} {e : Env} {R : Room} {s : State} {m : MethodId} {args : Array Value} {below : List Frame} {meth : Method} {c : Code} {T : State} {locs : List Loc} {cells slots : Nat}
theorem z_ovRoom (X : Stand p l e R s m args below meth c T locs cells slots) {g : JFrame} (hsize : g.locals.size = c.maxLocals) {nf : NFrame} (hnf : nf.words = 0) (note : Frame) (hnote : ∀ f, note ≠ .java f) (hw : note.words = 0) (hK : 2 * g.monitorRoom + (g.stack.map fun v => v.category).sum + 10240 ≤ R.locals) :
    e.platform.stackBeyond ((((T.setFrames (note :: .native nf :: .java g :: below)).threads[T.cur]?).map (·.stackBytes)).getD 0) (T.setFrames (note :: .native nf :: .java g :: below)).frames = false ∧ e.platform.vmThrowRoom ≤ e.platform.stackFree ((((T.setFrames (note :: .native nf :: .java g :: below)).threads[T.cur]?).map (·.stackBytes)).getD 0) (T.setFrames (note :: .native nf :: .java g :: below)).frames := by
  obtain ⟨g₀, hfr⟩ := X.frames_eq
  have hcur : T.cur < T.threads.size := State.cur_lt_of_frames hfr
  have hb : ((((T.setFrames (note :: .native nf :: .java g :: below)).threads[T.cur]?).map (·.stackBytes)).getD 0) = T.me.stackBytes := by
    rw [← State.stackBytes_setFrames T (note :: .native nf :: .java g :: below)]
    exact State.stackBytes_me (T.setFrames (note :: .native nf :: .java g :: below))
  have hA := X.stackAbove hsize hK
  rw [X.tail] at hA
  have hlimit : (e.platform.stackLimits T.me).2 = (e.platform.limitsFor T.me.stackBytes).2 := rfl
  rw [hb, State.frames_setFrames _ hcur, Launch.admits_vmThrowRoom X.admits]
  unfold Platform.stackBeyond Platform.stackFree
  rw [stackUse_light _ _ hnote hw, stackUse_light (.native nf) _ (fun f hf => by cases hf) hnf]
  refine ⟨decide_eq_false (by omega), by omega⟩
theorem z_ovHere (X : Stand p l e R s m args below meth c T locs cells slots) (mid : List Frame) : z_ov T (mid ++ below) below := by
  obtain ⟨g₀, hfr⟩ := X.frames_eq
  exact ⟨⟨X.here.running, X.here.runnable, X.here.alone⟩, State.cur_lt_of_frames hfr, mid, rfl⟩
end ZOVR
section ZOVJ
variable {Γ : z_W} {M : z_M} {Q : Outcome → z_H → Prop} {cs ss pc : Nat} {ls : List (Option Value)} {st : List Value} {h : z_H}
theorem z_toNpe {d k1 k2 : Nat} {nf : NFrame} (hnf : nf.words = 0) (haw : nf.awaiting = false) (hlk : nf.locked = none) (h1 : cs + 1 ≤ k1) (h2 : ss + 8 ≤ k2) (hst : (st.map fun v => v.category).sum ≤ 20) (kt : z_Th Γ M (z_rm d k1 k2) Q (cs + 1) (ss + 8) pc ls (z_new h (.inr (.float, 2))) (z_n h)) : z_TO Γ M (z_rm d k1 k2) Q cs ss pc ls st h nf "java/lang/NullPointerException" none := by
  intro p l e s m args below meth c H locs la X hR hL hl T' hT' S
  subst hT'
  have hK := X.2.2.2.2.2.2.2.2.2
  have hts := X.2.2.2.2.2.1
  obtain ⟨s0, T, Z, u0, sen, cellS, B, Lk, LZ, Y, gB, g1, g2, g3, g4, BL, bf, bn, bt⟩ := z_tb S hK hts hR
  have hpl : e.platform.magicAccessors = ({} : Platform).magicAccessors := by rw [S.admits.platform]
  have hpl2 : e.platform.arrayCloneIsPublic = true := by rw [S.admits.platform]
  have htr : e.platform.stackTraces = false := by
    rw [S.admits.platform]
    exact hK.2.2.2.2.2.2.2.1
  have LU : T.Links e.platform (s0.setVm s.vm) := by
    cases Lk
    constructor <;> assumption
  obtain ⟨N, LN0, hcN, hnNF, hordN, hffS⟩ := NpeC.of_atoms (args := args) (s := s0.setVm s.vm) hpl hpl2 LU Y (fun x hx => by
    obtain ⟨q1, q2⟩ := z_npA x hx
    refine z_tv q2 ?_
    rcases q1 with q1 | ⟨q1, q3⟩
    · exact hts _ q1
    · exact va_Nw.use q2 (hK.2.2.2.1 _ q1 q3))
  have LN : N.Links T e.platform s := by
    cases LN0
    constructor <;> assumption
  obtain ⟨P1, Ps, hlen, L1, hLs, hP1m, hlink1, hlink⟩ := Bundle.chain0 (args := args) (s := s) hpl Y.init0 ["java/lang/RuntimeException", "java/lang/Exception"] "java/lang/NullPointerException" (by decide +kernel) (by
    intro n hn
    simp only [List.mem_cons, List.not_mem_nil, or_false] at hn
    rcases hn with rfl | rfl <;> decide +kernel) (z_chN hK hts)
  have hlen2 : Ps.length = 2 := hlen
  have hfound : s.vm.findClass "java/lang/NullPointerException" = some P1.m.cls := findClass_of_methodNamed hP1m
  have ecls : N.cN = P1.m.cls := Option.some.inj ((show s.vm.findClass "java/lang/NullPointerException" = some N.cN from hcN).symm.trans hfound)
  have hk : s.vm.classes[P1.m.cls]? = some N.kN := by rw [← ecls]; exact LN.cls
  have hinit := Cond.initialized_spec hfound hk (hts _ q124)
  have hctor : N.kN.findMethod "<init>" "()V" = some P1.m.idx := findMethod_of_methodNamed hP1m hk
  obtain ⟨c1, kk1, hc1, hk1, -, -, -, hn8⟩ := Cond.instantiable_spec (hts _ q792)
  cases Option.some.inj (hc1.symm.trans hfound)
  cases Option.some.inj (hk1.symm.trans hk)
  have hsel0 : selectMethod e.platform s.vm P1.m.cls T.fill0 = .method T.fill0 := by
    obtain ⟨c2, r2, m2, q1, q2, q3, q4, -⟩ := Cond.selects_spec (hts _ q1238)
    cases Option.some.inj (q1.symm.trans hfound)
    cases Option.some.inj (q2.symm.trans (State.methodFound?_of_named Y.fill0 (by decide)))
    cases Option.some.inj (q3.symm.trans Y.fill0)
    rw [Launch.admits_selectMethod S.admits]; exact q4
  have hselF : selectMethod e.platform s.vm P1.m.cls T.fill = .method N.fill := by
    obtain ⟨c2, r2, m2, q1, q2, q3, q4, -⟩ := Cond.selects_spec (hts _ q786)
    cases Option.some.inj (q1.symm.trans hfound)
    cases Option.some.inj (q2.symm.trans (State.methodFound?_of_named Y.fill (by decide)))
    cases Option.some.inj (q3.symm.trans hnNF)
    rw [Launch.admits_selectMethod S.admits]; exact q4
  obtain ⟨tyC, dC, hdC, hdnC⟩ := Cond.laysAt hfound hk Y.cause (hts _ q1233)
  obtain ⟨tyS, dS, hdS, hdnS⟩ := Cond.laysAt hfound hk Y.stack (hts _ q1234)
  obtain ⟨tyP, dP, hdP, hdnP⟩ := Cond.laysAt hfound hk Y.supp (hts _ q1236)
  obtain ⟨tyX, dX, hdX, hdnX⟩ := Cond.laysAt (s := s) hfound hk hffS (hts _ q1227)
  obtain ⟨tyB, dB, hdB, hdnB⟩ := Cond.laysAt hfound hk bf (hts _ q1231)
  have hnX : N.fState.name = "extendedMessageState" := (State.fieldFound?_type hffS (t := .int) (by decide +kernel)).1
  have bC := Cond.laysApart hdB hdC hdnB hdnC (by rw [bn, Y.causeName]; decide)
  have bS := Cond.laysApart hdB hdS hdnB hdnS (by rw [bn, Y.stackName]; decide)
  have bP := Cond.laysApart hdB hdP hdnB hdnP (by rw [bn, Y.suppName]; decide)
  have bX := Cond.laysApart hdB hdX hdnB hdnX (by rw [bn, hnX]; decide)
  have xC := Cond.laysApart hdC hdX hdnC hdnX (by rw [Y.causeName, hnX]; decide)
  have xS := Cond.laysApart hdS hdX hdnS hdnX (by rw [Y.stackName, hnX]; decide)
  have xP := Cond.laysApart hdP hdX hdnP hdnX (by rw [Y.suppName, hnX]; decide)
  have hskip : SkipFacts T e.platform s (fun u => u) u0 ((npeCell N.toNpeT (preparedCellV T.toThrowableT (freshCell P1.m.cls N.kN) T'.heap.size u0 sen) T'.cur).withEntry T'.cur) := by
    refine ⟨B, BL, ?_, fun _ _ => rfl⟩
    have b0 := fresh_default (c := P1.m.cls) tyB
    rw [bt] at b0
    simpa [npeCell, preparedCellV, Cell.setSlot, Cell.withEntry, Array.getElem?_setIfInBounds, bC, bS, bP, bX, bC.symm, bS.symm, bP.symm, bX.symm, defaultValue] using b0
  have cw : ((st.map (z_cv Γ)).map fun v => v.category).sum ≤ 20 := by rw [z_sum]; exact hst
  have hsize : (F0 m pc la (st.map (z_cv Γ))).locals.size = c.maxLocals := hl.1.trans X.2.2.1.symm
  have hRl : 2 * (F0 m pc la (st.map (z_cv Γ))).monitorRoom + ((F0 m pc la (st.map (z_cv Γ))).stack.map fun v => v.category).sum + 10240 ≤ (z_rm d k1 k2).locals := by
    have q : 2 * 0 + ((st.map (z_cv Γ)).map fun v => v.category).sum + 10240 ≤ 64 * d + 20000 := by omega
    exact q
  obtain ⟨hbeyond, hfreeW⟩ := z_ovRoom S hsize hnf (.throwNew "java/lang/NullPointerException" none none) (fun f hf => by cases hf) rfl hRl
  have hfr : (Frame.native nf :: .java (F0 m pc la (st.map (z_cv Γ))) :: below).length + Ps.length + 5 < (e.platform.stackLimits T'.me).1 := by
    have q := S.framesAbove (n := 9) (show 9 < d + 64 by omega)
    obtain ⟨g₀, hfr0⟩ := S.frames_eq
    rw [hfr0] at q
    simp only [List.length_cons] at q ⊢
    omega
  have hwd : (stackUse (.native nf :: .java (F0 m pc la (st.map (z_cv Γ))) :: below)).2 + 13 * Ps.length + 68 ≤ (e.platform.stackLimits T'.me).2 := by
    have q := S.stackAbove hsize (K := 13 * Ps.length + 68) (by have q := hRl; omega)
    rw [S.tail] at q
    rw [stackUse_light (.native nf) _ (fun f hf => by cases hf) hnf]
    omega
  obtain ⟨vm', hW', st1⟩ := z_ovNpe p (s₀ := s) (S := T') (B := .native nf :: .java (F0 m pc la (st.map (z_cv Γ))) :: below) (u0 := u0) (sen := sen) (z_ovHere S [.native nf, .java (F0 m pc la (st.map (z_cv Γ)))]) X.1 T Lk Z LZ N LN S.warmed P1 L1 Ps hLs hlink1 hlink hfound hk hinit hordN hctor
    (Launch.admits_hotImplicitExceptions S.admits) hbeyond hfreeW (S.cellsAbove (n := 1) h1) (S.slotsAbove (n := N.kN.instanceTypes.size) (by rw [hn8]; exact h2))
    hsel0 g1 g2 g3 (by rw [fresh_default tyX, LN.stateInt]; rfl) xC xS xP (Takes.of_laid hk hordN tyS (by rw [Y.stackType]; exact fits_refV_array _ u0)) (Takes.of_laid hk hordN tyX (by rw [LN.stateInt]; rfl)) hskip htr hselF g4 (Takes.of_laid hk hordN tyC (by rw [Y.causeType]; rfl)) (Takes.of_laid hk hordN tyP (by rw [Y.suppType]; exact fits_refV_object _ sen)) Y.objLocals rfl hfr hwd
  rw [npeBareV_eq T.toThrowableT N.toNpeT T'.heap.size u0 sen T'.cur rfl rfl] at st1
  have X2 := (S.pushed (freshCell P1.m.cls N.kN)).noted hW'
  have hszf : (freshCell P1.m.cls N.kN).slots.size = 8 := by simp [hn8]
  rw [hszf] at X2
  have ha : T'.heap.size < ((T'.pushCell (freshCell P1.m.cls N.kN)).setVm vm').heap.size := by
    rw [show ((T'.pushCell (freshCell P1.m.cls N.kN)).setVm vm').heap.size = T'.heap.size + 1 from State.heap_size_pushCell _ _]; omega
  have hcell : ((T'.pushCell (freshCell P1.m.cls N.kN)).setVm vm').heap[T'.heap.size]? = some (freshCell P1.m.cls N.kN) := State.heap_pushCell_size T' (freshCell P1.m.cls N.kN)
  have X3 := ((((X2.stored hcell T.fCause.slot (.ref T'.heap.size)).storedAgain ha T.fStack.slot u0.v).storedAgain ha T.fSupp.slot sen.v).storedAgain ha N.fState.slot (.int 1)).storedAgain ha T.fStack.slot u0.v
  have ead : z_ad Γ (z_n h) = T'.heap.size := z_size hK.1 hR
  have hBs : z_B Γ ≤ T'.heap.size := by rw [← ead, hK.1.1 _ hR.2.1.1]; omega
  have hcls : P1.m.cls = Γ.1.1 23 := Option.some.inj (hfound.symm.trans (hK.2.2.2.2.2.2.2.2.1 0 (by decide)))
  obtain ⟨t, a1, b1⟩ := kt p l e s m args below meth c (((T'.pushCell (freshCell P1.m.cls N.kN)).setVm vm').setCell T'.heap.size (npeBareV T.toThrowableT N.toNpeT (freshCell P1.m.cls N.kN) T'.heap.size u0 sen)).heap _ la (st.map (z_cv Γ)) X (by
      refine z_Rl.push hK.1 hR ?_ ?_ ?_
      · show (T'.heap.push _ |>.setIfInBounds _ _).size = _
        simp
      · intro q hq
        show (T'.heap.push _ |>.setIfInBounds _ _)[q]? = _
        rw [Array.getElem?_setIfInBounds, if_neg (by omega), Array.getElem?_push, if_neg (by omega)]
      · unfold z_ce
        rw [z_Tn, if_pos rfl]
        refine Or.inl ⟨by decide, npeBareV T.toThrowableT N.toNpeT (freshCell P1.m.cls N.kN) T'.heap.size u0 sen, ?_, hcls, rfl⟩
        rw [ead]
        show (T'.heap.push _ |>.setIfInBounds _ _)[T'.heap.size]? = _
        simp [Array.getElem?_setIfInBounds]) (fun q hq => by
      simp only [List.append_assoc, List.cons_append, List.nil_append] at hq
      rcases List.mem_append.mp hq with q1 | q1
      · exact hL q q1
      · have hb : q.base = T'.heap.size := by
          simp only [List.mem_cons, List.not_mem_nil, or_false] at q1
          rcases q1 with rfl | rfl | rfl | rfl | rfl <;> rfl
        rw [hb]; exact hBs) hl _ rfl X3
  refine ⟨t, st1 _ ?_, b1⟩
  obtain ⟨g₁, hfrM⟩ := X3.frames_eq
  rw [ead] at a1
  rw [State.pushFrame, State.frames_setTop _ hfrM, State.setTop_of_frames _ hfrM, State.setFrames_setFrames] at a1
  refine z_ovOut (z_ovHere X3 [.java (F0 m pc la (st.map (z_cv Γ)))]) haw hlk ?_
  exact a1
theorem z_toMsg {n d k1 k2 : Nat} {nf : NFrame} (hnf : nf.words = 0) (haw : nf.awaiting = false) (hlk : nf.locked = none) {names : List String} {text : String} (hn5 : n < 5) (hw : z_mw (z_xn n) names) (hnl : names.length ≤ 3) (htext : (text == notModelled) = false) (hsz : (stringBytes (stringToUtf16 text)).size ≤ 2000) (h1 : cs + 3 ≤ k1) (h2 : ss + 2010 ≤ k2) (hst : (st.map fun v => v.category).sum ≤ 20) (kt : z_Th Γ M (z_rm d k1 k2) Q (cs + 3) (ss + 2010) pc ls (z_new (z_skip h 2) (.inr (.float, n + 2))) (z_n h + 2)) : z_TO Γ M (z_rm d k1 k2) Q cs ss pc ls st h nf (z_xn n) (some text) := by
  intro p l e s m args below meth c H locs la X hR hL hl T' hT' S
  subst hT'
  have hK := X.2.2.2.2.2.2.2.2.2
  have hts := X.2.2.2.2.2.1
  obtain ⟨s0, T, Z0, u0, sen, cellS, B, Lk, -, Y, gB, g1, g2, g3, g4, BL, bf, bn, bt⟩ := z_tb S hK hts hR
  obtain ⟨v1, v2, v3, v4, v5, v6, v7, v8, v9, v10, v11, v12, v13, v14⟩ := hw
  have hpl : e.platform.magicAccessors = ({} : Platform).magicAccessors := by rw [S.admits.platform]
  have htr : e.platform.stackTraces = false := by
    rw [S.admits.platform]
    exact hK.2.2.2.2.2.2.2.1
  have LU : T.Links e.platform (s0.setVm s.vm) := by
    cases Lk
    constructor <;> assumption
  obtain ⟨Z, MC, LZ, LM0, hnZ⟩ := Init0T.ofS_atoms (args := args) (s := s0.setVm s.vm) hpl LU Y (fun x hx => z_tv (z_thS x hx).2 (hts _ (z_thS x hx).1))
  have LM : MC.Links T e.platform s := by
    cases LM0
    constructor <;> assumption
  obtain ⟨P1, Ps, hlen, L1, hLs, hP1m, hlink1, hlink⟩ := Bundle.chainS (args := args) (s := s) hpl hnZ names (z_xn n) v2 v3 (fun c hc => by
    rcases v1 c hc with q | ⟨q, q2, q3⟩
    · exact hts _ q
    · exact va_Nw.use q3 (hK.2.2.2.1 _ q q2))
  obtain ⟨Zs, LZs, hn4, hfitv, hfitc⟩ := StringT.of_atoms (args := args) (fun x hx => hts _ (z_stA x hx))
  have hfound : s.vm.findClass (z_xn n) = some P1.m.cls := findClass_of_methodNamed hP1m
  obtain ⟨c1, kX, hc1, hk, hord, -, -, hn6⟩ := Cond.instantiable_spec (hts _ v5)
  cases Option.some.inj (hc1.symm.trans hfound)
  have hinit := Cond.initialized_spec hfound hk (hts _ v4)
  have hctor : kX.findMethod "<init>" "(Ljava/lang/String;)V" = some P1.m.idx := findMethod_of_methodNamed hP1m hk
  have hsel0 : selectMethod e.platform s.vm P1.m.cls T.fill0 = .method T.fill0 := by
    obtain ⟨c2, r2, m2, q1, q2, q3, q4, -⟩ := Cond.selects_spec (hts _ v6)
    cases Option.some.inj (q1.symm.trans hfound)
    cases Option.some.inj (q2.symm.trans (State.methodFound?_of_named Y.fill0 (by decide)))
    cases Option.some.inj (q3.symm.trans Y.fill0)
    rw [Launch.admits_selectMethod S.admits]; exact q4
  have hselF : selectMethod e.platform s.vm P1.m.cls T.fill = .method T.fill := by
    obtain ⟨c2, r2, m2, q1, q2, q3, q4, -⟩ := Cond.selects_spec (hts _ v7)
    cases Option.some.inj (q1.symm.trans hfound)
    cases Option.some.inj (q2.symm.trans (State.methodFound?_of_named Y.fill (by decide)))
    cases Option.some.inj (q3.symm.trans Y.fill)
    rw [Launch.admits_selectMethod S.admits]; exact q4
  obtain ⟨iM, hffM⟩ := Y.msg
  obtain ⟨tyC, dC, hdC, hdnC⟩ := Cond.laysAt hfound hk Y.cause (hts _ v8)
  obtain ⟨tyS, dS, hdS, hdnS⟩ := Cond.laysAt hfound hk Y.stack (hts _ v9)
  obtain ⟨tyP, dP, hdP, hdnP⟩ := Cond.laysAt hfound hk Y.supp (hts _ v10)
  obtain ⟨tyM, dM, hdM, hdnM⟩ := Cond.laysAt (s := s) hfound hk hffM (hts _ v11)
  obtain ⟨tyB, dB, hdB, hdnB⟩ := Cond.laysAt hfound hk bf (hts _ v12)
  have bC := Cond.laysApart hdB hdC hdnB hdnC (by rw [bn, Y.causeName]; decide)
  have bS := Cond.laysApart hdB hdS hdnB hdnS (by rw [bn, Y.stackName]; decide)
  have bP := Cond.laysApart hdB hdP hdnB hdnP (by rw [bn, Y.suppName]; decide)
  have hskip : SkipFacts T e.platform s (fun u => u) u0 ((preparedCellV T.toThrowableT (freshCell P1.m.cls kX) (T'.heap.size + 2) u0 sen).withEntry T'.cur) := by
    refine ⟨B, BL, ?_, fun _ _ => rfl⟩
    have b0 := fresh_default (c := P1.m.cls) tyB
    rw [bt] at b0
    simpa [preparedCellV, Cell.setSlot, Cell.withEntry, Array.getElem?_setIfInBounds, bC, bS, bP, bC.symm, bS.symm, bP.symm, defaultValue] using b0
  have cw : ((st.map (z_cv Γ)).map fun v => v.category).sum ≤ 20 := by rw [z_sum]; exact hst
  have hsize : (F0 m pc la (st.map (z_cv Γ))).locals.size = c.maxLocals := hl.1.trans X.2.2.1.symm
  have hRl : 2 * (F0 m pc la (st.map (z_cv Γ))).monitorRoom + ((F0 m pc la (st.map (z_cv Γ))).stack.map fun v => v.category).sum + 10240 ≤ (z_rm d k1 k2).locals := by
    have q : 2 * 0 + ((st.map (z_cv Γ)).map fun v => v.category).sum + 10240 ≤ 64 * d + 20000 := by omega
    exact q
  obtain ⟨hbeyond, hfreeW⟩ := z_ovRoom S hsize hnf (.throwNew (z_xn n) (some text) none) (fun f hf => by cases hf) rfl hRl
  have hfr : (Frame.native nf :: .java (F0 m pc la (st.map (z_cv Γ))) :: below).length + Ps.length + 4 < (e.platform.stackLimits T'.me).1 := by
    have q := S.framesAbove (n := 9) (show 9 < d + 64 by omega)
    obtain ⟨g₀, hfr0⟩ := S.frames_eq
    rw [hfr0] at q
    simp only [List.length_cons] at q ⊢
    omega
  have hwd : (stackUse (.native nf :: .java (F0 m pc la (st.map (z_cv Γ))) :: below)).2 + 13 * Ps.length + 55 ≤ (e.platform.stackLimits T'.me).2 := by
    have q := S.stackAbove hsize (K := 13 * Ps.length + 55) (by have q := hRl; omega)
    rw [S.tail] at q
    rw [stackUse_light (.native nf) _ (fun f hf => by cases hf) hnf]
    omega
  have hlimit : ¬ (stringBytes (stringToUtf16 text)).size > e.platform.arrayLengthLimit := by
    rw [S.admits.platform]
    show ¬ _ > 2147483645
    omega
  have hheap : ¬ (stringBytes (stringToUtf16 text)).size * componentBytes .byte > e.platform.maxHeapBytes := by
    rw [S.admits.platform]
    show ¬ _ * 1 > 536870912
    omega
  have hslots : T'.slotsUsed + (stringBytes (stringToUtf16 text)).size + Zs.kS.instanceTypes.size + kX.instanceTypes.size ≤ e.platform.maxSlots := by
    have := S.slotsAbove (n := 2010) h2
    rw [hn4, hn6]
    omega
  obtain ⟨vm', hW', st1⟩ := z_ovMsg p (s₀ := s) (S := T') (B := .native nf :: .java (F0 m pc la (st.map (z_cv Γ))) :: below) (u0 := u0) (sen := sen) (z_ovHere S [.native nf, .java (F0 m pc la (st.map (z_cv Γ)))]) X.1 T Lk Z LZ MC LM S.warmed Zs LZs P1 L1 Ps hLs hlink1 hlink v13 v14 hfound hk hinit hord hctor
    (Launch.admits_hotImplicitExceptions S.admits) hbeyond hfreeW htext hlimit hheap (S.cellsAbove (n := 3) h1) hslots (hfitv _) (hfitc _)
    hsel0 g1 g2 g3 (Takes.of_laid hk hord tyS (by rw [Y.stackType]; exact fits_refV_array _ u0)) hskip htr hselF g4 (Takes.of_laid hk hord tyC (by rw [Y.causeType]; rfl)) (Takes.of_laid hk hord tyP (by rw [Y.suppType]; exact fits_refV_object _ sen)) (Takes.of_laid hk hord tyM (by rw [Y.msgType]; rfl)) Y.objLocals rfl hfr hwd
  rw [plainBareV_eq T.toThrowableT (T'.heap.size + 2) u0 sen (.ref (T'.heap.size + 1)) T'.cur rfl rfl] at st1
  obtain ⟨-, -, w3, w4, -, -, -⟩ := withThrown_facts e.platform T' Zs text P1.m.cls kX
  have X3 := ((S.pushed (bytesOf Zs.cB (stringToUtf16 text))).pushed (stringAt Zs.cS Zs.kS Zs.fv Zs.fc (stringToUtf16 text) T'.heap.size)).pushed (freshCell P1.m.cls kX)
  have b1 : (bytesOf Zs.cB (stringToUtf16 text)).slots.size = (stringBytes (stringToUtf16 text)).size := by
    rw [(Cell.writeAll_facts _ _).2.2]; simp [bytes0]
  have b2 : (stringAt Zs.cS Zs.kS Zs.fv Zs.fc (stringToUtf16 text) T'.heap.size).slots.size = 4 := by simp [string0, Cell.setSlot, hn4]
  have b3 : (freshCell P1.m.cls kX).slots.size = 6 := by simp [hn6]
  rw [← withString_eq, b1, b2, b3] at X3
  have X3' : Stand p l e (z_rm d k1 k2) s m args below meth c (withThrown T' Zs text P1.m.cls kX) locs (cs + 3) (ss + 2010) := { X3 with same := X3.same.weaken (fun x hx _ => hx) (by omega) (by omega) }
  have X4 := X3'.noted hW'
  have ha : (T'.heap.size + 2) < ((withThrown T' Zs text P1.m.cls kX).setVm vm').heap.size := by show _ < (withThrown T' Zs text P1.m.cls kX).heap.size; rw [w3]; omega
  have X5 := ((((X4.stored w4 T.fCause.slot (.ref (T'.heap.size + 2))).storedAgain ha T.fStack.slot u0.v).storedAgain ha T.fSupp.slot sen.v).storedAgain ha T.fStack.slot u0.v).storedAgain ha T.fMsg.slot (.ref (T'.heap.size + 1))
  have ead : z_ad Γ (z_n h) = T'.heap.size := z_size hK.1 hR
  have ho := hR.2.1.1
  have ead2 : z_ad Γ (z_n h + 2) = T'.heap.size + 2 := by
    rw [hK.1.1 _ (by omega)]
    rw [hK.1.1 _ ho] at ead
    omega
  have hBs : z_B Γ ≤ T'.heap.size := by rw [← ead, hK.1.1 _ ho]; omega
  have hcls : P1.m.cls = Γ.1.1 (23 + n) := Option.some.inj (hfound.symm.trans (hK.2.2.2.2.2.2.2.2.1 n hn5))
  have ewt : (withThrown T' Zs text P1.m.cls kX).heap = ((T'.heap.push (bytesOf Zs.cB (stringToUtf16 text))).push (stringAt Zs.cS Zs.kS Zs.fv Zs.fc (stringToUtf16 text) T'.heap.size)).push (freshCell P1.m.cls kX) := by
    unfold withThrown
    rw [withString_eq]
    rfl
  have hRs : z_Rl Γ (z_skip h 2) ((T'.heap.push (bytesOf Zs.cB (stringToUtf16 text))).push (stringAt Zs.cS Zs.kS Zs.fv Zs.fc (stringToUtf16 text) T'.heap.size)) := by
    refine z_Rl.skip hK.1 hR (by simp) (fun q hq => ?_)
    rw [Array.getElem?_push, if_neg (by simp; omega), Array.getElem?_push, if_neg (by omega)]
  have hR' : z_Rl Γ (z_new (z_skip h 2) (.inr (.float, n + 2))) (((withThrown T' Zs text P1.m.cls kX).setVm vm').setCell (T'.heap.size + 2) (plainBareV T.toThrowableT (freshCell P1.m.cls kX) (T'.heap.size + 2) u0 sen (.ref (T'.heap.size + 1)))).heap := by
    show z_Rl Γ _ ((withThrown T' Zs text P1.m.cls kX).heap.setIfInBounds (T'.heap.size + 2) _)
    rw [ewt]
    refine z_Rl.push hK.1 hRs (by simp) (fun q hq => ?_) ?_
    · have hq2 : q < T'.heap.size + 2 := by simpa using hq
      rw [Array.getElem?_setIfInBounds, if_neg (by omega), Array.getElem?_push, if_neg (by simp; omega)]
    · unfold z_ce
      rw [z_Tn, if_pos rfl]
      refine Or.inl ⟨hn5, plainBareV T.toThrowableT (freshCell P1.m.cls kX) (T'.heap.size + 2) u0 sen (.ref (T'.heap.size + 1)), ?_, hcls, rfl⟩
      rw [show z_n (z_skip h 2) = z_n h + 2 from rfl, ead2]
      simp [Array.getElem?_setIfInBounds]
  obtain ⟨t, a1, b4⟩ := kt p l e s m args below meth c _ _ la (st.map (z_cv Γ)) X hR' (fun q hq => by
      simp only [List.append_assoc, List.cons_append, List.nil_append] at hq
      rcases List.mem_append.mp hq with q1 | q1
      · exact hL q q1
      · have hb : q.base = T'.heap.size + 2 := by
          simp only [List.mem_cons, List.not_mem_nil, or_false] at q1
          rcases q1 with rfl | rfl | rfl | rfl | rfl <;> rfl
        rw [hb]; omega) hl _ rfl X5
  refine ⟨t, st1 _ ?_, b4⟩
  obtain ⟨g₁, hfrM⟩ := X5.frames_eq
  rw [ead2] at a1
  rw [State.pushFrame, State.frames_setTop _ hfrM, State.setTop_of_frames _ hfrM, State.setFrames_setFrames] at a1
  refine z_ovOut (z_ovHere X5 [.java (F0 m pc la (st.map (z_cv Γ)))]) haw hlk ?_
  exact a1
end ZOVJ
