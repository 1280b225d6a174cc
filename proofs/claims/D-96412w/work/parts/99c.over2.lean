/-! EXCEPTIONS MADE ABOVE ANY FRAMES (by hand): the constructors. -/
section ZOVC
theorem z_ovS (p : Program) {e : Env} {below B : List Frame} {s₀ W : State} {self str : Addr} (hWat : z_ov W B below) (hexec : p.tables.exec = Jvm.exec) (T : ThrowableC) (L : T.Links e.platform s₀) (Z : Init0T) (LZ : Z.LaidS T.toThrowableT) (M : MsgC) (LM : M.Links T e.platform s₀) (hW : s₀.WarmedH W.vm)
    {u0 sen : RefV} {cell cellS : Cell} (hcell : W.heap[self]? = some cell) (hvm : cell.vm = .none) (hfree : cell.monitor.owner = none) (hsel0 : selectMethod e.platform s₀.vm cell.cls T.fill0 = .method T.fill0) (hcellS : W.heap[T.aS]? = some cellS) (hneS : T.aS ≠ self) (hknownS : cellS.vm ≠ .unknown) (hvU : cellS.slots[T.fUnassigned.slot]? = some u0.v) (htS : Takes s₀ cell T.fStack u0.v)
    (hskip : SkipFacts T e.platform s₀ (fun u => u) u0 ((preparedCellV T.toThrowableT cell self u0 sen).withEntry W.cur)) (htr : e.platform.stackTraces = false)
    (hselF : selectMethod e.platform s₀.vm cell.cls T.fill = .method T.fill) (hvSen : cellS.slots[T.fSentinel.slot]? = some sen.v) (htC : Takes s₀ cell T.fCause (.ref self)) (htP : Takes s₀ cell T.fSupp sen.v) (htM : Takes s₀ cell T.fMsg (.ref str)) (hobjLocals : T.codeObj.maxLocals = 1)
    (P1 : PassC) (L1 : P1.LinksS e.platform s₀) (Ps : List PassC) (hL : ∀ P, P ∈ Ps → P.LinksS e.platform s₀) (hlink1 : P1.sup = firstOf (Z.m T.toThrowableT) (Ps.map (·.toPassT))) (hlink : PassesOn (Z.m T.toThrowableT) (Ps.map (·.toPassT)))
    {lim : Nat × Nat} (hlim : e.platform.stackLimits W.me = lim) (hframes : B.length + Ps.length + 4 < lim.1) (hwords : (stackUse B).2 + 13 * Ps.length + 55 ≤ lim.2) :
    ∃ vm', s₀.WarmedH vm' ∧ ∀ target, Steps p.tables e below (((W.setVm vm').setCell self ((((preparedCellV T.toThrowableT cell self u0 sen).withEntry W.cur).setSlot T.fStack.slot u0.v).left.setSlot T.fMsg.slot (.ref str))).setFrames (.throwing self :: B)) target → Steps p.tables e below (doInvoke e (W.setFrames (.thenThrow self :: B)) [] P1.m #[.ref self, .ref str]).1 target := by
  obtain ⟨f1, f2, hI⟩ := z_ovIn hWat self (passJ P1.m self (.ref str) 0 []) (hW.methodAt L1.method) L1.code (hW.plainAt L1.plain)
  obtain ⟨vm1, hW1, st1⟩ := Steps.invokeInitCold (tb := p.tables) (s₀ := s₀) (U := (W.setFrames (.thenThrow self :: B)).pushFrame (.java (passJ P1.m self (.ref str) 0 []))) (f := passJ P1.m self (.ref str) 2 [.ref str, .ref self]) (args := [.ref str]) (rest := []) (a := self) hI hexec L1.at2 hW L1.links L1.right L1.notHandle L1.cls L1.file L1.pool L1.supClass L1.supMethod L1.supName L1.supStatic L1.supAbstract L1.supFound L1.supParams.symm rfl
  obtain ⟨-, g2, hI1⟩ := z_ovIn (hWat.vm vm1) self (passJ P1.m self (.ref str) 0 []) (hW1.methodAt L1.method) L1.code (hW1.plainAt (U := W.setVm vm1) L1.plain)
  have hroom := roomAbove (pl := e.platform) (u := W.setFrames (.thenThrow self :: B)) (vars := 2) (pushed := [.thenThrow self]) (base := B) (free := 13 * Ps.length + 55) (lim := lim) f1 (by rw [State.stackLimits_setFrames]; exact hlim)
    (by simp only [List.length_cons, List.length_nil]; omega) (by omega) (by rw [stackUse_light _ _ (fun f hf => by cases hf) rfl, stackUse_nil]; show 0 + 2 + 11 ≤ _; omega)
  obtain ⟨vm2, hW2, st2⟩ := Steps.initThrowableSColdByV p (V := ((W.setVm vm1).setFrames (.thenThrow self :: B)).pushFrame (.java (passJ P1.m self (.ref str) 0 []))) (g := passJ P1.m self (.ref str) 2 []) (c := P1.code) (self := self) hI1 hexec T L Z LZ M LM hW1 (t := W.cur) rfl
    (Nn := fun u => u) heapOnly_id (fun _ _ => rfl) (fun _ => rfl) (fun u x y => setCell_twice _ _ _ _) (fun _ => Nat.le_refl _) (msg := .ref str) rfl (cN := ((preparedCellV T.toThrowableT cell self u0 sen).withEntry W.cur)) (cell := cell) (cellS := cellS) hcell (fun k q => by rw [hvm] at q; cases q) (fun q => by rw [hvm] at q; cases q) hfree hsel0 hcellS hneS hknownS hvU htS
    (fun _ hu => hu) (fun _ hu => hu) rfl rfl rfl (by simp [preparedCellV, Cell.setSlot, Cell.withEntry]) hskip (fun _ _ hA hW3 _ hroom3 _ hrest => L.nativeOff p htr hA hW3 hroom3 hrest) hselF hvSen htC htP htM hobjLocals Ps hL hlink (ig := .invokespecial P1.index) (len := 3) [] (lim := lim) (by rw [State.stackLimits_pushFrame, State.stackLimits_setFrames]; exact hlim)
    (by rw [g2]; simp only [List.length_cons]; omega)
    (by rw [g2, List.tail_cons, stackUse_java, stackUse_light _ _ (fun f hf => by cases hf) rfl]
        show (stackUse B).2 + (2 + 11 + 2 * 0 + operandWords []) + 13 * Ps.length + 42 ≤ lim.2
        simp only [operandWords, List.foldl_nil]
        omega) L1.at2
  refine ⟨vm2, hW2, fun target hrest => ?_⟩
  rw [(doInvoke_java (s := W.setFrames (.thenThrow self :: B)) (e := e) (acts := []) (args := #[.ref self, .ref str]) (meth := P1.meth) (code := P1.code) (hW.methodAt L1.method) L1.code L1.locks (by rw [L1.locals]; exact hroom)).1, L1.locals]
  show Steps p.tables e below ((W.setFrames (.thenThrow self :: B)).pushFrame (.java (passJ P1.m self (.ref str) 0 []))) target
  rw [← State.setTop_self (s := ((W.setFrames (.thenThrow self :: B)).pushFrame (.java (passJ P1.m self (.ref str) 0 [])))) (State.topJava?_of_frames f2)]
  jvm_step hI [hexec, L1.at0, Value.isRef]
  jvm_step hI [hexec, L1.at1, Value.isRef]
  refine st1 target ?_
  have e1 : ∀ w v, (((W.setFrames (.thenThrow self :: B)).pushFrame (.java (passJ P1.m self (.ref str) 0 []))).setVm w).setVm v = ((W.setVm v).setFrames (.thenThrow self :: B)).pushFrame (.java (passJ P1.m self (.ref str) 0 [])) := fun w v => by rw [State.setVm_twice, State.pushFrame_setVm, State.setFrames_setVm]
  have e2 : ((W.setFrames (.thenThrow self :: B)).pushFrame (.java (passJ P1.m self (.ref str) 0 []))).setVm vm1 = ((W.setVm vm1).setFrames (.thenThrow self :: B)).pushFrame (.java (passJ P1.m self (.ref str) 0 [])) := by rw [State.pushFrame_setVm, State.setFrames_setVm]
  have e3 : (((W.setVm vm1).setFrames (.thenThrow self :: B)).pushFrame (.java (passJ P1.m self (.ref str) 0 []))).setVm vm2 = ((W.setVm vm2).setFrames (.thenThrow self :: B)).pushFrame (.java (passJ P1.m self (.ref str) 0 [])) := by rw [← e2, e1]
  rw [e2, hlink1]
  refine st2 target ?_
  rw [e3]
  exact z_ovEnd (W := W.setVm vm2) (hWat.vm vm2) hexec (H := fun u => u.setCell self ((((preparedCellV T.toThrowableT cell self u0 sen).withEntry W.cur).setSlot T.fStack.slot u0.v).left.setSlot T.fMsg.slot (.ref str))) (heapOnly_id.thenSetCell self _) self (x := passJ P1.m self (.ref str) 0 []) (y := passJ P1.m self (.ref str) 5 []) (hW2.methodAt L1.method) L1.code (hW2.plainAt (U := W.setVm vm2) L1.plain) L1.locks rfl rfl L1.at5 hrest
theorem z_ovN (p : Program) {e : Env} {below B : List Frame} {s₀ W : State} {self : Addr} (hWat : z_ov W B below) (hexec : p.tables.exec = Jvm.exec) (T : ThrowableC) (L : T.Links e.platform s₀) (Z : Init0T) (LZ : Z.Laid T.toThrowableT) (N : NpeC) (LN : N.Links T e.platform s₀) (hW : s₀.WarmedH W.vm)
    {u0 sen : RefV} {cell cellS : Cell} {kcell : Class} (hcell : W.heap[self]? = some cell) (hvm : cell.vm = .none) (hfree : cell.monitor.owner = none) (hkcell : s₀.vm.classes[cell.cls]? = some kcell) (hsel0 : selectMethod e.platform s₀.vm cell.cls T.fill0 = .method T.fill0) (hcellS : W.heap[T.aS]? = some cellS) (hneS : T.aS ≠ self) (hknownS : cellS.vm ≠ .unknown) (hvU : cellS.slots[T.fUnassigned.slot]? = some u0.v)
    (hv0 : cell.slots[N.fState.slot]? = some (.int 0)) (hneC : T.fCause.slot ≠ N.fState.slot) (hneSt : T.fStack.slot ≠ N.fState.slot) (hneP : T.fSupp.slot ≠ N.fState.slot) (htS : Takes s₀ cell T.fStack u0.v) (ht1 : Takes s₀ cell N.fState (.int 1))
    (hskip : SkipFacts T e.platform s₀ (fun u => u) u0 ((npeCell N.toNpeT (preparedCellV T.toThrowableT cell self u0 sen) W.cur).withEntry W.cur)) (htr : e.platform.stackTraces = false)
    (hselF : selectMethod e.platform s₀.vm cell.cls T.fill = .method N.fill) (hvSen : cellS.slots[T.fSentinel.slot]? = some sen.v) (htC : Takes s₀ cell T.fCause (.ref self)) (htP : Takes s₀ cell T.fSupp sen.v) (hobjLocals : T.codeObj.maxLocals = 1)
    (P1 : PassC) (L1 : P1.Links0 e.platform s₀) (Ps : List PassC) (hL : ∀ P, P ∈ Ps → P.Links0 e.platform s₀) (hlink1 : P1.sup = firstOf (Z.m T.toThrowableT) (Ps.map (·.toPassT))) (hlink : PassesOn (Z.m T.toThrowableT) (Ps.map (·.toPassT)))
    {lim : Nat × Nat} (hlim : e.platform.stackLimits W.me = lim) (hframes : B.length + Ps.length + 5 < lim.1) (hwords : (stackUse B).2 + 13 * Ps.length + 68 ≤ lim.2) :
    ∃ vm', s₀.WarmedH vm' ∧ ∀ target, Steps p.tables e below (((W.setVm vm').setCell self ((((npeCell N.toNpeT (preparedCellV T.toThrowableT cell self u0 sen) W.cur).withEntry W.cur).setSlot T.fStack.slot u0.v).left.left)).setFrames (.throwing self :: B)) target → Steps p.tables e below (doInvoke e (W.setFrames (.thenThrow self :: B)) [] P1.m #[.ref self]).1 target := by
  obtain ⟨f1, f2, hI⟩ := z_ovIn hWat self (pass0J P1.m self 0 []) (hW.methodAt L1.method) L1.code (hW.plainAt L1.plain)
  obtain ⟨vm1, hW1, st1⟩ := Steps.invokeInitCold (tb := p.tables) (s₀ := s₀) (U := (W.setFrames (.thenThrow self :: B)).pushFrame (.java (pass0J P1.m self 0 []))) (f := pass0J P1.m self 1 [.ref self]) (args := []) (rest := []) (a := self) hI hexec L1.at1 hW L1.links L1.right L1.notHandle L1.cls L1.file L1.pool L1.supClass L1.supMethod L1.supName L1.supStatic L1.supAbstract L1.supFound L1.supParams.symm rfl
  obtain ⟨-, g2, hI1⟩ := z_ovIn (hWat.vm vm1) self (pass0J P1.m self 0 []) (hW1.methodAt L1.method) L1.code (hW1.plainAt (U := W.setVm vm1) L1.plain)
  have hroom := roomAbove (pl := e.platform) (u := W.setFrames (.thenThrow self :: B)) (vars := 1) (pushed := [.thenThrow self]) (base := B) (free := 13 * Ps.length + 68) (lim := lim) f1 (by rw [State.stackLimits_setFrames]; exact hlim)
    (by simp only [List.length_cons, List.length_nil]; omega) (by omega) (by rw [stackUse_light _ _ (fun f hf => by cases hf) rfl, stackUse_nil]; show 0 + 1 + 11 ≤ _; omega)
  obtain ⟨vm2, hW2, st2⟩ := Steps.initNpe0ColdByV p (V := ((W.setVm vm1).setFrames (.thenThrow self :: B)).pushFrame (.java (pass0J P1.m self 0 []))) (g := pass0J P1.m self 1 []) (c := P1.code) (self := self) hI1 hexec T L Z LZ N LN hW1 (t := W.cur) rfl
    (Nn := fun u => u) heapOnly_id (fun _ _ => rfl) (fun _ => rfl) (fun u x y => setCell_twice _ _ _ _) (fun _ => Nat.le_refl _) (cN := ((npeCell N.toNpeT (preparedCellV T.toThrowableT cell self u0 sen) W.cur).withEntry W.cur)) (cell := cell) (cellS := cellS) hcell (fun k q => by rw [hvm] at q; cases q) (fun q => by rw [hvm] at q; cases q) hfree hkcell hsel0 hcellS hneS hknownS hvU hv0 hneC hneSt hneP htS ht1
    (fun _ hu => hu) (fun _ hu => hu) rfl rfl rfl (by simp [npeCell, preparedCellV, Cell.setSlot, Cell.withEntry]) hskip (fun _ _ hA hW3 _ hroom3 _ hrest => L.nativeOff p htr hA hW3 hroom3 hrest) hselF hvSen htC htP hobjLocals Ps hL hlink (ig := .invokespecial P1.index) (len := 3) [] (lim := lim) (by rw [State.stackLimits_pushFrame, State.stackLimits_setFrames]; exact hlim)
    (by rw [g2]; simp only [List.length_cons]; omega)
    (by rw [g2, List.tail_cons, stackUse_java, stackUse_light _ _ (fun f hf => by cases hf) rfl]
        show (stackUse B).2 + (1 + 11 + 2 * 0 + operandWords []) + 13 * Ps.length + 55 ≤ lim.2
        simp only [operandWords, List.foldl_nil]
        omega) L1.at1
  refine ⟨vm2, hW2, fun target hrest => ?_⟩
  rw [(doInvoke_java (s := W.setFrames (.thenThrow self :: B)) (e := e) (acts := []) (args := #[.ref self]) (meth := P1.meth) (code := P1.code) (hW.methodAt L1.method) L1.code L1.locks (by rw [L1.locals]; exact hroom)).1, L1.locals]
  show Steps p.tables e below ((W.setFrames (.thenThrow self :: B)).pushFrame (.java (pass0J P1.m self 0 []))) target
  rw [← State.setTop_self (s := ((W.setFrames (.thenThrow self :: B)).pushFrame (.java (pass0J P1.m self 0 [])))) (State.topJava?_of_frames f2)]
  jvm_step hI [hexec, L1.at0, Value.isRef]
  refine st1 target ?_
  have e2 : ∀ w, ((W.setFrames (.thenThrow self :: B)).pushFrame (.java (pass0J P1.m self 0 []))).setVm w = ((W.setVm w).setFrames (.thenThrow self :: B)).pushFrame (.java (pass0J P1.m self 0 [])) := fun w => by rw [State.pushFrame_setVm, State.setFrames_setVm]
  have e3 : (((W.setVm vm1).setFrames (.thenThrow self :: B)).pushFrame (.java (pass0J P1.m self 0 []))).setVm vm2 = ((W.setVm vm2).setFrames (.thenThrow self :: B)).pushFrame (.java (pass0J P1.m self 0 [])) := by rw [← e2, State.setVm_twice, e2]
  rw [e2, hlink1]
  refine st2 target ?_
  rw [e3]
  exact z_ovEnd (W := W.setVm vm2) (hWat.vm vm2) hexec (H := fun u => u.setCell self ((((npeCell N.toNpeT (preparedCellV T.toThrowableT cell self u0 sen) W.cur).withEntry W.cur).setSlot T.fStack.slot u0.v).left.left)) (heapOnly_id.thenSetCell self _) self (x := pass0J P1.m self 0 []) (y := pass0J P1.m self 4 []) (hW2.methodAt L1.method) L1.code (hW2.plainAt (U := W.setVm vm2) L1.plain) L1.locks rfl rfl L1.at4 hrest
end ZOVC
