/-! THE MACHINE's NullPointerException (by hand). -/
/-- the machine is about to throw a new exception over the frame -/
def z_TN (Γ : z_W) (M : z_M) (rm : Room) (Q : Outcome → z_H → Prop) (cs ss : Nat) (pc : Nat) (ls : List (Option Value)) (st : List Value) (h : z_H) (cls : String) (msg : Option String) : Prop :=
  ∀ (p : Program) (l : Launch) (e : Env) (s : State) (m : MethodId) (args : Array Value) (below : List Frame) (meth : Method) (c : Code) (H : Heap) (locs : List Loc) (la : Array Slot),
    z_Cx Γ M p l s m args meth c → z_Rl Γ h H → (∀ q ∈ locs, z_B Γ ≤ q.base) → z_lh Γ la M.2.2.1 ls → ∀ T : State, T.heap = H → Stand p l e rm s m args below meth c T locs cs ss →
    ∃ t, Steps p.tables e below ((T.setTop (F0 m pc la (st.map (z_cv Γ)))).pushFrame (.throwNew cls msg none)) t ∧ z_MQ Γ Q rm below s t
theorem z_tv {s s0 : State} {args : Array Value} {w : Cond} (ho : w.onTables = true) (hw : w.before args s = true) : w.before args (s0.setVm s.vm) = true := by
  rw [Cond.onTables_vm (A' := args) (U' := s) s.vm w ho, State.setVm_self]
  exact hw
theorem z_npA : ∀ x ∈ Bundle.npeAtoms, (x ∈ lw_all ∨ (x ∈ lw_tbl ∧ z_gd x = true)) ∧ x.onTables = true := by
  intro x hx
  simp only [Bundle.npeAtoms, List.mem_cons, List.not_mem_nil, or_false] at hx
  rcases hx with e | e | e | e | e | e | e | e <;> rw [e]
  · exact ⟨.inl q797, rfl⟩
  · exact ⟨.inl q787, rfl⟩
  · exact ⟨.inl q788, rfl⟩
  · exact ⟨.inl q1225, rfl⟩
  · exact ⟨.inl q1227, rfl⟩
  · exact ⟨.inl q794, rfl⟩
  · exact ⟨.inl q795, rfl⟩
  · exact ⟨.inr ⟨q1239, rfl⟩, rfl⟩
section ZNPE
variable {Γ : z_W} {M : z_M} {Q : Outcome → z_H → Prop} {cs ss pc : Nat} {ls : List (Option Value)} {st : List Value} {h : z_H}
theorem z_chN {l : Launch} {s : State} {args : Array Value} (hK : z_K Γ l s) (hts : ∀ w ∈ lw_all, w.before args s = true) : ∀ c ∈ Bundle.chain0Atoms "java/lang/NullPointerException" ["java/lang/RuntimeException", "java/lang/Exception"], c.before args s = true := by
  intro c hc
  rw [Bundle.chain0Atoms, List.mem_append] at hc
  rcases hc with hc | hc
  · simp only [Bundle.passAtoms, List.mem_cons, List.not_mem_nil, or_false] at hc
    rcases hc with e | e | e | e | e <;> rw [e]
    · exact hts _ q1222
    · exact hts _ q1223
    · exact hts _ q1224
    · exact hts _ q810
    · exact va_Nw.use rfl (hK.2.2.2.1 _ q752 rfl)
  · exact z_ch0 hK hts c hc
theorem z_tnNpe {d k1 k2 : Nat} (h1 : cs + 1 ≤ k1) (h2 : ss + 8 ≤ k2) (hst : (st.map fun v => v.category).sum ≤ 20) (kt : z_Th Γ M (z_rm d k1 k2) Q (cs + 1) (ss + 8) pc ls (z_new h (.inr (.float, 2))) (z_n h)) : z_TN Γ M (z_rm d k1 k2) Q cs ss pc ls st h "java/lang/NullPointerException" none := by
  intro p l e s m args below meth c H locs la X hR hL hl T' hT' S
  subst hT'
  have hK := X.2.2.2.2.2.2.2.2.2
  have hts := X.2.2.2.2.2.1
  obtain ⟨s0, T, Z, u0, sen, cellS, B, Lk, LZ, Y, gB, g1, g2, g3, g4, BL, bf, bn, bt⟩ := z_tb S hK hts hR
  have hpl : e.platform.magicAccessors = ({} : Platform).magicAccessors := by rw [S.admits.platform]
  have hpl2 : e.platform.arrayCloneIsPublic = true := by rw [S.admits.platform]
  have htr : e.platform.stackTraces = false := by
    rw [S.admits.platform]
    exact hK.2.2.2.2.2.2.2.1
  have LU : T.Links e.platform (s0.setVm s.vm) := by
    cases Lk
    constructor <;> assumption
  obtain ⟨N, LN0, hcN, hnNF, hordN, hffS⟩ := NpeC.of_atoms (args := args) (s := s0.setVm s.vm) hpl hpl2 LU Y (fun x hx => by
    obtain ⟨q1, q2⟩ := z_npA x hx
    refine z_tv q2 ?_
    rcases q1 with q1 | ⟨q1, q3⟩
    · exact hts _ q1
    · exact va_Nw.use q2 (hK.2.2.2.1 _ q1 q3))
  have LN : N.Links T e.platform s := by
    cases LN0
    constructor <;> assumption
  obtain ⟨P1, Ps, hlen, L1, hLs, hP1m, hlink1, hlink⟩ := Bundle.chain0 (args := args) (s := s) hpl Y.init0 ["java/lang/RuntimeException", "java/lang/Exception"] "java/lang/NullPointerException" (by decide +kernel) (by
    intro n hn
    simp only [List.mem_cons, List.not_mem_nil, or_false] at hn
    rcases hn with rfl | rfl <;> decide +kernel) (z_chN hK hts)
  have hlen2 : Ps.length = 2 := hlen
  have hfound : s.vm.findClass "java/lang/NullPointerException" = some P1.m.cls := findClass_of_methodNamed hP1m
  have ecls : N.cN = P1.m.cls := Option.some.inj ((show s.vm.findClass "java/lang/NullPointerException" = some N.cN from hcN).symm.trans hfound)
  have hk : s.vm.classes[P1.m.cls]? = some N.kN := by rw [← ecls]; exact LN.cls
  have hinit := Cond.initialized_spec hfound hk (hts _ q124)
  have hctor : N.kN.findMethod "<init>" "()V" = some P1.m.idx := findMethod_of_methodNamed hP1m hk
  obtain ⟨c1, kk1, hc1, hk1, -, -, -, hn8⟩ := Cond.instantiable_spec (hts _ q792)
  cases Option.some.inj (hc1.symm.trans hfound)
  cases Option.some.inj (hk1.symm.trans hk)
  have hsel0 : selectMethod e.platform s.vm P1.m.cls T.fill0 = .method T.fill0 := by
    obtain ⟨c2, r2, m2, q1, q2, q3, q4, -⟩ := Cond.selects_spec (hts _ q1238)
    cases Option.some.inj (q1.symm.trans hfound)
    cases Option.some.inj (q2.symm.trans (State.methodFound?_of_named Y.fill0 (by decide)))
    cases Option.some.inj (q3.symm.trans Y.fill0)
    rw [Launch.admits_selectMethod S.admits]; exact q4
  have hselF : selectMethod e.platform s.vm P1.m.cls T.fill = .method N.fill := by
    obtain ⟨c2, r2, m2, q1, q2, q3, q4, -⟩ := Cond.selects_spec (hts _ q786)
    cases Option.some.inj (q1.symm.trans hfound)
    cases Option.some.inj (q2.symm.trans (State.methodFound?_of_named Y.fill (by decide)))
    cases Option.some.inj (q3.symm.trans hnNF)
    rw [Launch.admits_selectMethod S.admits]; exact q4
  obtain ⟨tyC, dC, hdC, hdnC⟩ := Cond.laysAt hfound hk Y.cause (hts _ q1233)
  obtain ⟨tyS, dS, hdS, hdnS⟩ := Cond.laysAt hfound hk Y.stack (hts _ q1234)
  obtain ⟨tyP, dP, hdP, hdnP⟩ := Cond.laysAt hfound hk Y.supp (hts _ q1236)
  obtain ⟨tyX, dX, hdX, hdnX⟩ := Cond.laysAt (s := s) hfound hk hffS (hts _ q1227)
  obtain ⟨tyB, dB, hdB, hdnB⟩ := Cond.laysAt hfound hk bf (hts _ q1231)
  have hnX : N.fState.name = "extendedMessageState" := (State.fieldFound?_type hffS (t := .int) (by decide +kernel)).1
  have bC := Cond.laysApart hdB hdC hdnB hdnC (by rw [bn, Y.causeName]; decide)
  have bS := Cond.laysApart hdB hdS hdnB hdnS (by rw [bn, Y.stackName]; decide)
  have bP := Cond.laysApart hdB hdP hdnB hdnP (by rw [bn, Y.suppName]; decide)
  have bX := Cond.laysApart hdB hdX hdnB hdnX (by rw [bn, hnX]; decide)
  have xC := Cond.laysApart hdC hdX hdnC hdnX (by rw [Y.causeName, hnX]; decide)
  have xS := Cond.laysApart hdS hdX hdnS hdnX (by rw [Y.stackName, hnX]; decide)
  have xP := Cond.laysApart hdP hdX hdnP hdnX (by rw [Y.suppName, hnX]; decide)
  have hskip : SkipFacts T e.platform s (fun u => u) u0 ((npeCell N.toNpeT (preparedCellV T.toThrowableT (freshCell P1.m.cls N.kN) T'.heap.size u0 sen) T'.cur).withEntry T'.cur) := by
    refine ⟨B, BL, ?_, fun _ _ => rfl⟩
    have b0 := fresh_default (c := P1.m.cls) tyB
    rw [bt] at b0
    simpa [npeCell, preparedCellV, Cell.setSlot, Cell.withEntry, Array.getElem?_setIfInBounds, bC, bS, bP, bX, bC.symm, bS.symm, bP.symm, bX.symm, defaultValue] using b0
  have cw : ((st.map (z_cv Γ)).map fun v => v.category).sum ≤ 20 := by rw [z_sum]; exact hst
  have hsize : (F0 m pc la (st.map (z_cv Γ))).locals.size = c.maxLocals := hl.1.trans X.2.2.1.symm
  have hRl : 2 * (F0 m pc la (st.map (z_cv Γ))).monitorRoom + ((F0 m pc la (st.map (z_cv Γ))).stack.map fun v => v.category).sum + 10240 ≤ (z_rm d k1 k2).locals := by
    have q : 2 * 0 + ((st.map (z_cv Γ)).map fun v => v.category).sum + 10240 ≤ 64 * d + 20000 := by omega
    exact q
  obtain ⟨hbeyond, hfreeW⟩ := S.vmMayThrow hsize (.throwNew "java/lang/NullPointerException" none none) (fun f hf => by cases hf) rfl hRl
  have hfr : T'.frames.length + Ps.length + 5 < (e.platform.stackLimits T'.me).1 := by
    have := S.framesAbove (n := 7) (show 7 < d + 64 by omega)
    omega
  have hwd : (stackUse (.java (F0 m pc la (st.map (z_cv Γ))) :: T'.frames.tail)).2 + 13 * Ps.length + 68 ≤ (e.platform.stackLimits T'.me).2 := by
    have := S.stackAbove hsize (K := 13 * Ps.length + 68) (by rw [hlen2]; have q := hRl; omega)
    omega
  obtain ⟨vm', hW', st1⟩ := Steps.vmThrowsNpeColdByV p (s₀ := s) (S := T') (g := F0 m pc la (st.map (z_cv Γ))) S.here X.1 T Lk Z LZ N LN S.warmed (t := T'.cur) rfl P1 L1 Ps hLs hlink1 hlink hfound hk hinit hordN hctor
    (Launch.admits_hotImplicitExceptions S.admits) hbeyond hfreeW (S.cellsAbove (n := 1) h1) (S.slotsAbove (n := N.kN.instanceTypes.size) (by rw [hn8]; exact h2))
    (Nn := fun u => u) heapOnly_id (fun _ _ => rfl) (fun _ => rfl) (fun u x y => setCell_twice _ _ _ _) (fun _ => Nat.le_refl _) (cN := ((npeCell N.toNpeT (preparedCellV T.toThrowableT (freshCell P1.m.cls N.kN) T'.heap.size u0 sen) T'.cur).withEntry T'.cur))
    hsel0 g1 g2 g3 (by rw [fresh_default tyX, LN.stateInt]; rfl) xC xS xP (Takes.of_laid hk hordN tyS (by rw [Y.stackType]; exact fits_refV_array _ u0)) (Takes.of_laid hk hordN tyX (by rw [LN.stateInt]; rfl)) (fun _ hu => hu) (fun _ hu => hu) rfl rfl rfl (by simp [npeCell, preparedCellV, Cell.setSlot, Cell.withEntry]) hskip (fun _ _ hA hW _ hroom _ hrest => Lk.nativeOff p htr hA hW hroom hrest) hselF g4 (Takes.of_laid hk hordN tyC (by rw [Y.causeType]; rfl)) (Takes.of_laid hk hordN tyP (by rw [Y.suppType]; exact fits_refV_object _ sen)) Y.objLocals rfl hfr hwd
  rw [npeBareV_eq T.toThrowableT N.toNpeT T'.heap.size u0 sen T'.cur rfl rfl] at st1
  have X2 := (S.pushed (freshCell P1.m.cls N.kN)).noted hW'
  have hszf : (freshCell P1.m.cls N.kN).slots.size = 8 := by simp [hn8]
  rw [hszf] at X2
  have ha : T'.heap.size < ((T'.pushCell (freshCell P1.m.cls N.kN)).setVm vm').heap.size := by
    rw [show ((T'.pushCell (freshCell P1.m.cls N.kN)).setVm vm').heap.size = T'.heap.size + 1 from State.heap_size_pushCell _ _]; omega
  have hcell : ((T'.pushCell (freshCell P1.m.cls N.kN)).setVm vm').heap[T'.heap.size]? = some (freshCell P1.m.cls N.kN) := State.heap_pushCell_size T' (freshCell P1.m.cls N.kN)
  have X3 := ((((X2.stored hcell T.fCause.slot (.ref T'.heap.size)).storedAgain ha T.fStack.slot u0.v).storedAgain ha T.fSupp.slot sen.v).storedAgain ha N.fState.slot (.int 1)).storedAgain ha T.fStack.slot u0.v
  have ead : z_ad Γ (z_n h) = T'.heap.size := z_size hK.1 hR
  have hBs : z_B Γ ≤ T'.heap.size := by rw [← ead, hK.1.1 _ hR.2.1.1]; omega
  have hcls : P1.m.cls = Γ.1.1 23 := Option.some.inj (hfound.symm.trans (hK.2.2.2.2.2.2.2.2.1 0 (by decide)))
  obtain ⟨t, a1, b1⟩ := kt p l e s m args below meth c (((T'.pushCell (freshCell P1.m.cls N.kN)).setVm vm').setCell T'.heap.size (npeBareV T.toThrowableT N.toNpeT (freshCell P1.m.cls N.kN) T'.heap.size u0 sen)).heap _ la (st.map (z_cv Γ)) X (by
      refine z_Rl.push hK.1 hR ?_ ?_ ?_
      · show (T'.heap.push _ |>.setIfInBounds _ _).size = _
        simp
      · intro q hq
        show (T'.heap.push _ |>.setIfInBounds _ _)[q]? = _
        rw [Array.getElem?_setIfInBounds, if_neg (by omega), Array.getElem?_push, if_neg (by omega)]
      · unfold z_ce
        rw [z_Tn, if_pos rfl]
        refine Or.inl ⟨by decide, npeBareV T.toThrowableT N.toNpeT (freshCell P1.m.cls N.kN) T'.heap.size u0 sen, ?_, hcls, rfl⟩
        rw [ead]
        show (T'.heap.push _ |>.setIfInBounds _ _)[T'.heap.size]? = _
        simp [Array.getElem?_setIfInBounds]) (fun q hq => by
      simp only [List.append_assoc, List.cons_append, List.nil_append] at hq
      rcases List.mem_append.mp hq with q1 | q1
      · exact hL q q1
      · have hb : q.base = T'.heap.size := by
          simp only [List.mem_cons, List.not_mem_nil, or_false] at q1
          rcases q1 with rfl | rfl | rfl | rfl | rfl <;> rfl
        rw [hb]; exact hBs) hl _ rfl X3
  refine ⟨t, st1 _ ?_, b1⟩
  obtain ⟨g₁, hfrM⟩ := X3.frames_eq
  rw [ead] at a1
  rw [State.pushFrame, State.frames_setTop _ hfrM, State.setTop_of_frames _ hfrM, State.setFrames_setFrames] at a1
  rw [S.tail]
  exact a1
end ZNPE
