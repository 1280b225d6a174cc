/-! THE MACHINE's EXCEPTIONS WITH A MESSAGE (by hand). -/
theorem z_Rl.skip {Γ : z_W} {h : z_H} {H H1 : Heap} {k : Nat} (hw : z_Wf Γ) (hR : z_Rl Γ h H) (hz : H1.size = H.size + k) (hq : ∀ q, q < H.size → H1[q]? = H[q]?) : z_Rl Γ (z_skip h k) H1 := by
  obtain ⟨r1, r2, r3, r4⟩ := hR
  refine ⟨fun b hb => ?_, ⟨by show z_o ≤ z_n h + k; omega, by show H1.size = z_B Γ + (z_n h + k - z_o); rw [hz, r2.2]; omega⟩, fun q h1 => by rw [hq q (by rw [r2.2]; omega)]; exact r3 q h1, fun b hb => ?_⟩
  · by_cases e : z_n h ≤ b
    · unfold z_ce
      rw [show z_T (z_skip h k) b = none from if_pos e]
      trivial
    · have h1 := r1 b (by omega)
      have hlt : z_ad Γ b < H.size := by
        rw [r2.2]
        by_cases q : z_o ≤ b
        · rw [hw.1 b q]; omega
        · have := hw.2 b (by omega); omega
      have hk := hq _ hlt
      have hT : z_T (z_skip h k) b = z_T h b := if_neg e
      have ho : ∀ ty j, z_vt Γ ty (z_skip h k) b j = z_vt Γ ty h b j := fun ty j => by cases ty <;> rfl
      unfold z_ce at h1 ⊢
      rw [hT]
      cases ht : z_T h b with
      | none => trivial
      | some t2 =>
        rw [ht] at h1
        cases t2 with
        | inl c =>
          obtain ⟨r, h2, h3⟩ := h1
          exact ⟨r, h2, (h3.kept hk).to (fun j _ => (ho _ j).symm)⟩
        | inr tn =>
          obtain ⟨ty, n⟩ := tn
          exact z_ca.kept hk (fun t j => ho t j) h1
  · exact if_pos (Nat.le_trans (Nat.le_add_right (z_n h) k) hb)
/-- the words of such an exception -/
def z_mw (C : String) (names : List String) : Prop := (∀ c ∈ Bundle.chainSAtoms C names, c ∈ lw_all ∨ (c ∈ lw_tbl ∧ z_gd c = true ∧ c.onTables = true)) ∧ Bundle.fit C = true ∧ (∀ n ∈ names, Bundle.fit n = true) ∧ Cond.initialized C ∈ lw_all ∧ Cond.instantiable C 6 ∈ lw_all ∧ Cond.selects C Bundle.tFill0 Bundle.tFill0 ∈ lw_all ∧ Cond.selects C Bundle.tFill Bundle.tFill ∈ lw_all ∧ Cond.lays C Bundle.tN "cause" "Ljava/lang/Throwable;" ∈ lw_all ∧ Cond.lays C Bundle.tN "stackTrace" Bundle.steD ∈ lw_all ∧ Cond.lays C Bundle.tN "suppressedExceptions" Bundle.listD ∈ lw_all ∧ Cond.lays C Bundle.tN "detailMessage" "Ljava/lang/String;" ∈ lw_all ∧ Cond.lays C Bundle.tN "backtrace" "Ljava/lang/Object;" ∈ lw_all ∧ (C == "java/lang/StackOverflowError") = false ∧ (C == "java/lang/OutOfMemoryError") = false
theorem z_thS : ∀ x ∈ Bundle.throwableSAtoms, x ∈ lw_all ∧ x.onTables = true := by
  intro x hx
  simp only [Bundle.throwableSAtoms, List.mem_cons, List.not_mem_nil, or_false] at hx
  rcases hx with e | e | e | e <;> rw [e]
  · exact ⟨q1197, rfl⟩
  · exact ⟨q1198, rfl⟩
  · exact ⟨q819, rfl⟩
  · exact ⟨q767, rfl⟩
theorem z_stA : ∀ x ∈ Bundle.stringAtoms, x ∈ lw_all := by
  intro x hx
  simp only [Bundle.stringAtoms, List.mem_cons, List.not_mem_nil, or_false] at hx
  rcases hx with e | e | e | e | e | e | e <;> rw [e]
  · exact q108
  · exact q1208
  · exact q195
  · exact q1209
  · exact q1211
  · exact q1210
  · exact q1212
section ZMSG
variable {Γ : z_W} {M : z_M} {Q : Outcome → z_H → Prop} {cs ss pc : Nat} {ls : List (Option Value)} {st : List Value} {h : z_H}
theorem z_tnMsg {n d k1 k2 : Nat} {names : List String} {text : String} (hn5 : n < 5) (hw : z_mw (z_xn n) names) (hnl : names.length ≤ 3) (htext : (text == notModelled) = false) (hsz : (stringBytes (stringToUtf16 text)).size ≤ 2000) (h1 : cs + 3 ≤ k1) (h2 : ss + 2010 ≤ k2) (hst : (st.map fun v => v.category).sum ≤ 20) (kt : z_Th Γ M (z_rm d k1 k2) Q (cs + 3) (ss + 2010) pc ls (z_new (z_skip h 2) (.inr (.float, n + 2))) (z_n h + 2)) : z_TN Γ M (z_rm d k1 k2) Q cs ss pc ls st h (z_xn n) (some text) := by
  intro p l e s m args below meth c H locs la X hR hL hl T' hT' S
  subst hT'
  have hK := X.2.2.2.2.2.2.2.2.2
  have hts := X.2.2.2.2.2.1
  obtain ⟨s0, T, Z0, u0, sen, cellS, B, Lk, -, Y, gB, g1, g2, g3, g4, BL, bf, bn, bt⟩ := z_tb S hK hts hR
  obtain ⟨v1, v2, v3, v4, v5, v6, v7, v8, v9, v10, v11, v12, v13, v14⟩ := hw
  have hpl : e.platform.magicAccessors = ({} : Platform).magicAccessors := by rw [S.admits.platform]
  have htr : e.platform.stackTraces = false := by
    rw [S.admits.platform]
    exact hK.2.2.2.2.2.2.2.1
  have LU : T.Links e.platform (s0.setVm s.vm) := by
    cases Lk
    constructor <;> assumption
  obtain ⟨Z, MC, LZ, LM0, hnZ⟩ := Init0T.ofS_atoms (args := args) (s := s0.setVm s.vm) hpl LU Y (fun x hx => z_tv (z_thS x hx).2 (hts _ (z_thS x hx).1))
  have LM : MC.Links T e.platform s := by
    cases LM0
    constructor <;> assumption
  obtain ⟨P1, Ps, hlen, L1, hLs, hP1m, hlink1, hlink⟩ := Bundle.chainS (args := args) (s := s) hpl hnZ names (z_xn n) v2 v3 (fun c hc => by
    rcases v1 c hc with q | ⟨q, q2, q3⟩
    · exact hts _ q
    · exact va_Nw.use q3 (hK.2.2.2.1 _ q q2))
  obtain ⟨Zs, LZs, hn4, hfitv, hfitc⟩ := StringT.of_atoms (args := args) (fun x hx => hts _ (z_stA x hx))
  have hfound : s.vm.findClass (z_xn n) = some P1.m.cls := findClass_of_methodNamed hP1m
  obtain ⟨c1, kX, hc1, hk, hord, -, -, hn6⟩ := Cond.instantiable_spec (hts _ v5)
  cases Option.some.inj (hc1.symm.trans hfound)
  have hinit := Cond.initialized_spec hfound hk (hts _ v4)
  have hctor : kX.findMethod "<init>" "(Ljava/lang/String;)V" = some P1.m.idx := findMethod_of_methodNamed hP1m hk
  have hsel0 : selectMethod e.platform s.vm P1.m.cls T.fill0 = .method T.fill0 := by
    obtain ⟨c2, r2, m2, q1, q2, q3, q4, -⟩ := Cond.selects_spec (hts _ v6)
    cases Option.some.inj (q1.symm.trans hfound)
    cases Option.some.inj (q2.symm.trans (State.methodFound?_of_named Y.fill0 (by decide)))
    cases Option.some.inj (q3.symm.trans Y.fill0)
    rw [Launch.admits_selectMethod S.admits]; exact q4
  have hselF : selectMethod e.platform s.vm P1.m.cls T.fill = .method T.fill := by
    obtain ⟨c2, r2, m2, q1, q2, q3, q4, -⟩ := Cond.selects_spec (hts _ v7)
    cases Option.some.inj (q1.symm.trans hfound)
    cases Option.some.inj (q2.symm.trans (State.methodFound?_of_named Y.fill (by decide)))
    cases Option.some.inj (q3.symm.trans Y.fill)
    rw [Launch.admits_selectMethod S.admits]; exact q4
  obtain ⟨iM, hffM⟩ := Y.msg
  obtain ⟨tyC, dC, hdC, hdnC⟩ := Cond.laysAt hfound hk Y.cause (hts _ v8)
  obtain ⟨tyS, dS, hdS, hdnS⟩ := Cond.laysAt hfound hk Y.stack (hts _ v9)
  obtain ⟨tyP, dP, hdP, hdnP⟩ := Cond.laysAt hfound hk Y.supp (hts _ v10)
  obtain ⟨tyM, dM, hdM, hdnM⟩ := Cond.laysAt (s := s) hfound hk hffM (hts _ v11)
  obtain ⟨tyB, dB, hdB, hdnB⟩ := Cond.laysAt hfound hk bf (hts _ v12)
  have bC := Cond.laysApart hdB hdC hdnB hdnC (by rw [bn, Y.causeName]; decide)
  have bS := Cond.laysApart hdB hdS hdnB hdnS (by rw [bn, Y.stackName]; decide)
  have bP := Cond.laysApart hdB hdP hdnB hdnP (by rw [bn, Y.suppName]; decide)
  have hskip : SkipFacts T e.platform s (fun u => u) u0 ((preparedCellV T.toThrowableT (freshCell P1.m.cls kX) (T'.heap.size + 2) u0 sen).withEntry T'.cur) := by
    refine ⟨B, BL, ?_, fun _ _ => rfl⟩
    have b0 := fresh_default (c := P1.m.cls) tyB
    rw [bt] at b0
    simpa [preparedCellV, Cell.setSlot, Cell.withEntry, Array.getElem?_setIfInBounds, bC, bS, bP, bC.symm, bS.symm, bP.symm, defaultValue] using b0
  have cw : ((st.map (z_cv Γ)).map fun v => v.category).sum ≤ 20 := by rw [z_sum]; exact hst
  have hsize : (F0 m pc la (st.map (z_cv Γ))).locals.size = c.maxLocals := hl.1.trans X.2.2.1.symm
  have hRl : 2 * (F0 m pc la (st.map (z_cv Γ))).monitorRoom + ((F0 m pc la (st.map (z_cv Γ))).stack.map fun v => v.category).sum + 10240 ≤ (z_rm d k1 k2).locals := by
    have q : 2 * 0 + ((st.map (z_cv Γ)).map fun v => v.category).sum + 10240 ≤ 64 * d + 20000 := by omega
    exact q
  obtain ⟨hbeyond, hfreeW⟩ := S.vmMayThrow hsize (.throwNew (z_xn n) (some text) none) (fun f hf => by cases hf) rfl hRl
  have hfr : T'.frames.length + Ps.length + 4 < (e.platform.stackLimits T'.me).1 := by
    have := S.framesAbove (n := 7) (show 7 < d + 64 by omega)
    omega
  have hwd : (stackUse (.java (F0 m pc la (st.map (z_cv Γ))) :: T'.frames.tail)).2 + 13 * Ps.length + 55 ≤ (e.platform.stackLimits T'.me).2 := by
    have := S.stackAbove hsize (K := 13 * Ps.length + 55) (by have q := hRl; omega)
    omega
  have hlimit : ¬ (stringBytes (stringToUtf16 text)).size > e.platform.arrayLengthLimit := by
    rw [S.admits.platform]
    show ¬ _ > 2147483645
    omega
  have hheap : ¬ (stringBytes (stringToUtf16 text)).size * componentBytes .byte > e.platform.maxHeapBytes := by
    rw [S.admits.platform]
    show ¬ _ * 1 > 536870912
    omega
  have hslots : T'.slotsUsed + (stringBytes (stringToUtf16 text)).size + Zs.kS.instanceTypes.size + kX.instanceTypes.size ≤ e.platform.maxSlots := by
    have := S.slotsAbove (n := 2010) h2
    rw [hn4, hn6]
    omega
  obtain ⟨vm', hW', st1⟩ := Steps.vmThrowsMessageColdByV p (s₀ := s) (S := T') (g := F0 m pc la (st.map (z_cv Γ))) S.here X.1 T Lk Z LZ MC LM S.warmed (t := T'.cur) rfl Zs LZs P1 L1 Ps hLs hlink1 hlink v13 v14 hfound hk hinit hord hctor
    (Launch.admits_hotImplicitExceptions S.admits) hbeyond hfreeW htext hlimit hheap (S.cellsAbove (n := 3) h1) hslots (hfitv _) (hfitc _)
    (Nn := fun u => u) heapOnly_id (fun _ _ => rfl) (fun _ => rfl) (fun u x y => setCell_twice _ _ _ _) (fun _ => Nat.le_refl _) (cN := ((preparedCellV T.toThrowableT (freshCell P1.m.cls kX) (T'.heap.size + 2) u0 sen).withEntry T'.cur))
    hsel0 g1 g2 g3 (Takes.of_laid hk hord tyS (by rw [Y.stackType]; exact fits_refV_array _ u0)) (fun _ hu => hu) (fun _ hu => hu) rfl rfl rfl (by simp [preparedCellV, Cell.setSlot, Cell.withEntry]) hskip (fun _ _ hA hW _ hroom _ hrest => Lk.nativeOff p htr hA hW hroom hrest) hselF g4 (Takes.of_laid hk hord tyC (by rw [Y.causeType]; rfl)) (Takes.of_laid hk hord tyP (by rw [Y.suppType]; exact fits_refV_object _ sen)) (Takes.of_laid hk hord tyM (by rw [Y.msgType]; rfl)) Y.objLocals rfl hfr hwd
  rw [plainBareV_eq T.toThrowableT (T'.heap.size + 2) u0 sen (.ref (T'.heap.size + 1)) T'.cur rfl rfl] at st1
  obtain ⟨-, -, w3, w4, -, -, -⟩ := withThrown_facts e.platform T' Zs text P1.m.cls kX
  have X3 := ((S.pushed (bytesOf Zs.cB (stringToUtf16 text))).pushed (stringAt Zs.cS Zs.kS Zs.fv Zs.fc (stringToUtf16 text) T'.heap.size)).pushed (freshCell P1.m.cls kX)
  have b1 : (bytesOf Zs.cB (stringToUtf16 text)).slots.size = (stringBytes (stringToUtf16 text)).size := by
    rw [(Cell.writeAll_facts _ _).2.2]; simp [bytes0]
  have b2 : (stringAt Zs.cS Zs.kS Zs.fv Zs.fc (stringToUtf16 text) T'.heap.size).slots.size = 4 := by simp [string0, Cell.setSlot, hn4]
  have b3 : (freshCell P1.m.cls kX).slots.size = 6 := by simp [hn6]
  rw [← withString_eq, b1, b2, b3] at X3
  have X3' : Stand p l e (z_rm d k1 k2) s m args below meth c (withThrown T' Zs text P1.m.cls kX) locs (cs + 3) (ss + 2010) := { X3 with same := X3.same.weaken (fun x hx _ => hx) (by omega) (by omega) }
  have X4 := X3'.noted hW'
  have ha : (T'.heap.size + 2) < ((withThrown T' Zs text P1.m.cls kX).setVm vm').heap.size := by show _ < (withThrown T' Zs text P1.m.cls kX).heap.size; rw [w3]; omega
  have X5 := ((((X4.stored w4 T.fCause.slot (.ref (T'.heap.size + 2))).storedAgain ha T.fStack.slot u0.v).storedAgain ha T.fSupp.slot sen.v).storedAgain ha T.fStack.slot u0.v).storedAgain ha T.fMsg.slot (.ref (T'.heap.size + 1))
  have ead : z_ad Γ (z_n h) = T'.heap.size := z_size hK.1 hR
  have ho := hR.2.1.1
  have ead2 : z_ad Γ (z_n h + 2) = T'.heap.size + 2 := by
    rw [hK.1.1 _ (by omega)]
    rw [hK.1.1 _ ho] at ead
    omega
  have hBs : z_B Γ ≤ T'.heap.size := by rw [← ead, hK.1.1 _ ho]; omega
  have hcls : P1.m.cls = Γ.1.1 (23 + n) := Option.some.inj (hfound.symm.trans (hK.2.2.2.2.2.2.2.2.1 n hn5))
  have ewt : (withThrown T' Zs text P1.m.cls kX).heap = ((T'.heap.push (bytesOf Zs.cB (stringToUtf16 text))).push (stringAt Zs.cS Zs.kS Zs.fv Zs.fc (stringToUtf16 text) T'.heap.size)).push (freshCell P1.m.cls kX) := by
    unfold withThrown
    rw [withString_eq]
    rfl
  have hRs : z_Rl Γ (z_skip h 2) ((T'.heap.push (bytesOf Zs.cB (stringToUtf16 text))).push (stringAt Zs.cS Zs.kS Zs.fv Zs.fc (stringToUtf16 text) T'.heap.size)) := by
    refine z_Rl.skip hK.1 hR (by simp) (fun q hq => ?_)
    rw [Array.getElem?_push, if_neg (by simp; omega), Array.getElem?_push, if_neg (by omega)]
  have hR' : z_Rl Γ (z_new (z_skip h 2) (.inr (.float, n + 2))) (((withThrown T' Zs text P1.m.cls kX).setVm vm').setCell (T'.heap.size + 2) (plainBareV T.toThrowableT (freshCell P1.m.cls kX) (T'.heap.size + 2) u0 sen (.ref (T'.heap.size + 1)))).heap := by
    show z_Rl Γ _ ((withThrown T' Zs text P1.m.cls kX).heap.setIfInBounds (T'.heap.size + 2) _)
    rw [ewt]
    refine z_Rl.push hK.1 hRs (by simp) (fun q hq => ?_) ?_
    · have hq2 : q < T'.heap.size + 2 := by simpa using hq
      rw [Array.getElem?_setIfInBounds, if_neg (by omega), Array.getElem?_push, if_neg (by simp; omega)]
    · unfold z_ce
      rw [z_Tn, if_pos rfl]
      refine Or.inl ⟨hn5, plainBareV T.toThrowableT (freshCell P1.m.cls kX) (T'.heap.size + 2) u0 sen (.ref (T'.heap.size + 1)), ?_, hcls, rfl⟩
      rw [show z_n (z_skip h 2) = z_n h + 2 from rfl, ead2]
      simp [Array.getElem?_setIfInBounds]
  obtain ⟨t, a1, b4⟩ := kt p l e s m args below meth c _ _ la (st.map (z_cv Γ)) X hR' (fun q hq => by
      simp only [List.append_assoc, List.cons_append, List.nil_append] at hq
      rcases List.mem_append.mp hq with q1 | q1
      · exact hL q q1
      · have hb : q.base = T'.heap.size + 2 := by
          simp only [List.mem_cons, List.not_mem_nil, or_false] at q1
          rcases q1 with rfl | rfl | rfl | rfl | rfl <;> rfl
        rw [hb]; omega) hl _ rfl X5
  refine ⟨t, st1 _ ?_, b4⟩
  obtain ⟨g₁, hfrM⟩ := X5.frames_eq
  rw [ead2] at a1
  rw [State.pushFrame, State.frames_setTop _ hfrM, State.setTop_of_frames _ hfrM, State.setFrames_setFrames] at a1
  rw [S.tail]
  exact a1
end ZMSG
