/-! super.m(..) where the superclass has it from its own (by hand). -/
section ZSUPI
variable {p : Program} {l : Launch} {e : Env} {R : Room} {s : State} {m : MethodId} {args : Array Value} {below : List Frame} {meth : Method} {c : Code} {T : State} {locs : List Loc} {cells slots : Nat}
theorem z_ivSW (X : Stand p l e R s m args below meth c T locs cells slots) (hexec : p.tables.exec = Jvm.exec) {own P : String} {index : Nat} {M : z_M}
    (hown : s.vm.findClass own = some m.cls) (hlink : (Cond.methodLink own index ⟨P, M.1.name, M.1.desc⟩).before args s = true) (hsame : (Cond.sameMethod P M.1.cls M.1.name M.1.desc).before args s = true) (hsup : (Cond.superclass own P).before args s = true) (hsup2 : (Cond.superclass P M.1.cls).before args s = true) (hsup3 : (Cond.superclass M.1.cls "java/lang/Object").before args s = true) (hcast : (Cond.castable P M.1.cls).before args s = true)
    (hinst : (Cond.instanceMethod M.1).before args s = true) (hcode : (z_cw M).before args s = true) (hno : M.1.name ≠ "<init>")
    {b : Addr} {cellB : Cell} {kB : Class} (hcell : T.heap[b]? = some cellB) (hobj : cellB.vm.isStatics = false) (hkB : s.vm.classes[cellB.cls]? = some kB)
    {g : JFrame} (hg : g.method = m) {argsL rest : List Value} (hlen : ∀ sig, parseMethodDescriptor M.1.desc = some sig → argsL.length = sig.parameters.length)
    (hstack : g.stack = argsL.reverse ++ .ref b :: rest) (hdg : decode c.code g.pc = .ok (.invokespecial index, 3)) :
    z_Iv p l e R s m args below meth c T locs cells slots M.1 (Value.ref b :: argsL).toArray g rest := by
  obtain ⟨mk, methM, hnamed, hmethM, hstM, habM⟩ := Cond.instanceMethod_spec hinst
  obtain ⟨methM', cM, hmethM', -, -, hsigM⟩ := z_cspec hnamed hcode
  cases hmethM.symm.trans hmethM'
  obtain ⟨ps, dk, kp, hps, hdk, hkp, hsuper, -, -, hnid⟩ := Cond.superclass_spec hown hsup
  obtain ⟨ps2, dk2, kp2, hps2, hdk2, hkp2, hsuper2, ho2, hop2, -⟩ := Cond.superclass_spec hps hsup2
  obtain ⟨ps3, dk3, kp3, -, hdk3, -, -, -, -, hni3⟩ := Cond.superclass_spec hps2 hsup3
  cases hkp2.symm.trans hdk3
  have hn : s.methodNamed? ⟨M.1.cls, M.1.name, M.1.desc⟩ = some mk := hnamed
  have hpm : ps2 = mk.cls := Option.some.inj (hps2.symm.trans (findClass_of_methodNamed hnamed))
  obtain ⟨c0, t0, f1, f2, f3⟩ := Cond.castable_spec hcast
  cases hps.symm.trans f1
  cases hps2.symm.trans f2
  have hsub : s.vm.isSubclass ps mk.cls = true := by
    rw [← hpm]
    exact isSubclass_of_assignable hdk2 hkp2 ho2 hop2 hni3 f3
  obtain ⟨vm₁, X₁, hstep₁⟩ := X.invokespecialUp hexec hown (x := ⟨P, M.1.name, M.1.desc⟩) hlink hsame hn hmethM hstM habM hno hdk hnid hps hsuper hsub (a := b) (cell := cellB) hcell
    (fun z h => by rw [h] at hobj; cases hobj) hkB (g := g) hg (argsL := argsL) (rest := rest) (hlen _ hsigM) hstack hdg
  exact ⟨vm₁, mk, X₁.warmed, X₁, X₁.named hnamed, fun target h => hstep₁ _ (by rw [doInvoke_state]; exact h)⟩
end ZSUPI
def z_lkW (own : String) (idx : Nat) (M : z_M) (n : Nat) : Prop := z_cl0 M ∧ Cond.instanceMethod M.1 ∈ lw_all ∧ M.1.name ≠ "<init>" ∧ z_pn M.1 n ∧ ∃ P, Cond.methodLink own idx ⟨P, M.1.name, M.1.desc⟩ ∈ lw_all ∧ Cond.sameMethod P M.1.cls M.1.name M.1.desc ∈ lw_all ∧ Cond.superclass own P ∈ lw_all ∧ Cond.superclass P M.1.cls ∈ lw_all ∧ Cond.superclass M.1.cls "java/lang/Object" ∈ lw_all ∧ Cond.castable P M.1.cls ∈ lw_tbl
section ZSUPC
variable {Γ : z_W} {M : z_M} {rm : Room} {Q : Outcome → z_H → Prop} {cs ss pc : Nat} {ls : List (Option Value)} {st : List Value} {h : z_H}
theorem z_wcall {M' : z_M} {rm' : Room} {b c n idx : Nat} {As rest stk : List Value} {Q' : Outcome → z_H → Prop} (hL : z_lkW M.1.cls idx M' n) (hC : z_C Γ M' rm' (.ref b :: As) h Q') (hd : decode M.2.1 pc = .ok (.invokespecial idx, 3)) (hs : As.reverse ++ .ref b :: rest = stk) (hn : As.length = n) (hb : z_T h b = some (.inl c)) {q : vw_C} (hq : z_cl[c]? = some q) (hr : rm'.frames + 1 ≤ rm.frames ∧ 8 + (M'.2.2.1 + 11) + rm'.locals ≤ rm.locals) (hst : (rest.map fun v => v.category).sum ≤ 8) (h1 : cs + rm'.cells ≤ rm.cells) (h2 : ss + rm'.slots ≤ rm.slots)
    (kr : ∀ v h', Q' (.returned v) h' → z_G Γ M rm Q (cs + rm'.cells) (ss + rm'.slots) (pc + 3) ls (v.toList ++ rest) h')
    (kt : ∀ x h', Q' (.threw x) h' → z_Th Γ M rm Q (cs + rm'.cells) (ss + rm'.slots) pc ls h' x) : z_G Γ M rm Q cs ss pc ls stk h := by
  subst hs
  obtain ⟨h0, hin, hnm, hpn, P, k1, k2, k3, k4, k5, k6⟩ := hL
  refine z_callG hC h0 hr hst h1 h2 hd (fun p l e s m args below meth cd locs la T X hR S => ?_) kr kt
  have hK := X.2.2.2.2.2.2.2.2.2
  have hts := X.2.2.2.2.2.1
  have hdc : decode cd.code pc = .ok (.invokespecial idx, 3) := by rw [X.2.1]; exact hd
  have hAl : (As.map (z_cv Γ)).length = n := by rw [List.length_map]; exact hn
  obtain ⟨cell, r1, r2, r3⟩ := z_rcv hK hR hb hq
  obtain ⟨kB, hkB, -⟩ := Vm.findClass_spec r3
  exact z_ivSW S X.1 X.2.2.2.2.1 (hts _ k1) (hts _ k2) (hts _ k3) (hts _ k4) (hts _ k5) (va_Nw.use (A := args) rfl (hK.2.2.2.1 _ k6 rfl)) (hts _ hin) (hts _ h0.1) hnm r1 r2 hkB rfl (hpn.use _ hAl) (z_mapR As rest b) hdc
end ZSUPC
theorem wl_X11_29 : z_lkW RX11 29 M_X7_turns 1 := ⟨cl_X7_turns, q1255, by decide +kernel, by decide +kernel, _, q1265, q1266, q485, q452, q517, q2059⟩
theorem wl_X12_32 : z_lkW RX12 32 M_X7_tells 1 := ⟨cl_X7_tells, q1309, by decide +kernel, by decide +kernel, _, q1327, q1328, q496, q463, q517, q2062⟩
theorem wl_X13_37 : z_lkW RX13 37 M_X7_turns 1 := ⟨cl_X7_turns, q1255, by decide +kernel, by decide +kernel, _, q1274, q1275, q510, q474, q517, q2058⟩
theorem wl_X13_33 : z_lkW RX13 33 M_X7_climbs 1 := ⟨cl_X7_climbs, q1285, by decide +kernel, by decide +kernel, _, q1301, q1302, q510, q474, q517, q2058⟩
