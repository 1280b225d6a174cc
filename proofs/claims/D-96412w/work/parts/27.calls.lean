/-! ROWS of z_G: calls -/
/-- thrown at pc: the exception x goes through the frame -/
def z_Th (Γ : z_W) (M : z_M) (rm : Room) (Q : Outcome → z_H → Prop) (cs ss : Nat) (pc : Nat) (ls : List (Option Value)) (h : z_H) (x : Nat) : Prop :=
  ∀ (p : Program) (l : Launch) (e : Env) (s : State) (m : MethodId) (args : Array Value) (below : List Frame) (meth : Method) (c : Code) (H : Heap) (locs : List Loc) (la : Array Slot) (st : List Value),
    z_Cx Γ M p l s m args meth c → z_Rl Γ h H → (∀ q ∈ locs, z_B Γ ≤ q.base) → z_lh Γ la M.2.2.1 ls → ∀ T : State, T.heap = H → Stand p l e rm s m args below meth c T locs cs ss →
    ∃ t, Steps p.tables e below ((T.setTop (F0 m pc la st)).pushFrame (.throwing (z_ad Γ x))) t ∧ z_MQ Γ Q rm below s t
def z_nMH (C : String) : Prop := C ≠ "java/lang/invoke/MethodHandle" ∧ C ≠ "java/lang/invoke/VarHandle"
abbrev z_pn (y : MethodName) (n : Nat) : Prop := (parseMethodDescriptor y.desc).map (fun d => d.parameters.length) = some n
theorem z_pn.use {y : MethodName} {n : Nat} (h : z_pn y n) (As : List Value) (hA : As.length = n) : ∀ sig, parseMethodDescriptor y.desc = some sig → As.length = sig.parameters.length := by
  intro sig hs
  unfold z_pn at h
  rw [hs] at h
  exact hA.trans (Option.some.inj h).symm
/-- what every call asks of its callee -/
def z_cl0 (M : z_M) : Prop := z_cw M ∈ lw_all ∧ Cond.initialized M.1.cls ∈ lw_all
/-- invokevirtual at the entry idx of 'own' on an object of the class c runs M -/
def z_lkV (own : String) (idx : Nat) (M : z_M) (c n : Nat) : Prop := z_cl0 M ∧ Cond.instanceMethod M.1 ∈ lw_all ∧ ∃ q, z_cl[c]? = some q ∧
  ((Cond.methodLink own idx M.1 ∈ lw_all ∧ Cond.selects q.1 M.1 M.1 ∈ lw_all ∧ z_nMH M.1.cls ∧ z_pn M.1 n) ∨
   (∃ host, Cond.methodLinkNest own idx M.1 host ∈ lw_tbl ∧ Cond.selects q.1 M.1 M.1 ∈ lw_all ∧ z_nMH M.1.cls ∧ z_pn M.1 n) ∨
   (∃ (x : MethodName) (owner : String), Cond.methodLink own idx x ∈ lw_all ∧ Cond.sameMethod x.cls owner x.name x.desc ∈ lw_all ∧ (Cond.declares ⟨owner, x.name, x.desc⟩ ∈ lw_tbl ∨ (Cond.instanceMethod ⟨owner, x.name, x.desc⟩ ∈ lw_all ∧ ∃ b k r, Cond.code ⟨owner, x.name, x.desc⟩ b k r ∈ lw_all)) ∧ z_nMH owner ∧ Cond.selects q.1 x M.1 ∈ lw_all ∧ z_pn x n))
def z_lkS (own : String) (idx : Nat) (M : z_M) (n : Nat) : Prop := z_cl0 M ∧ Cond.static M.1 ∈ lw_all ∧ z_nMH M.1.cls ∧ z_pn M.1 n ∧ ((Cond.methodLink own idx M.1 ∈ lw_all) ∨ ∃ host, Cond.methodLinkNest own idx M.1 host ∈ lw_tbl)
def z_lkI (own : String) (idx : Nat) (M : z_M) (n : Nat) : Prop := z_cl0 M ∧ Cond.instanceMethod M.1 ∈ lw_all ∧ M.1.name = "<init>" ∧ M.2.2.2.1 = none ∧ M.2.2.2.2 = [] ∧ z_nMH M.1.cls ∧ z_pn M.1 n ∧ ((Cond.methodLink own idx M.1 ∈ lw_all) ∨ ∃ host, Cond.methodLinkNest own idx M.1 host ∈ lw_tbl)
def z_lkU (own : String) (idx : Nat) (M : z_M) (n : Nat) : Prop := z_cl0 M ∧ Cond.instanceMethod M.1 ∈ lw_all ∧ M.1.name ≠ "<init>" ∧ z_pn M.1 n ∧ Cond.methodLink own idx M.1 ∈ lw_all ∧ Cond.sameMethod M.1.cls M.1.cls M.1.name M.1.desc ∈ lw_all ∧ Cond.superclass own M.1.cls ∈ lw_all
section ZCALL
variable {Γ : z_W} {M : z_M} {rm : Room} {Q : Outcome → z_H → Prop} {cs ss pc : Nat} {ls : List (Option Value)} {st : List Value} {h : z_H}
theorem z_callG {M' : z_M} {rm' : Room} {av rest stk : List Value} {Q' : Outcome → z_H → Prop} (hC : z_C Γ M' rm' av h Q') (hcl : z_cl0 M') (hr : rm'.frames + 1 ≤ rm.frames ∧ 8 + (M'.2.2.1 + 11) + rm'.locals ≤ rm.locals) (hst : (rest.map fun v => v.category).sum ≤ 8) (h1 : cs + rm'.cells ≤ rm.cells) (h2 : ss + rm'.slots ≤ rm.slots) {ig : Instr} (hd : decode M.2.1 pc = .ok (ig, 3))
    (hiv : ∀ (p : Program) (l : Launch) (e : Env) (s : State) (m : MethodId) (args : Array Value) (below : List Frame) (meth : Method) (c : Code) (locs : List Loc) (la : Array Slot) (T : State), z_Cx Γ M p l s m args meth c → z_Rl Γ h T.heap → Stand p l e rm s m args below meth c T locs cs ss → z_Iv p l e rm s m args below meth c T locs cs ss M'.1 (av.map (z_cv Γ)).toArray (F0 m pc la (stk.map (z_cv Γ))) (rest.map (z_cv Γ)))
    (kr : ∀ v h', Q' (.returned v) h' → z_G Γ M rm Q (cs + rm'.cells) (ss + rm'.slots) (pc + 3) ls (v.toList ++ rest) h')
    (kt : ∀ x h', Q' (.threw x) h' → z_Th Γ M rm Q (cs + rm'.cells) (ss + rm'.slots) pc ls h' x) : z_G Γ M rm Q cs ss pc ls stk h := by
  intro p l e s m args below meth c H locs la X hR hL hl T hT S
  subst hT
  obtain ⟨vm₁, mk, hW, S₁, hn, hgo⟩ := hiv p l e s m args below meth c locs la T X hR S
  have hws : ∀ w ∈ z_ws M', ∀ (a' : Array Value) (U : State), s.WarmedH U.vm → w.before a' U = true := pay_in X.2.2.2.2.2.1 (z_good hcl.1)
  have hini : (Cond.initialized M'.1.cls).before (av.map (z_cv Γ)).toArray (T.setVm vm₁) = true := word_at hW (Or.inl (by first | rfl | simp [Cond.onTables, Cond.keeps, Cond.steady])) (X.2.2.2.2.2.1 _ hcl.2)
  obtain ⟨o, h', T', L, hQ, S', hL', hR', hs⟩ := z_bk hC S₁ (g := F0 m pc la (rest.map (z_cv Γ))) rfl (hl.1.trans X.2.2.1.symm) (by rw [X.2.1]; exact hd) hn (fun w hw => hws w hw _ _ hW) hini hr.1 (by
    show 2 * 0 + ((rest.map (z_cv Γ)).map fun v => v.category).sum + _ + _ ≤ _
    rw [z_sum]
    have := hr.2
    omega) h1 h2 (X.2.2.2.2.2.2.2.2.2.warm hW) hR
  have hLL : ∀ q ∈ locs ++ L, z_B Γ ≤ q.base := fun q hq => by
    rcases List.mem_append.mp hq with a | a
    · exact hL q a
    · exact hL' q a
  cases o with
  | returned v =>
    obtain ⟨t, a, b⟩ := kr v h' hQ p l e s m args below meth c T'.heap (locs ++ L) la X hR' hLL hl T' rfl S'
    refine ⟨t, hgo _ (hs.trans ?_), b⟩
    have e2 : (v.toList ++ rest).map (z_cv Γ) = (v.map (z_cv Γ)).toList ++ rest.map (z_cv Γ) := by cases v <;> rfl
    rw [e2] at a
    exact a
  | threw x =>
    obtain ⟨t, a, b⟩ := kt x h' hQ p l e s m args below meth c T'.heap (locs ++ L) la (rest.map (z_cv Γ)) X hR' hLL hl T' rfl S'
    exact ⟨t, hgo _ (hs.trans a), b⟩
/-- an object as the receiver of a call -/
theorem z_rcv {l : Launch} {s : State} {H : Heap} {b c : Nat} {q : vw_C} (hK : z_K Γ l s) (hR : z_Rl Γ h H) (hb : z_T h b = some (.inl c)) (hq : z_cl[c]? = some q) : ∃ cell : Cell, H[z_ad Γ b]? = some cell ∧ cell.vm.isStatics = false ∧ s.vm.findClass q.1 = some cell.cls := by
  obtain ⟨cell, q1, q2, q3, q4⟩ := z_obj hR hb hq
  exact ⟨cell, q1, by rw [q3]; rfl, by rw [q2]; exact (hK.2.1 c q hq).2.1⟩
theorem z_mapR (As rest : List Value) (b : Nat) : (As.reverse ++ .ref b :: rest).map (z_cv Γ) = (As.map (z_cv Γ)).reverse ++ .ref (z_ad Γ b) :: rest.map (z_cv Γ) := by
  rw [List.map_append, List.map_reverse]; rfl
theorem z_vcall {M' : z_M} {rm' : Room} {b c n idx : Nat} {As rest stk : List Value} {Q' : Outcome → z_H → Prop} (hL : z_lkV M.1.cls idx M' c n) (hC : z_C Γ M' rm' (.ref b :: As) h Q') (hd : decode M.2.1 pc = .ok (.invokevirtual idx, 3)) (hs : As.reverse ++ .ref b :: rest = stk) (hn : As.length = n) (hb : z_T h b = some (.inl c)) (hr : rm'.frames + 1 ≤ rm.frames ∧ 8 + (M'.2.2.1 + 11) + rm'.locals ≤ rm.locals) (hst : (rest.map fun v => v.category).sum ≤ 8) (h1 : cs + rm'.cells ≤ rm.cells) (h2 : ss + rm'.slots ≤ rm.slots)
    (kr : ∀ v h', Q' (.returned v) h' → z_G Γ M rm Q (cs + rm'.cells) (ss + rm'.slots) (pc + 3) ls (v.toList ++ rest) h')
    (kt : ∀ x h', Q' (.threw x) h' → z_Th Γ M rm Q (cs + rm'.cells) (ss + rm'.slots) pc ls h' x) : z_G Γ M rm Q cs ss pc ls stk h := by
  subst hs
  obtain ⟨h0, hin, q, hq, hk⟩ := hL
  refine z_callG hC h0 hr hst h1 h2 hd (fun p l e s m args below meth cd locs la T X hR S => ?_) kr kt
  have hK := X.2.2.2.2.2.2.2.2.2
  have hts := X.2.2.2.2.2.1
  obtain ⟨cell, r1, r2, r3⟩ := z_rcv hK hR hb hq
  have hdc : decode cd.code pc = .ok (.invokevirtual idx, 3) := by rw [X.2.1]; exact hd
  have hAl : (As.map (z_cv Γ)).length = n := by rw [List.length_map]; exact hn
  rcases hk with ⟨k1, k2, k3, k4⟩ | ⟨host, k1, k2, k3, k4⟩ | ⟨x, owner, k1, k2, k3, k4, k5, k6⟩
  · exact z_ivV S X.1 X.2.2.2.2.1 (hts _ k1) (hts _ hin) (hts _ k2) (hts _ h0.1) k3 r1 r2 r3 rfl (k4.use _ hAl) (z_mapR As rest b) hdc
  · exact z_ivVN S X.1 X.2.2.2.2.1 (va_Nw.use rfl (hK.2.2.2.1 _ k1 rfl)) (hts _ hin) (hts _ k2) (hts _ h0.1) k3 r1 r2 r3 rfl (k4.use _ hAl) (z_mapR As rest b) hdc
  · have hde : va_Decl s ⟨owner, x.name, x.desc⟩ := by
      rcases k3 with w | ⟨w1, b0, k0, r0, w2⟩
      · exact va_Decl.abs (hK.2.2.2.1 _ w rfl)
      · exact va_Decl.of (hts _ w1) (hts _ w2)
    exact z_ivU S X.1 X.2.2.2.2.1 (hts _ k1) (hts _ k2) hde k4 (hts _ k5) (hts _ hin) r1 r2 r3 rfl (k6.use _ hAl) (z_mapR As rest b) hdc
theorem z_scall {M' : z_M} {rm' : Room} {n idx : Nat} {As rest stk : List Value} {Q' : Outcome → z_H → Prop} (hL : z_lkS M.1.cls idx M' n) (hC : z_C Γ M' rm' As h Q') (hd : decode M.2.1 pc = .ok (.invokestatic idx, 3)) (hs : As.reverse ++ rest = stk) (hn : As.length = n) (hr : rm'.frames + 1 ≤ rm.frames ∧ 8 + (M'.2.2.1 + 11) + rm'.locals ≤ rm.locals) (hst : (rest.map fun v => v.category).sum ≤ 8) (h1 : cs + rm'.cells ≤ rm.cells) (h2 : ss + rm'.slots ≤ rm.slots)
    (kr : ∀ v h', Q' (.returned v) h' → z_G Γ M rm Q (cs + rm'.cells) (ss + rm'.slots) (pc + 3) ls (v.toList ++ rest) h')
    (kt : ∀ x h', Q' (.threw x) h' → z_Th Γ M rm Q (cs + rm'.cells) (ss + rm'.slots) pc ls h' x) : z_G Γ M rm Q cs ss pc ls stk h := by
  subst hs
  obtain ⟨h0, hst0, hmh, hpn, hk⟩ := hL
  refine z_callG hC h0 hr hst h1 h2 hd (fun p l e s m args below meth cd locs la T X hR S => ?_) kr kt
  have hK := X.2.2.2.2.2.2.2.2.2
  have hts := X.2.2.2.2.2.1
  have hdc : decode cd.code pc = .ok (.invokestatic idx, 3) := by rw [X.2.1]; exact hd
  have hAl : (As.map (z_cv Γ)).length = n := by rw [List.length_map]; exact hn
  have hmp : (As.reverse ++ rest).map (z_cv Γ) = (As.map (z_cv Γ)).reverse ++ rest.map (z_cv Γ) := by rw [List.map_append, List.map_reverse]
  rcases hk with k1 | ⟨host, k1⟩
  · exact z_ivS S X.1 X.2.2.2.2.1 (hts _ k1) (hts _ hst0) (hts _ h0.2) (hts _ h0.1) hmh rfl (hpn.use _ hAl) hmp hdc
  · exact z_ivSN S X.1 X.2.2.2.2.1 (va_Nw.use rfl (hK.2.2.2.1 _ k1 rfl)) (hts _ hst0) (hts _ h0.2) (hts _ h0.1) hmh rfl (hpn.use _ hAl) hmp hdc
theorem z_icall {M' : z_M} {rm' : Room} {b n idx : Nat} {As rest stk : List Value} {Q' : Outcome → z_H → Prop} (hL : z_lkI M.1.cls idx M' n) (hC : z_C Γ M' rm' (.ref b :: As) h Q') (hd : decode M.2.1 pc = .ok (.invokespecial idx, 3)) (hs : As.reverse ++ .ref b :: rest = stk) (hn : As.length = n) (hr : rm'.frames + 1 ≤ rm.frames ∧ 8 + (M'.2.2.1 + 11) + rm'.locals ≤ rm.locals) (hst : (rest.map fun v => v.category).sum ≤ 8) (h1 : cs + rm'.cells ≤ rm.cells) (h2 : ss + rm'.slots ≤ rm.slots)
    (kr : ∀ v h', Q' (.returned v) h' → z_G Γ M rm Q (cs + rm'.cells) (ss + rm'.slots) (pc + 3) ls (v.toList ++ rest) h')
    (kt : ∀ x h', Q' (.threw x) h' → z_Th Γ M rm Q (cs + rm'.cells) (ss + rm'.slots) pc ls h' x) : z_G Γ M rm Q cs ss pc ls stk h := by
  subst hs
  obtain ⟨h0, hin, hnm, hret, hhh, hmh, hpn, hk⟩ := hL
  refine z_callG hC h0 hr hst h1 h2 hd (fun p l e s m args below meth cd locs la T X hR S => ?_) kr kt
  have hK := X.2.2.2.2.2.2.2.2.2
  have hts := X.2.2.2.2.2.1
  have hdc : decode cd.code pc = .ok (.invokespecial idx, 3) := by rw [X.2.1]; exact hd
  have hAl : (As.map (z_cv Γ)).length = n := by rw [List.length_map]; exact hn
  have hcd : (Cond.code M'.1 M'.2.1 M'.2.2.1 none).before args s = true := by
    have := hts _ h0.1
    unfold z_cw at this
    rw [hhh, hret] at this
    exact this
  rcases hk with k1 | ⟨host, k1⟩
  · exact z_ivI S X.1 X.2.2.2.2.1 hnm (hts _ k1) (hts _ hin) hcd hmh rfl (hpn.use _ hAl) (z_mapR As rest b) hdc
  · exact z_ivIN S X.1 X.2.2.2.2.1 hnm (va_Nw.use rfl (hK.2.2.2.1 _ k1 rfl)) (hts _ hin) hcd hmh rfl (hpn.use _ hAl) (z_mapR As rest b) hdc
theorem z_ucall {M' : z_M} {rm' : Room} {b c n idx : Nat} {As rest stk : List Value} {Q' : Outcome → z_H → Prop} (hL : z_lkU M.1.cls idx M' n) (hC : z_C Γ M' rm' (.ref b :: As) h Q') (hd : decode M.2.1 pc = .ok (.invokespecial idx, 3)) (hs : As.reverse ++ .ref b :: rest = stk) (hn : As.length = n) (hb : z_T h b = some (.inl c)) {q : vw_C} (hq : z_cl[c]? = some q) (hr : rm'.frames + 1 ≤ rm.frames ∧ 8 + (M'.2.2.1 + 11) + rm'.locals ≤ rm.locals) (hst : (rest.map fun v => v.category).sum ≤ 8) (h1 : cs + rm'.cells ≤ rm.cells) (h2 : ss + rm'.slots ≤ rm.slots)
    (kr : ∀ v h', Q' (.returned v) h' → z_G Γ M rm Q (cs + rm'.cells) (ss + rm'.slots) (pc + 3) ls (v.toList ++ rest) h')
    (kt : ∀ x h', Q' (.threw x) h' → z_Th Γ M rm Q (cs + rm'.cells) (ss + rm'.slots) pc ls h' x) : z_G Γ M rm Q cs ss pc ls stk h := by
  subst hs
  obtain ⟨h0, hin, hnm, hpn, k1, k2, k3⟩ := hL
  refine z_callG hC h0 hr hst h1 h2 hd (fun p l e s m args below meth cd locs la T X hR S => ?_) kr kt
  have hK := X.2.2.2.2.2.2.2.2.2
  have hts := X.2.2.2.2.2.1
  have hdc : decode cd.code pc = .ok (.invokespecial idx, 3) := by rw [X.2.1]; exact hd
  have hAl : (As.map (z_cv Γ)).length = n := by rw [List.length_map]; exact hn
  obtain ⟨cell, r1, r2, r3⟩ := z_rcv hK hR hb hq
  obtain ⟨kB, hkB, -⟩ := Vm.findClass_spec r3
  exact z_ivSU S X.1 X.2.2.2.2.1 (hts _ k1) (hts _ k2) (hts _ k3) (hts _ hin) (hts _ h0.1) hnm r1 r2 hkB rfl (hpn.use _ hAl) (z_mapR As rest b) hdc
theorem z_objInit {idx a : Nat} (hd : decode M.2.1 pc = .ok (.invokespecial idx, 3)) (hq1 : Cond.methodLink M.1.cls idx objectInit ∈ lw_all) (hq2 : Cond.instanceMethod objectInit ∈ lw_all) (hq3 : Cond.code objectInit ⟨#[0xb1]⟩ 1 none ∈ lw_all) (hst : (st.map fun v => v.category).sum ≤ 8) (hr : 1 ≤ rm.frames ∧ 20 ≤ rm.locals) (kk : z_G Γ M rm Q cs ss (pc + 3) ls st h) : z_G Γ M rm Q cs ss pc ls (.ref a :: st) h :=
  fun p l e s m args below meth c H locs la X hR hL hl => W.objInit X.1 X.2.1 X.2.2.2.2.1 (X.2.2.2.2.2.1 _ hq1) (X.2.2.2.2.2.1 _ hq2) (X.2.2.2.2.2.1 _ hq3) rfl (hl.1.trans X.2.2.1.symm) rfl hd hr.1 (by
    show 2 * 0 + ((st.map (z_cv Γ)).map fun v => v.category).sum + 12 ≤ _
    rw [z_sum]
    have := hr.2
    omega) (kk p l e s m args below meth c H locs la X hR hL hl)
end ZCALL
