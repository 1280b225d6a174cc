/-! INSTRUCTIONS THAT FAIL, methods with handlers, arrays' classes (by hand; the tables below by gen/exc.py). -/
/-- a contract out of a walk: a method with handlers -/
theorem z_C.ofH {Γ : z_W} {M : z_M} {rm : Room} {av : List Value} {h : z_H} {Q : Outcome → z_H → Prop} (hy : plainName M.1.cls = true) (hw : M.2.2.2.2 ≠ []) (ls : List (Option Value)) (hn : (z_ls av).length ≤ M.2.2.1) (hl : z_ls av ++ List.replicate (M.2.2.1 - (z_ls av).length) none = ls) (body : z_G Γ M rm Q 0 0 0 ls [] h) : z_C Γ M rm av h Q := by
  intro l
  have hws : z_ws M = Cond.codeWith M.1 M.2.1 M.2.2.1 M.2.2.2.1 M.2.2.2.2 :: lw_all := by
    unfold z_ws
    cases hh : M.2.2.2.2 with
    | nil => exact absurd hh hw
    | cons x t => rfl
  rw [hws]
  refine MetFree.of_bodyS (code := M.2.1) (maxLocals := M.2.2.1) (ret := M.2.2.2.1) hy ?_ ?_
  · intro args s m h hn
    obtain ⟨m9, meth, c, h0, h1, h2, h3, h4, -, h5, h6, -⟩ := Cond.codeWith_spec (atoms_spec (ws := Cond.codeWith M.1 M.2.1 M.2.2.1 M.2.2.2.1 M.2.2.2.2 :: lw_all) h _ List.mem_cons_self)
    cases hn.symm.trans h0
    exact ⟨meth, c, h1, h2, h3, h4, h5, h6⟩
  · intro p e s m args below meth c s₁ B hml hP _
    obtain ⟨rfl, hK, hR⟩ := hP
    have hts := atoms_spec (ws := Cond.codeWith M.1 M.2.1 M.2.2.1 M.2.2.2.1 M.2.2.2.2 :: lw_all) B.pre
    obtain ⟨m9, meth9, c9, g0, g1, g2, -, -, g5, -⟩ := Cond.codeWith_spec (hts _ List.mem_cons_self)
    cases B.named.symm.trans g0
    cases B.method.symm.trans g1
    cases (Stand.of_body B).code.symm.trans g2
    have hh0 : s₁.heap = s.heap := by rw [B.state]; rfl
    have hCx : z_Cx Γ M p l s m ((av.map (z_cv Γ)).toArray) meth c := ⟨B.exec, B.bytes, hml, B.returns, findClass_of_methodNamed B.named, fun w h => hts w (List.mem_cons_of_mem _ h), B.notSynchronized, (name_of_methodNamed B.named B.method).1, g5, hK⟩
    have hlen := z_ls_len Γ av
    have hlv := lv_entry (av.map (z_cv Γ)) (n := M.2.2.1) (by rw [hlen]; exact hn)
    have hlh : z_lh Γ ((lg_sl (av.map (z_cv Γ)) ++ List.replicate (M.2.2.1 - (lg_sl (av.map (z_cv Γ))).length) Slot.unset).toArray) M.2.2.1 ls := by
      refine ⟨hlv.1, hlv.2.1, fun i v hv => ?_⟩
      rw [← hl] at hv
      by_cases hi : i < (z_ls av).length
      · rw [List.getElem?_append_left hi] at hv
        have := z_ls_mem Γ av 0 i v hv
        rw [Nat.zero_add] at this
        exact hlv.2.2 (i, z_cv Γ v) this
      · rw [List.getElem?_append_right (by omega), List.getElem?_replicate] at hv
        split at hv <;> cases hv
    obtain ⟨t, a1, o, b1, b2, ⟨h', b3, b4⟩, b5, b6⟩ := body p l e s m _ below meth c s.heap [] _ hCx hR (fun q h => by cases h) hlh s₁ hh0 (Stand.of_body B)
    refine ⟨t, z_oc Γ o, ?_, b1, b2, o, h', rfl, b3, b4, b5, b6⟩
    rw [lg_entry_eq]
    exact a1
section ZFLT
variable {Γ : z_W} {M : z_M} {rm : Room} {Q : Outcome → z_H → Prop} {cs ss pc : Nat} {ls : List (Option Value)} {rest : List Value} {h : z_H}
theorem z_alenN (hd : decode M.2.1 pc = .ok (.arraylength, 1)) (kt : z_TN Γ M rm Q cs ss pc ls rest h "java/lang/NullPointerException" none) : z_G Γ M rm Q cs ss pc ls (.null :: rest) h := by
  intro p l e s m args below meth c H locs la X hR hL hl T hT S
  obtain ⟨t, a, b⟩ := kt p l e s m args below meth c H locs la X hR hL hl T hT S
  exact ⟨t, S.arraylengthNull X.1 (g := F0 m pc la ((Value.null :: rest).map (z_cv Γ))) rfl rfl (by rw [X.2.1]; exact hd) t a, b⟩
theorem z_ivNull {idx : Nat} {x : z_M} (hlk : Cond.methodLink M.1.cls idx x.1 ∈ lw_all) (hin : Cond.instanceMethod x.1 ∈ lw_all) (hc : z_cw x ∈ lw_all) (hsup : Cond.superclass x.1.cls "java/lang/Object" ∈ lw_all) (hx : x.1.cls ≠ "java/lang/invoke/MethodHandle" ∧ x.1.cls ≠ "java/lang/invoke/VarHandle") (hpn : z_pn x.1 0) (hd : decode M.2.1 pc = .ok (.invokevirtual idx, 3)) (kt : z_TN Γ M rm Q cs ss pc ls rest h "java/lang/NullPointerException" none) : z_G Γ M rm Q cs ss pc ls (.null :: rest) h := by
  intro p l e s m args below meth c H locs la X hR hL hl T hT S
  have hts := X.2.2.2.2.2.1
  obtain ⟨mk, methM, hnamed, hmethM, hstM, -⟩ := Cond.instanceMethod_spec (hts _ hin)
  obtain ⟨mY, cY, h1, h2, h3, h4⟩ := z_cspec hnamed (hts _ hc)
  cases hmethM.symm.trans h1
  obtain ⟨ps, dk, kp, hps, hdk, hkp, hsuper, -, -, hnid⟩ := Cond.superclass_spec (findClass_of_methodNamed hnamed) (hts _ hsup)
  obtain ⟨vm', X', st⟩ := S.invokevirtualNull X.1 X.2.2.2.2.1 (hts _ hlk) hnamed hmethM hstM hdk hnid hx (g := F0 m pc la ((Value.null :: rest).map (z_cv Γ))) rfl (argsL := []) (rest := rest.map (z_cv Γ)) (hpn.use [] rfl _ h4) rfl (by rw [X.2.1]; exact hd)
  obtain ⟨t, a, b⟩ := kt p l e s m args below meth c H locs la X hR hL hl (T.setVm vm') hT X'
  exact ⟨t, st t a, b⟩
theorem z_newNeg {n : Int32} (hn : n < 0) {ty : ArrayType} (hd : decode M.2.1 pc = .ok (.newarray ty, 2)) (kt : z_TN Γ M rm Q cs ss pc ls rest h "java/lang/NegativeArraySizeException" (some (toString n))) : z_G Γ M rm Q cs ss pc ls (.int n :: rest) h := by
  intro p l e s m args below meth c H locs la X hR hL hl T hT S
  obtain ⟨t, a, b⟩ := kt p l e s m args below meth c H locs la X hR hL hl T hT S
  exact ⟨t, S.newarrayNegative X.1 (g := F0 m pc la ((Value.int n :: rest).map (z_cv Γ))) rfl hn rfl (by rw [X.2.1]; exact hd) t a, b⟩
/-- a reference and the class of its object -/
def z_rc (Γ : z_W) (h : z_H) (b : Nat) (C : String) : Prop := ∀ (l : Launch) (s : State) (H : Heap), z_K Γ l s → z_Rl Γ h H → ∃ cell : Cell, H[z_ad Γ b]? = some cell ∧ cell.vm.isStatics = false ∧ s.vm.findClass C = some cell.cls
theorem z_rc.obj {b c : Nat} {q : vw_C} (hb : z_T h b = some (.inl c)) (hq : z_cl[c]? = some q) : z_rc Γ h b q.1 := fun l s H hK hR => z_rcv hK hR hb hq
theorem z_rc.arr {b n : Nat} {ty : FieldType} (hb : z_T h b = some (.inr (ty, n))) (ht : ty = .int ∨ ty = .byte ∨ ty = .short ∨ ty = .long ∨ ty = .boolean) : z_rc Γ h b ("[" ++ ty.toString) := by
  intro l s H hK hR
  have hf : ty ≠ .float := by rintro rfl; rcases ht with e | e | e | e | e <;> cases e
  refine ⟨_, z_arr hR hb hf, rfl, ?_⟩
  have hm : ty ∈ z_at := by rcases ht with rfl | rfl | rfl | rfl | rfl <;> simp [z_at]
  have h1 := (hK.2.2.1 ty hm).2
  show s.vm.findClass ("[" ++ ty.toString) = some (Γ.2.1 ty)
  rcases ht with rfl | rfl | rfl | rfl | rfl <;> exact h1
theorem z_ccNo {p : Program} {l : Launch} {e : Env} {R : Room} {s : State} {m : MethodId} {args : Array Value} {below : List Frame} {meth : Method} {c : Code} {locs : List Loc} {cells slots : Nat} {T : State} (X : Stand p l e R s m args below meth c T locs cells slots) (hexec : p.tables.exec = Jvm.exec)
    {own name : String} {index : Nat} (hown : s.vm.findClass own = some m.cls) (hlink : (Cond.classLink own index name).before args s = true)
    {a : Addr} {cell : Cell} {cT : ClassId} {ks : Class} (hcell : T.heap[a]? = some cell) (hobj : cell.vm.isStatics = false) (hks : s.vm.classes[cell.cls]? = some ks) (hcT : s.vm.findClass name = some cT) (hasg : s.vm.assignable cell.cls cT = false)
    {g : JFrame} (hg : g.method = m) {rest : List Value} (hstack : g.stack = .ref a :: rest) (hdg : decode c.code g.pc = .ok (.checkcast index, 3)) :
    ∃ (vm' : Vm) (ks' kt' : Class), s.WarmedH vm' ∧ vm'.classes[cell.cls]? = some ks' ∧ vm'.classes[cT]? = some kt' ∧ Stand p l e R s m args below meth c (T.setVm vm') locs cells slots ∧
      ∀ target, Steps p.tables e below (((T.setVm vm').setTop g).pushFrame (.throwNew "java/lang/ClassCastException" (some (Op.checkcast.message vm' ks' kt')) none)) target → Steps p.tables e below (T.setTop g) target := by
  have hpl : e.platform.magicAccessors = ({} : Platform).magicAccessors := by rw [X.admits.platform]
  obtain ⟨c', hc', hcl⟩ := Cond.classLink_spec hown hlink e.platform hpl
  cases hcT.symm.trans hc'
  obtain ⟨dk, _, _, kt, hd, _, _, _, _, hkt, _, hopen⟩ := hcl.here
  have hcl₀ := X.warmed.classLinks hcl
  have hW' : s.WarmedH (T.vm.noted m.cls index (.cls cT)) := X.warmed.noted hd hopen (State.rightAt_cls hcl)
  obtain ⟨ks', hks', -⟩ := hW'.alike.2.2 _ _ hks
  obtain ⟨kt', hkt', -⟩ := hW'.alike.2.2 _ _ hkt
  refine ⟨_, ks', kt', hW', hks', hkt', X.noted hW', fun target hrest => ?_⟩
  subst hg
  jvm_step X.here [hexec, hdg, checkcast.wp_cold (e := e) (s := T) (f := g) X.here.top hstack (resolveClass_links e.toSetting hcl₀) hcl₀.ready,
    checkcast.wp_ready (e := e) (s := T.setVm (T.vm.noted g.method.cls index (.cls cT))) (f := g) X.here.top hcl₀.ready hstack]
  refine ⟨cell, hcell, VmData.noStatics_of hobj, ks', hks', kt', hkt', ?_⟩
  have h1 : (T.vm.noted g.method.cls index (Resolved.cls cT)).assignable cell.cls cT = false := by rw [hW'.alike.assignable]; exact hasg
  simp only [h1]
  exact hrest
theorem z_castF {b idx : Nat} {C nm : String} (hl : Cond.classLink M.1.cls idx nm ∈ lw_all) (hn : z_nca C nm) (hr : z_rc Γ h b C) (hp : packageOf C = "") (hp' : packageOf nm = "") (hc1 : (dotted C).toList.length ≤ 60) (hc2 : (dotted nm).toList.length ≤ 60) (hd : decode M.2.1 pc = .ok (.checkcast idx, 3)) (kt : ∀ text : String, (text == notModelled) = false → (stringBytes (stringToUtf16 text)).size ≤ 2000 → z_TN Γ M rm Q cs ss pc ls (.ref b :: rest) h "java/lang/ClassCastException" (some text)) : z_G Γ M rm Q cs ss pc ls (.ref b :: rest) h := by
  intro p l e s m args below meth c H locs la X hR hL hla T hT S
  have hK := X.2.2.2.2.2.2.2.2.2
  have hts := X.2.2.2.2.2.1
  have hpl : e.platform.magicAccessors = ({} : Platform).magicAccessors := by rw [S.admits.platform]
  obtain ⟨cell, r1, r2, r3⟩ := hr l s H hK hR
  obtain ⟨cT, hcT, -⟩ := Cond.classLink_spec X.2.2.2.2.1 (hts _ hl) e.platform hpl
  obtain ⟨ks, hks, -⟩ := Vm.findClass_spec r3
  obtain ⟨vm', ks', kt', hW', hks', hkt', S', st⟩ := z_ccNo S X.1 X.2.2.2.2.1 (hts _ hl) (a := z_ad Γ b) (by rw [hT]; exact r1) r2 hks hcT (hn.use hK r3 hcT) (g := F0 m pc la ((Value.ref b :: rest).map (z_cv Γ))) rfl rfl (by rw [X.2.1]; exact hd)
  obtain ⟨w1, w2⟩ := z_cmsg (T := T.setVm vm') hK hW' r3 hks' hp hcT hkt' hp' hc1 hc2
  obtain ⟨t, a, b1⟩ := kt _ w1 (z_txt w2 (Nat.le_refl _)) p l e s m args below meth c H locs la X hR hL hla (T.setVm vm') hT S'
  exact ⟨t, st t a, b1⟩
theorem z_instY {b idx : Nat} {nm : String} (hl : Cond.classLink M.1.cls idx nm ∈ lw_all) (hr : z_rc Γ h b nm) (hd : decode M.2.1 pc = .ok (.instanceof idx, 3)) (k : z_G Γ M rm Q cs ss (pc + 3) ls (.int 1 :: rest) h) : z_G Γ M rm Q cs ss pc ls (.ref b :: rest) h := by
  intro p l e s m args below meth c0 H locs la X hR hL hla
  exact va_instE X.1 X.2.1 X.2.2.2.2.1 (X.2.2.2.2.2.1 _ hl) (hr l s H X.2.2.2.2.2.2.2.2.2 hR) hd (k p l e s m args below meth c0 H locs la X hR hL hla)
theorem z_instF {b idx : Nat} {C nm : String} (hl : Cond.classLink M.1.cls idx nm ∈ lw_all) (hn : z_nca C nm) (hr : z_rc Γ h b C) (hd : decode M.2.1 pc = .ok (.instanceof idx, 3)) (k : z_G Γ M rm Q cs ss (pc + 3) ls (.int 0 :: rest) h) : z_G Γ M rm Q cs ss pc ls (.ref b :: rest) h := by
  intro p l e s m args below meth c0 H locs la X hR hL hla T hT S
  have hK := X.2.2.2.2.2.2.2.2.2
  have hpl : e.platform.magicAccessors = ({} : Platform).magicAccessors := by rw [S.admits.platform]
  have hr2 := hr l s H hK hR
  obtain ⟨cell, r1, r2, r3⟩ := id hr2
  obtain ⟨cT, hcT, -⟩ := Cond.classLink_spec X.2.2.2.2.1 (X.2.2.2.2.2.1 _ hl) e.platform hpl
  exact va_instNo X.1 X.2.1 X.2.2.2.2.1 (X.2.2.2.2.2.1 _ hl) ⟨_, _, r3, hcT, hn.use hK r3 hcT⟩ hr2 hd (k p l e s m args below meth c0 H locs la X hR hL hla) T hT S
theorem z_instN {idx : Nat} (hd : decode M.2.1 pc = .ok (.instanceof idx, 3)) (k : z_G Γ M rm Q cs ss (pc + 3) ls (.int 0 :: rest) h) : z_G Γ M rm Q cs ss pc ls (.null :: rest) h :=
  fun p l e s m args below meth c0 H locs la X hR hL hla => lv_instN X.1 X.2.1 hd (k p l e s m args below meth c0 H locs la X hR hL hla)
theorem z_castE {b idx : Nat} {nm : String} (hl : Cond.classLink M.1.cls idx nm ∈ lw_all) (hr : z_rc Γ h b nm) (hd : decode M.2.1 pc = .ok (.checkcast idx, 3)) (k : z_G Γ M rm Q cs ss (pc + 3) ls (.ref b :: rest) h) : z_G Γ M rm Q cs ss pc ls (.ref b :: rest) h := by
  intro p l e s m args below meth c0 H locs la X hR hL hla
  exact va_castE X.1 X.2.1 X.2.2.2.2.1 (X.2.2.2.2.2.1 _ hl) (hr l s H X.2.2.2.2.2.2.2.2.2 hR) hd (k p l e s m args below meth c0 H locs la X hR hL hla)
end ZFLT
theorem mw_cce : z_mw "java/lang/ClassCastException" ["java/lang/RuntimeException", "java/lang/Exception"] := by
  refine ⟨?_, by decide +kernel, by decide +kernel, q123, q1187, q1207, q784, q1201, q1202, q1204, q1200, q1199, by decide +kernel, by decide +kernel⟩
  intro c hc
  simp only [Bundle.chainSAtoms, Bundle.passSAtoms, List.cons_append, List.nil_append, List.mem_cons, List.not_mem_nil, or_false] at hc
  rcases hc with e | e | e | e | e | e | e | e | e | e | e | e | e | e | e <;> rw [e]
  · exact .inl q1188
  · exact .inl q1189
  · exact .inl q1190
  · exact .inl q1191
  · exact .inr ⟨q753, rfl, rfl⟩
  · exact .inl q1191
  · exact .inl q1192
  · exact .inl q1193
  · exact .inl q1194
  · exact .inr ⟨q755, rfl, rfl⟩
  · exact .inl q1194
  · exact .inl q1195
  · exact .inl q1196
  · exact .inl q1197
  · exact .inr ⟨q757, rfl, rfl⟩
theorem mw_nas : z_mw "java/lang/NegativeArraySizeException" ["java/lang/RuntimeException", "java/lang/Exception"] := by
  refine ⟨?_, by decide +kernel, by decide +kernel, q125, q1353, q1365, q785, q1359, q1360, q1362, q1358, q1357, by decide +kernel, by decide +kernel⟩
  intro c hc
  simp only [Bundle.chainSAtoms, Bundle.passSAtoms, List.cons_append, List.nil_append, List.mem_cons, List.not_mem_nil, or_false] at hc
  rcases hc with e | e | e | e | e | e | e | e | e | e | e | e | e | e | e <;> rw [e]
  · exact .inl q1354
  · exact .inl q1355
  · exact .inl q1356
  · exact .inl q1191
  · exact .inr ⟨q753, rfl, rfl⟩
  · exact .inl q1191
  · exact .inl q1192
  · exact .inl q1193
  · exact .inl q1194
  · exact .inr ⟨q755, rfl, rfl⟩
  · exact .inl q1194
  · exact .inl q1195
  · exact .inl q1196
  · exact .inl q1197
  · exact .inr ⟨q757, rfl, rfl⟩
theorem mw_ase : z_mw "java/lang/ArrayStoreException" ["java/lang/RuntimeException", "java/lang/Exception"] := by
  refine ⟨?_, by decide +kernel, by decide +kernel, q126, q1406, q1418, q783, q1412, q1413, q1415, q1411, q1410, by decide +kernel, by decide +kernel⟩
  intro c hc
  simp only [Bundle.chainSAtoms, Bundle.passSAtoms, List.cons_append, List.nil_append, List.mem_cons, List.not_mem_nil, or_false] at hc
  rcases hc with e | e | e | e | e | e | e | e | e | e | e | e | e | e | e <;> rw [e]
  · exact .inl q1407
  · exact .inl q1408
  · exact .inl q1409
  · exact .inl q1191
  · exact .inr ⟨q753, rfl, rfl⟩
  · exact .inl q1191
  · exact .inl q1192
  · exact .inl q1193
  · exact .inl q1194
  · exact .inr ⟨q755, rfl, rfl⟩
  · exact .inl q1194
  · exact .inl q1195
  · exact .inl q1196
  · exact .inl q1197
  · exact .inr ⟨q757, rfl, rfl⟩
theorem mw_aio : z_mw "java/lang/ArrayIndexOutOfBoundsException" ["java/lang/IndexOutOfBoundsException", "java/lang/RuntimeException", "java/lang/Exception"] := by
  refine ⟨?_, by decide +kernel, by decide +kernel, q128, q1420, q1437, q782, q1429, q1430, q1432, q1428, q1427, by decide +kernel, by decide +kernel⟩
  intro c hc
  simp only [Bundle.chainSAtoms, Bundle.passSAtoms, List.cons_append, List.nil_append, List.mem_cons, List.not_mem_nil, or_false] at hc
  rcases hc with e | e | e | e | e | e | e | e | e | e | e | e | e | e | e | e | e | e | e | e <;> rw [e]
  · exact .inl q1421
  · exact .inl q1422
  · exact .inl q1423
  · exact .inl q1424
  · exact .inr ⟨q1436, rfl, rfl⟩
  · exact .inl q1424
  · exact .inl q1425
  · exact .inl q1426
  · exact .inl q1191
  · exact .inr ⟨q753, rfl, rfl⟩
  · exact .inl q1191
  · exact .inl q1192
  · exact .inl q1193
  · exact .inl q1194
  · exact .inr ⟨q755, rfl, rfl⟩
  · exact .inl q1194
  · exact .inl q1195
  · exact .inl q1196
  · exact .inl q1197
  · exact .inr ⟨q757, rfl, rfl⟩
theorem nca_off_npe : z_nca RX15 "java/lang/NullPointerException" := fun A s0 q => (z_and (z_and (z_and (z_and (z_and (z_and (z_and (z_and (z_and (z_and q).1).1).1).2).2).2).1).1).2).2
theorem nca_cce_npe : z_nca "java/lang/ClassCastException" "java/lang/NullPointerException" := fun A s0 q => (z_and (z_and (z_and (z_and (z_and (z_and (z_and (z_and (z_and (z_and q).1).1).1).2).2).2).2).1).2).1
theorem nca_ase_npe : z_nca "java/lang/ArrayStoreException" "java/lang/NullPointerException" := fun A s0 q => (z_and (z_and (z_and (z_and (z_and (z_and (z_and (z_and (z_and q).1).1).1).2).2).2).2).2).1
theorem nca_aio_npe : z_nca "java/lang/ArrayIndexOutOfBoundsException" "java/lang/NullPointerException" := fun A s0 q => (z_and (z_and (z_and (z_and (z_and (z_and (z_and (z_and (z_and (z_and q).1).1).1).2).2).2).2).2).2).1
theorem nca_aio_ase : z_nca "java/lang/ArrayIndexOutOfBoundsException" "java/lang/ArrayStoreException" := fun A s0 q => (z_and (z_and (z_and (z_and (z_and (z_and (z_and (z_and (z_and (z_and q).1).1).2).2).1).1).1).2).2).1
theorem nca_BS : z_nca "[B" "[S" := fun A s0 q => (z_and (z_and (z_and (z_and (z_and (z_and (z_and (z_and (z_and q).2).1).2).2).2).2).2).1).1
theorem nca_BI : z_nca "[B" "[I" := fun A s0 q => (z_and (z_and (z_and (z_and (z_and (z_and (z_and (z_and (z_and (z_and q).2).2).1).1).2).1).2).1).2).1
theorem nca_BJ : z_nca "[B" "[J" := fun A s0 q => (z_and (z_and (z_and (z_and (z_and (z_and (z_and (z_and (z_and q).2).2).1).2).1).2).2).2).1
theorem nca_BZ : z_nca "[B" "[Z" := fun A s0 q => (z_and (z_and (z_and (z_and (z_and (z_and (z_and (z_and (z_and (z_and q).2).2).2).1).1).1).2).2).2).1
theorem nca_SB : z_nca "[S" "[B" := fun A s0 q => (z_and (z_and (z_and (z_and (z_and (z_and (z_and (z_and (z_and (z_and q).2).1).1).2).2).1).1).2).2).2
theorem nca_SI : z_nca "[S" "[I" := fun A s0 q => (z_and (z_and (z_and (z_and (z_and (z_and (z_and (z_and (z_and (z_and q).2).2).1).1).2).1).2).2).2).1
theorem nca_SJ : z_nca "[S" "[J" := fun A s0 q => (z_and (z_and (z_and (z_and (z_and (z_and (z_and (z_and (z_and q).2).2).1).2).2).1).1).1).1
theorem nca_SZ : z_nca "[S" "[Z" := fun A s0 q => (z_and (z_and (z_and (z_and (z_and (z_and (z_and (z_and (z_and q).2).2).2).1).1).2).1).1).2
theorem nca_IB : z_nca "[I" "[B" := fun A s0 q => (z_and (z_and (z_and (z_and (z_and (z_and (z_and (z_and (z_and q).2).1).1).2).2).1).1).1).2
theorem nca_IS : z_nca "[I" "[S" := fun A s0 q => (z_and (z_and (z_and (z_and (z_and (z_and (z_and (z_and (z_and (z_and q).2).1).2).2).2).2).1).2).2).2
theorem nca_IJ : z_nca "[I" "[J" := fun A s0 q => (z_and (z_and (z_and (z_and (z_and (z_and (z_and (z_and (z_and (z_and q).2).2).1).2).1).2).2).1).2).2
theorem nca_IZ : z_nca "[I" "[Z" := fun A s0 q => (z_and (z_and (z_and (z_and (z_and (z_and (z_and (z_and (z_and q).2).2).2).1).1).1).2).2).1
theorem nca_JB : z_nca "[J" "[B" := fun A s0 q => (z_and (z_and (z_and (z_and (z_and (z_and (z_and (z_and (z_and q).2).1).1).2).2).1).2).1).1
theorem nca_JS : z_nca "[J" "[S" := fun A s0 q => (z_and (z_and (z_and (z_and (z_and (z_and (z_and (z_and (z_and q).2).1).2).2).2).2).2).2).1
theorem nca_JI : z_nca "[J" "[I" := fun A s0 q => (z_and (z_and (z_and (z_and (z_and (z_and (z_and (z_and (z_and (z_and q).2).2).1).1).2).1).2).2).2).2
theorem nca_JZ : z_nca "[J" "[Z" := fun A s0 q => (z_and (z_and (z_and (z_and (z_and (z_and (z_and (z_and (z_and q).2).2).2).1).1).2).1).2).1
theorem nca_ZB : z_nca "[Z" "[B" := fun A s0 q => (z_and (z_and (z_and (z_and (z_and (z_and (z_and (z_and (z_and (z_and q).2).1).1).2).2).1).2).1).2).1
theorem nca_ZS : z_nca "[Z" "[S" := fun A s0 q => (z_and (z_and (z_and (z_and (z_and (z_and (z_and (z_and (z_and (z_and q).2).1).2).2).2).2).2).2).2).1
theorem nca_ZI : z_nca "[Z" "[I" := fun A s0 q => (z_and (z_and (z_and (z_and (z_and (z_and (z_and (z_and (z_and q).2).2).1).1).2).2).1).1).1
theorem nca_ZJ : z_nca "[Z" "[J" := fun A s0 q => (z_and (z_and (z_and (z_and (z_and (z_and (z_and (z_and (z_and q).2).2).1).2).2).1).1).1).2
theorem nca_7_8 : z_nca RX7 RX8 := fun A s0 q => (z_and (z_and (z_and (z_and (z_and (z_and (z_and (z_and (z_and (z_and q).1).2).1).2).1).2).2).1).2).2
theorem nca_7_9 : z_nca RX7 RX9 := fun A s0 q => (z_and (z_and (z_and (z_and (z_and (z_and (z_and (z_and (z_and q).1).2).1).2).2).2).2).2).1
theorem nca_7_10 : z_nca RX7 RX10 := fun A s0 q => (z_and (z_and (z_and (z_and (z_and (z_and (z_and (z_and (z_and (z_and q).1).2).2).1).1).2).2).2).2).2
theorem nca_7_11 : z_nca RX7 RX11 := fun A s0 q => (z_and (z_and (z_and (z_and (z_and (z_and (z_and (z_and (z_and q).1).2).2).2).1).1).1).1).2
theorem nca_7_12 : z_nca RX7 RX12 := fun A s0 q => (z_and (z_and (z_and (z_and (z_and (z_and (z_and (z_and (z_and (z_and q).1).2).2).2).2).1).1).2).2).2
theorem nca_7_13 : z_nca RX7 RX13 := fun A s0 q => (z_and (z_and (z_and (z_and (z_and (z_and (z_and (z_and (z_and (z_and q).2).1).1).1).1).1).2).1).2).1
theorem nca_8_9 : z_nca RX8 RX9 := fun A s0 q => (z_and (z_and (z_and (z_and (z_and (z_and (z_and (z_and (z_and (z_and q).1).2).1).2).2).2).1).2).2).2
theorem nca_8_10 : z_nca RX8 RX10 := fun A s0 q => (z_and (z_and (z_and (z_and (z_and (z_and (z_and (z_and (z_and (z_and q).1).2).2).1).1).2).2).1).2).1
theorem nca_8_11 : z_nca RX8 RX11 := fun A s0 q => (z_and (z_and (z_and (z_and (z_and (z_and (z_and (z_and (z_and (z_and q).1).2).2).1).2).2).2).1).2).2
theorem nca_8_12 : z_nca RX8 RX12 := fun A s0 q => (z_and (z_and (z_and (z_and (z_and (z_and (z_and (z_and (z_and (z_and q).1).2).2).2).1).2).2).2).2).2
theorem nca_8_13 : z_nca RX8 RX13 := fun A s0 q => (z_and (z_and (z_and (z_and (z_and (z_and (z_and (z_and (z_and q).2).1).1).1).1).1).1).1).2
theorem nca_9_8 : z_nca RX9 RX8 := fun A s0 q => (z_and (z_and (z_and (z_and (z_and (z_and (z_and (z_and (z_and (z_and q).1).2).1).2).1).2).1).2).2).1
theorem nca_9_10 : z_nca RX9 RX10 := fun A s0 q => (z_and (z_and (z_and (z_and (z_and (z_and (z_and (z_and (z_and (z_and q).1).2).2).1).1).2).2).1).2).2
theorem nca_9_11 : z_nca RX9 RX11 := fun A s0 q => (z_and (z_and (z_and (z_and (z_and (z_and (z_and (z_and (z_and q).1).2).2).1).2).2).2).2).1
theorem nca_9_12 : z_nca RX9 RX12 := fun A s0 q => (z_and (z_and (z_and (z_and (z_and (z_and (z_and (z_and (z_and q).1).2).2).2).2).1).1).1).1
theorem nca_9_13 : z_nca RX9 RX13 := fun A s0 q => (z_and (z_and (z_and (z_and (z_and (z_and (z_and (z_and (z_and q).2).1).1).1).1).1).1).2).1
theorem nca_10_8 : z_nca RX10 RX8 := fun A s0 q => (z_and (z_and (z_and (z_and (z_and (z_and (z_and (z_and (z_and (z_and q).1).2).1).2).1).2).1).2).2).2
theorem nca_10_9 : z_nca RX10 RX9 := fun A s0 q => (z_and (z_and (z_and (z_and (z_and (z_and (z_and (z_and (z_and q).1).2).1).2).2).2).2).1).1
theorem nca_10_11 : z_nca RX10 RX11 := fun A s0 q => (z_and (z_and (z_and (z_and (z_and (z_and (z_and (z_and (z_and (z_and q).1).2).2).1).2).2).2).2).2).1
theorem nca_10_12 : z_nca RX10 RX12 := fun A s0 q => (z_and (z_and (z_and (z_and (z_and (z_and (z_and (z_and (z_and q).1).2).2).2).2).1).1).1).2
theorem nca_10_13 : z_nca RX10 RX13 := fun A s0 q => (z_and (z_and (z_and (z_and (z_and (z_and (z_and (z_and (z_and (z_and q).2).1).1).1).1).1).1).2).2).1
theorem nca_11_9 : z_nca RX11 RX9 := fun A s0 q => (z_and (z_and (z_and (z_and (z_and (z_and (z_and (z_and (z_and (z_and q).1).2).1).2).2).2).2).1).2).1
theorem nca_11_10 : z_nca RX11 RX10 := fun A s0 q => (z_and (z_and (z_and (z_and (z_and (z_and (z_and (z_and (z_and q).1).2).2).1).1).2).2).2).1
theorem nca_11_12 : z_nca RX11 RX12 := fun A s0 q => (z_and (z_and (z_and (z_and (z_and (z_and (z_and (z_and (z_and q).1).2).2).2).2).1).1).2).1
theorem nca_11_13 : z_nca RX11 RX13 := fun A s0 q => (z_and (z_and (z_and (z_and (z_and (z_and (z_and (z_and (z_and (z_and q).2).1).1).1).1).1).1).2).2).2
theorem nca_12_8 : z_nca RX12 RX8 := fun A s0 q => (z_and (z_and (z_and (z_and (z_and (z_and (z_and (z_and (z_and q).1).2).1).2).1).2).2).1).1
theorem nca_12_10 : z_nca RX12 RX10 := fun A s0 q => (z_and (z_and (z_and (z_and (z_and (z_and (z_and (z_and (z_and (z_and q).1).2).2).1).1).2).2).2).2).1
theorem nca_12_11 : z_nca RX12 RX11 := fun A s0 q => (z_and (z_and (z_and (z_and (z_and (z_and (z_and (z_and (z_and (z_and q).1).2).2).1).2).2).2).2).2).2
theorem nca_12_13 : z_nca RX12 RX13 := fun A s0 q => (z_and (z_and (z_and (z_and (z_and (z_and (z_and (z_and (z_and q).2).1).1).1).1).1).2).1).1
theorem nca_13_8 : z_nca RX13 RX8 := fun A s0 q => (z_and (z_and (z_and (z_and (z_and (z_and (z_and (z_and (z_and (z_and q).1).2).1).2).1).2).2).1).2).1
theorem nca_13_9 : z_nca RX13 RX9 := fun A s0 q => (z_and (z_and (z_and (z_and (z_and (z_and (z_and (z_and (z_and (z_and q).1).2).1).2).2).2).2).1).2).2
theorem nca_13_11 : z_nca RX13 RX11 := fun A s0 q => (z_and (z_and (z_and (z_and (z_and (z_and (z_and (z_and (z_and q).1).2).2).2).1).1).1).1).1
theorem nca_13_12 : z_nca RX13 RX12 := fun A s0 q => (z_and (z_and (z_and (z_and (z_and (z_and (z_and (z_and (z_and (z_and q).1).2).2).2).2).1).1).2).2).1
