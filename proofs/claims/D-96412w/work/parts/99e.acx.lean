/-! System.arraycopy THAT FAILS (by hand). -/
section ZACX
/-- a message that may be said -/
def z_okt (t : String) : Prop := (t == notModelled) = false ∧ (stringBytes (stringToUtf16 t)).size ≤ 2000
theorem z_okt_of {t : String} {r : List Char} (h : t.toList = 'a' :: r) (hr : r.length ≤ 480) : z_okt t := by
  refine ⟨?_, z_txt (n := 500) (by rw [h, List.length_cons]; omega) (Nat.le_refl _)⟩
  rw [beq_eq_false_iff_ne]
  intro q
  have q2 := congrArg String.toList q
  rw [h, show notModelled.toList = '\u0000' :: " a message that is not modelled".toList by decide] at q2
  simp at q2
theorem z_kn (ty : FieldType) : (Native.java_lang_System.arraycopy.kindName ty).toList.length ≤ 12 := by
  cases ty <;> first | decide | (show ("object array" : String).toList.length ≤ 12; decide)
theorem z_int {x : Int} (h1 : -(10 ^ 10) < x) (h2 : x < 10 ^ 10) : (toString x).toList.length ≤ 11 := by
  cases x with
  | ofNat n =>
    show (toString n).toList.length ≤ 11
    have := nat_print (n := n) (by have : (Int.ofNat n) = (n : Int) := rfl; omega)
    omega
  | negSucc n =>
    show ("-" ++ toString n.succ).toList.length ≤ 11
    rw [String.toList_append, List.length_append]
    have := nat_print (n := n.succ) (by have : Int.negSucc n = -((n : Int) + 1) := rfl; show n + 1 < _; omega)
    have e : ("-" : String).toList.length = 1 := by decide
    omega
theorem z_n60 {n : Nat} (h : n < 10 ^ 10) : (toString n).toList.length ≤ 10 := nat_print h
section
variable {E : CtlPost} {e : Env} {U : State}
theorem z_wN1 (sp dp n : Int32) (D : Value) (hE : ∀ acts', E (.throwNew "java/lang/NullPointerException" none) acts' U) : wp (Native.java_lang_System.arraycopy.sem #[.null, .int sp, D, .int dp, .int n]) (fun _ _ _ _ => False) E e false [] U := by
  show wp (do Jvm.mark "nat.java_lang_System.arraycopy/null"; Jvm.throwNew "java/lang/NullPointerException") _ E e false [] U
  simp only [wp_bind', W.mark, W.throwNew]
  exact hE _
theorem z_wN2 (a : Addr) (sp dp n : Int32) (hE : ∀ acts', E (.throwNew "java/lang/NullPointerException" none) acts' U) : wp (Native.java_lang_System.arraycopy.sem #[.ref a, .int sp, .null, .int dp, .int n]) (fun _ _ _ _ => False) E e false [] U := by
  show wp (do Jvm.mark "nat.java_lang_System.arraycopy/null"; Jvm.throwNew "java/lang/NullPointerException") _ E e false [] U
  simp only [wp_bind', W.mark, W.throwNew]
  exact hE _
end
theorem z_wT (tS tD : FieldType) (hty : ((refKind tS != refKind tD) || (!refKind tS && tS != tD)) = true) : ∃ text, z_okt text ∧ ∀ {E : CtlPost} {e : Env} {U : State} {a b : Addr} {sp dp n : Int32} {cs cd : Cell} {ks kd : Class} {c1 c2 : ClassId}, U.heap[a]? = some cs → U.heap[b]? = some cd → (∀ k, cs.vm ≠ .statics k) → (∀ k, cd.vm ≠ .statics k) → U.vm.classes[cs.cls]? = some ks → U.vm.classes[cd.cls]? = some kd → ks.kind = .array c1 tS → kd.kind = .array c2 tD → (∀ acts', E (.throwNew "java/lang/ArrayStoreException" (some text)) acts' U) → wp (Native.java_lang_System.arraycopy.sem #[.ref a, .int sp, .ref b, .int dp, .int n]) (fun _ _ _ _ => False) E e false [] U := by
  refine ⟨?t, ?ok, fun {E e U a b sp dp n cs cd ks kd c1 c2} h1 h2 h3 h4 h5 h6 h7 h8 hE => ?w⟩
  case w =>
    rw [Native.java_lang_System.arraycopy.sem_refs]
    unfold Native.java_lang_System.arraycopy.behind
    simp only [wp_bind', W.classOf, W.theClass, h1, h2, h5, h6, Option.some.injEq, exists_eq_left', h7, h8]
    refine ⟨h3, h4, ?_⟩
    unfold refKind at hty
    simp only [hty, if_true, wp_bind', W.mark, W.throwNew]
    exact hE _
  case ok =>
    have k1 := z_kn tS
    have k2 := z_kn tD
    refine z_okt_of (r := ("rraycopy: type mismatch: can not copy " : String).toList ++ ((Native.java_lang_System.arraycopy.kindName tS).toList ++ (("[] into " : String).toList ++ ((Native.java_lang_System.arraycopy.kindName tD).toList ++ ("[]" : String).toList)))) ?_ ?_
    · show (("arraycopy: type mismatch: can not copy " : String) ++ Native.java_lang_System.arraycopy.kindName tS ++ "[] into " ++ Native.java_lang_System.arraycopy.kindName tD ++ "[]").toList = _
      simp only [String.toList_append, List.append_assoc]
      rw [show ("arraycopy: type mismatch: can not copy " : String).toList = 'a' :: ("rraycopy: type mismatch: can not copy " : String).toList by decide]
      rfl
    · simp only [List.length_append]
      have : ("rraycopy: type mismatch: can not copy " : String).toList.length = 38 := by decide
      have : ("[] into " : String).toList.length = 8 := by decide
      have : ("[]" : String).toList.length = 2 := by decide
      omega
theorem z_wB (ty : FieldType) (n0 n1 : Nat) (hn0 : n0 < 2 ^ 31) (hn1 : n1 < 2 ^ 31) (sp dp n : Int32) (hbad : sp < 0 ∨ dp < 0 ∨ n < 0 ∨ sp.toInt + n.toInt > n0 ∨ dp.toInt + n.toInt > n1) : ∃ text, z_okt text ∧ ∀ {E : CtlPost} {e : Env} {U : State} {a b : Addr} {cs cd : Cell} {ks kd : Class} {c1 c2 : ClassId}, U.heap[a]? = some cs → U.heap[b]? = some cd → (∀ k, cs.vm ≠ .statics k) → (∀ k, cd.vm ≠ .statics k) → cs.slots.size = n0 → cd.slots.size = n1 → U.vm.classes[cs.cls]? = some ks → U.vm.classes[cd.cls]? = some kd → ks.kind = .array c1 ty → kd.kind = .array c2 ty → (∀ acts', E (.throwNew "java/lang/ArrayIndexOutOfBoundsException" (some text)) acts' U) → wp (Native.java_lang_System.arraycopy.sem #[.ref a, .int sp, .ref b, .int dp, .int n]) (fun _ _ _ _ => False) E e false [] U := by
  have key : ∀ what : String, (what.toList.length ≤ 400) → (if sp < 0 then some ("source index " ++ toString sp ++ " out of bounds for " ++ (Native.java_lang_System.arraycopy.kindName ty ++ "[" ++ toString n0 ++ "]")) else if dp < 0 then some ("destination index " ++ toString dp ++ " out of bounds for " ++ (Native.java_lang_System.arraycopy.kindName ty ++ "[" ++ toString n1 ++ "]")) else if n < 0 then some ("length " ++ toString n ++ " is negative") else if sp.toInt + n.toInt > n0 then some ("last source index " ++ toString (sp.toInt + n.toInt) ++ " out of bounds for " ++ (Native.java_lang_System.arraycopy.kindName ty ++ "[" ++ toString n0 ++ "]")) else if dp.toInt + n.toInt > n1 then some ("last destination index " ++ toString (dp.toInt + n.toInt) ++ " out of bounds for " ++ (Native.java_lang_System.arraycopy.kindName ty ++ "[" ++ toString n1 ++ "]")) else none) = some what → ∃ text, z_okt text ∧ ∀ {E : CtlPost} {e : Env} {U : State} {a b : Addr} {cs cd : Cell} {ks kd : Class} {c1 c2 : ClassId}, U.heap[a]? = some cs → U.heap[b]? = some cd → (∀ k, cs.vm ≠ .statics k) → (∀ k, cd.vm ≠ .statics k) → cs.slots.size = n0 → cd.slots.size = n1 → U.vm.classes[cs.cls]? = some ks → U.vm.classes[cd.cls]? = some kd → ks.kind = .array c1 ty → kd.kind = .array c2 ty → (∀ acts', E (.throwNew "java/lang/ArrayIndexOutOfBoundsException" (some text)) acts' U) → wp (Native.java_lang_System.arraycopy.sem #[.ref a, .int sp, .ref b, .int dp, .int n]) (fun _ _ _ _ => False) E e false [] U := by
    intro what hlen hw
    refine ⟨"arraycopy: " ++ what, ?_, fun {E e U a b cs cd ks kd c1 c2} h1 h2 h3 h4 z0 z1 h5 h6 h7 h8 hE => ?_⟩
    · refine z_okt_of (r := ("rraycopy: " : String).toList ++ what.toList) ?_ ?_
      · rw [String.toList_append, show ("arraycopy: " : String).toList = 'a' :: ("rraycopy: " : String).toList by decide]
        rfl
      · rw [List.length_append]
        have : ("rraycopy: " : String).toList.length = 10 := by decide
        omega
    · rw [Native.java_lang_System.arraycopy.sem_refs]
      unfold Native.java_lang_System.arraycopy.behind
      simp only [wp_bind', W.classOf, W.theClass, h1, h2, h5, h6, Option.some.injEq, exists_eq_left', h7, h8]
      refine ⟨h3, h4, ?_⟩
      have hty : ((refKind ty != refKind ty) || (!refKind ty && ty != ty)) = false := by cases refKind ty <;> simp
      unfold refKind at hty
      simp only [hty, Bool.false_eq_true, if_false]
      simp only [wp_bind', W.sizeOf, h1, h2, Option.some.injEq, exists_eq_left']
      rw [z0, z1]
      have hw2 := hw
      simp only [show ∀ s : String, toString s = s from fun _ => rfl]
      rw [hw2]
      simp only [wp_bind', W.mark, W.throwNew]
      exact hE _
  have l1 : ∀ x : Int32, (toString x).toList.length ≤ 11 := int32_print
  have k1 := z_kn ty
  have m0 := z_n60 (n := n0) (by omega)
  have m1 := z_n60 (n := n1) (by omega)
  have q1 := Int32.toInt_lt sp
  have q2 := Int32.le_toInt sp
  have q3 := Int32.toInt_lt n
  have q4 := Int32.le_toInt n
  have q5 := Int32.toInt_lt dp
  have q6 := Int32.le_toInt dp
  have i1 := z_int (x := sp.toInt + n.toInt) (by omega) (by omega)
  have i2 := z_int (x := dp.toInt + n.toInt) (by omega) (by omega)
  have c1 : ("source index " : String).toList.length = 13 := by decide
  have c2 : (" out of bounds for " : String).toList.length = 19 := by decide
  have c3 : ("[" : String).toList.length = 1 := by decide
  have c4 : ("]" : String).toList.length = 1 := by decide
  have c5 : ("destination index " : String).toList.length = 18 := by decide
  have c6 : ("length " : String).toList.length = 7 := by decide
  have c7 : (" is negative" : String).toList.length = 12 := by decide
  have c8 : ("last source index " : String).toList.length = 18 := by decide
  have c9 : ("last destination index " : String).toList.length = 23 := by decide
  have j1 := l1 sp
  have j2 := l1 dp
  have j3 := l1 n
  by_cases b1 : sp < 0
  · exact key _ (by simp only [String.toList_append, List.length_append]; omega) (if_pos b1)
  by_cases b2 : dp < 0
  · exact key _ (by simp only [String.toList_append, List.length_append]; omega) ((if_neg b1).trans (if_pos b2))
  by_cases b3 : n < 0
  · exact key _ (by simp only [String.toList_append, List.length_append]; omega) ((if_neg b1).trans ((if_neg b2).trans (if_pos b3)))
  by_cases b4 : sp.toInt + n.toInt > n0
  · exact key _ (by simp only [String.toList_append, List.length_append]; omega) ((if_neg b1).trans ((if_neg b2).trans ((if_neg b3).trans (if_pos b4))))
  by_cases b5 : dp.toInt + n.toInt > n1
  · exact key _ (by simp only [String.toList_append, List.length_append]; omega) ((if_neg b1).trans ((if_neg b2).trans ((if_neg b3).trans ((if_neg b4).trans (if_pos b5)))))
  exact absurd hbad (by rintro (q | q | q | q | q) <;> contradiction)
end ZACX
section ZACR
variable {Γ : z_W} {M : z_M} {Q : Outcome → z_H → Prop} {cs ss pc : Nat} {ls : List (Option Value)} {st : List Value} {h : z_H}
/-- the call of System.arraycopy throws -/
theorem z_acX {idx d k1 k2 : Nat} {cls : String} {msg : Option String} {Sv D : Value} {sp dp n : Int32} (hd : decode M.2.1 pc = .ok (.invokestatic idx, 3)) (hlk : Cond.methodLink M.1.cls idx arraycopyName ∈ lw_all) (hst : (st.map fun v => v.category).sum ≤ 8)
    (hcat : Sv.category = 1 ∧ D.category = 1) (href : (∀ l : FieldType, narrow (.object "java/lang/Object") (z_cv Γ Sv) = z_cv Γ Sv) ∧ narrow (.object "java/lang/Object") (z_cv Γ D) = z_cv Γ D)
    (hw : ∀ (l : Launch) (e : Env) (s U : State) (E : CtlPost), z_K Γ l s → z_Rl Γ h U.heap → s.WarmedH U.vm → (∀ acts', E (.throwNew cls msg) acts' U) → wp (Native.java_lang_System.arraycopy.sem #[z_cv Γ Sv, .int sp, z_cv Γ D, .int dp, .int n]) (fun _ _ _ _ => False) E e false [] U)
    (kt : ∀ nf : NFrame, nf.words = 0 → nf.awaiting = false → nf.locked = none → z_TO Γ M (z_rm d k1 k2) Q cs ss pc ls st h nf cls msg) : z_G Γ M (z_rm d k1 k2) Q cs ss pc ls (.int n :: .int dp :: D :: .int sp :: Sv :: st) h := by
  intro p l e s m args below meth cd H locs la X hR hL hl T hT S
  have hK := X.2.2.2.2.2.2.2.2.2
  have hts := X.2.2.2.2.2.1
  obtain ⟨r, kS, methS, hnS, hmS, hkS, N⟩ := NativeOf.of_static (hts _ q969) (hts _ q968) (ps := [.object "java/lang/Object", .int, .object "java/lang/Object", .int, .int]) (ret := none) (by decide +kernel)
  have hinitS : kS.init = .initialized := Cond.initialized_spec (findClass_of_methodNamed hnS) hkS (hts _ q122)
  obtain ⟨vm', X', step⟩ := S.invokestatic X.1 X.2.2.2.2.1 (hts _ hlk) hnS hmS N.static hkS hinitS (by decide) (g := F0 m pc la ((Value.int n :: .int dp :: D :: .int sp :: Sv :: st).map (z_cv Γ))) rfl (argsL := [z_cv Γ Sv, .int sp, z_cv Γ D, .int dp, .int n]) (rest := st.map (z_cv Γ)) (by rw [N.sig]; rfl) rfl (by rw [X.2.1]; exact hd)
  obtain ⟨kS', N'⟩ := N.alike X'.warmed.alike
  have hseen : seenByNative methS #[z_cv Γ Sv, .int sp, z_cv Γ D, .int dp, .int n] = #[z_cv Γ Sv, .int sp, z_cv Γ D, .int dp, .int n] := by
    simp [seenByNative, N.static, N.sig, href.1 .int, href.2, narrow]
  obtain ⟨t, a, b⟩ := kt { method := r, args := #[z_cv Γ Sv, .int sp, z_cv Γ D, .int dp, .int n], locked := none } rfl rfl rfl p l e s m args below meth cd H locs la X hR hL hl (T.setVm vm') hT X'
  refine ⟨t, step t (fun acts => ?_), b⟩
  have cw : ((st.map (z_cv Γ)).map fun v => v.category).sum ≤ 8 := by rw [z_sum]; exact hst
  have ow : operandWords (#[z_cv Γ Sv, .int sp, z_cv Γ D, .int dp, .int n] : Array Value).toList = 5 := by
    have e1 : (z_cv Γ Sv).category = 1 := by rw [z_cat]; exact hcat.1
    have e2 : (z_cv Γ D).category = 1 := by rw [z_cat]; exact hcat.2
    show 0 + (z_cv Γ Sv).category + 1 + (z_cv Γ D).category + 1 + 1 = 5
    rw [e1, e2]
  refine z_ovNote (row := arraycopyRow) (g := F0 m pc la (st.map (z_cv Γ))) X'.here acts N'.cls N'.meth N'.boot N'.native N'.noCode N'.noLock (by rw [N'.className, N'.name, N'.desc]; exact arraycopy_row p) hseen (by
      rw [N'.className, N'.name, ow]
      refine X'.notFull (g := F0 m pc la (st.map (z_cv Γ))) (hl.1.trans X.2.2.1.symm) (by show 1 ≤ d + 64; omega) ?_
      have : nativeFrameWords "java/lang/System" "arraycopy" 5 + 11 ≤ 10000 := by decide +kernel
      show 2 * 0 + ((st.map (z_cv Γ)).map fun v => v.category).sum + (nativeFrameWords "java/lang/System" "arraycopy" 5 + 11) ≤ 64 * d + 20000
      omega) (cls := cls) (msg := msg) (fun U E h1 h2 hE => by
      rw [arraycopyRow_sem]
      refine hw l e s U E hK ?_ ?_ hE
      · rw [h1]
        show z_Rl Γ h T.heap
        rw [hT]
        exact hR
      · rw [h2]
        exact X'.warmed) ?_
  obtain ⟨g₀, hfr⟩ := X'.frames_eq
  have c1 : (T.setVm vm').cur < (T.setVm vm').threads.size := State.cur_lt_of_frames hfr
  have e1 : ((T.setVm vm').setTop (F0 m pc la (st.map (z_cv Γ)))).pushFrame (.native { method := r, args := #[z_cv Γ Sv, .int sp, z_cv Γ D, .int dp, .int n], locked := none }) = (T.setVm vm').setFrames (.native { method := r, args := #[z_cv Γ Sv, .int sp, z_cv Γ D, .int dp, .int n], locked := none } :: .java (F0 m pc la (st.map (z_cv Γ))) :: below) := by
    rw [State.pushFrame, State.frames_setTop _ hfr, State.setTop_of_frames _ hfr, State.setFrames_setFrames]
  rw [e1, State.pushFrame, State.frames_setFrames _ c1, State.setFrames_setFrames]
  exact a
theorem z_acN1 {idx d k1 k2 : Nat} {D : Value} {sp dp n : Int32} (hd : decode M.2.1 pc = .ok (.invokestatic idx, 3)) (hlk : Cond.methodLink M.1.cls idx arraycopyName ∈ lw_all) (hst : (st.map fun v => v.category).sum ≤ 8) (hD : D = .null ∨ ∃ b, D = .ref b) (kt : ∀ nf : NFrame, nf.words = 0 → nf.awaiting = false → nf.locked = none → z_TO Γ M (z_rm d k1 k2) Q cs ss pc ls st h nf "java/lang/NullPointerException" none) : z_G Γ M (z_rm d k1 k2) Q cs ss pc ls (.int n :: .int dp :: D :: .int sp :: .null :: st) h :=
  z_acX hd hlk hst ⟨rfl, by rcases hD with rfl | ⟨b, rfl⟩ <;> rfl⟩ ⟨fun _ => rfl, by rcases hD with rfl | ⟨b, rfl⟩ <;> rfl⟩ (fun l e s U E _ _ _ hE => z_wN1 sp dp n (z_cv Γ D) hE) kt
theorem z_acN2 {idx d k1 k2 a : Nat} {sp dp n : Int32} (hd : decode M.2.1 pc = .ok (.invokestatic idx, 3)) (hlk : Cond.methodLink M.1.cls idx arraycopyName ∈ lw_all) (hst : (st.map fun v => v.category).sum ≤ 8) (kt : ∀ nf : NFrame, nf.words = 0 → nf.awaiting = false → nf.locked = none → z_TO Γ M (z_rm d k1 k2) Q cs ss pc ls st h nf "java/lang/NullPointerException" none) : z_G Γ M (z_rm d k1 k2) Q cs ss pc ls (.int n :: .int dp :: .null :: .int sp :: .ref a :: st) h :=
  z_acX hd hlk hst ⟨rfl, rfl⟩ ⟨fun _ => rfl, rfl⟩ (fun l e s U E _ _ _ hE => z_wN2 (z_ad Γ a) sp dp n hE) kt
/-- two arrays, at a state that is warmer -/
theorem z_two {l : Launch} {s U : State} {a n : Nat} {ty : FieldType} (hK : z_K Γ l s) (hR : z_Rl Γ h U.heap) (hW : s.WarmedH U.vm) (hm : ty ∈ z_at) (ht : z_T h a = some (.inr (ty, n))) : ∃ (w : Cell) (k : Class) (c : ClassId), U.heap[z_ad Γ a]? = some w ∧ (∀ z, w.vm ≠ .statics z) ∧ w.slots.size = n ∧ U.vm.classes[w.cls]? = some k ∧ k.kind = .array c ty := by
  have hf : ty ≠ .float := fun q => by subst q; simp [z_at] at hm
  obtain ⟨-, k0, hk0, cm0, hkk0⟩ := (hK.2.2.1 ty hm).1 n (fun j => z_vt Γ ty h a j)
  obtain ⟨k1, hk1, e1⟩ := hW.alike.2.2 _ _ hk0
  exact ⟨_, k1, cm0, z_arr hR ht hf, (fun z q => by cases q), arrV_size .., hk1, by rw [e1]; exact hkk0⟩
theorem z_acT {idx d k1 k2 a b n0 n1 : Nat} {tS tD : FieldType} {sp dp n : Int32} (hd : decode M.2.1 pc = .ok (.invokestatic idx, 3)) (hlk : Cond.methodLink M.1.cls idx arraycopyName ∈ lw_all) (hst : (st.map fun v => v.category).sum ≤ 8) (ha : z_T h a = some (.inr (tS, n0))) (hb : z_T h b = some (.inr (tD, n1))) (hmS : tS ∈ z_at) (hmD : tD ∈ z_at) (hty : ((refKind tS != refKind tD) || (!refKind tS && tS != tD)) = true) (kt : ∀ (text : String) (nf : NFrame), z_okt text → nf.words = 0 → nf.awaiting = false → nf.locked = none → z_TO Γ M (z_rm d k1 k2) Q cs ss pc ls st h nf "java/lang/ArrayStoreException" (some text)) : z_G Γ M (z_rm d k1 k2) Q cs ss pc ls (.int n :: .int dp :: .ref b :: .int sp :: .ref a :: st) h := by
  obtain ⟨text, hok, hw⟩ := z_wT tS tD hty
  refine z_acX hd hlk hst ⟨rfl, rfl⟩ ⟨fun _ => rfl, rfl⟩ (fun l e s U E hK hR hW hE => ?_) (fun nf => kt text nf hok)
  obtain ⟨w1, c1, x1, p1, p2, p3, p4, p5⟩ := z_two hK hR hW hmS ha
  obtain ⟨w2, c2, x2, r1, r2, r3, r4, r5⟩ := z_two hK hR hW hmD hb
  exact hw p1 r1 p2 r2 p4 r4 p5 r5 hE
theorem z_acB {idx d k1 k2 a b n0 n1 : Nat} {ty : FieldType} {sp dp n : Int32} (hd : decode M.2.1 pc = .ok (.invokestatic idx, 3)) (hlk : Cond.methodLink M.1.cls idx arraycopyName ∈ lw_all) (hst : (st.map fun v => v.category).sum ≤ 8) (ha : z_T h a = some (.inr (ty, n0))) (hb : z_T h b = some (.inr (ty, n1))) (hm : ty ∈ z_at) (hn0 : n0 < 2 ^ 31) (hn1 : n1 < 2 ^ 31) (hbad : sp < 0 ∨ dp < 0 ∨ n < 0 ∨ sp.toInt + n.toInt > n0 ∨ dp.toInt + n.toInt > n1) (kt : ∀ (text : String) (nf : NFrame), z_okt text → nf.words = 0 → nf.awaiting = false → nf.locked = none → z_TO Γ M (z_rm d k1 k2) Q cs ss pc ls st h nf "java/lang/ArrayIndexOutOfBoundsException" (some text)) : z_G Γ M (z_rm d k1 k2) Q cs ss pc ls (.int n :: .int dp :: .ref b :: .int sp :: .ref a :: st) h := by
  obtain ⟨text, hok, hw⟩ := z_wB ty n0 n1 hn0 hn1 sp dp n hbad
  refine z_acX hd hlk hst ⟨rfl, rfl⟩ ⟨fun _ => rfl, rfl⟩ (fun l e s U E hK hR hW hE => ?_) (fun nf => kt text nf hok)
  obtain ⟨w1, c1, x1, p1, p2, p3, p4, p5⟩ := z_two hK hR hW hm ha
  obtain ⟨w2, c2, x2, r1, r2, r3, r4, r5⟩ := z_two hK hR hW hm hb
  exact hw p1 r1 p2 r2 p3 r3 p4 r4 p5 r5 hE
end ZACR
