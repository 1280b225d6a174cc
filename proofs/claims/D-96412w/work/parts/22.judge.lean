/-! THE JUDGEMENTS: z_G: a frame of the method M over a memory comes to its end with Q; z_C: a contract. -/
/-- a method: its name, code, locals, answer, handlers -/
abbrev z_M : Type := MethodName × ByteArray × Nat × Option FieldType × List (Nat × Nat × Nat × Nat)
def z_Cx (Γ : z_W) (M : z_M) (p : Program) (l : Launch) (s : State) (m : MethodId) (args : Array Value) (meth : Method) (c : Code) : Prop :=
  p.tables.exec = Jvm.exec ∧ c.code = M.2.1 ∧ c.maxLocals = M.2.2.1 ∧ meth.sig.returnType = M.2.2.2.1 ∧ s.vm.findClass M.1.cls = some m.cls ∧ (∀ w ∈ lw_all, w.before args s = true) ∧ meth.locks = false ∧ meth.name = M.1.name ∧ c.exceptionTable.toList.map (fun h => (h.startPc, h.endPc, h.handlerPc, h.catchType)) = M.2.2.2.2 ∧ z_K Γ l s
def z_oc (Γ : z_W) : Outcome → Outcome
  | .returned v => .returned (v.map (z_cv Γ))
  | .threw a => .threw (z_ad Γ a)
def z_MQ (Γ : z_W) (Q : Outcome → z_H → Prop) (rm : Room) (below : List Frame) (s : State) : State → Prop := fun t =>
  ∃ o, t.status = .running ∧ Ended t below (z_oc Γ o) ∧ (∃ h', Q o h' ∧ z_Rl Γ h' t.heap) ∧ s.WarmedH t.vm ∧ ∃ L, s.sameButNew ({ t with vm := s.vm } : State) L rm.cells rm.slots ∧ ∀ q ∈ L, z_B Γ ≤ q.base
/-- locals: what is known, by place -/
def z_lh (Γ : z_W) (la : Array Slot) (n : Nat) (ls : List (Option Value)) : Prop := la.size = n ∧ lv_wf la ∧ ∀ (i : Nat) (v : Value), ls[i]? = some (some v) → la[i]? = some (.val (z_cv Γ v))
def z_G (Γ : z_W) (M : z_M) (rm : Room) (Q : Outcome → z_H → Prop) (cs ss : Nat) (pc : Nat) (ls : List (Option Value)) (st : List Value) (h : z_H) : Prop :=
  ∀ (p : Program) (l : Launch) (e : Env) (s : State) (m : MethodId) (args : Array Value) (below : List Frame) (meth : Method) (c : Code) (H : Heap) (locs : List Loc) (la : Array Slot),
    z_Cx Γ M p l s m args meth c → z_Rl Γ h H → (∀ q ∈ locs, z_B Γ ≤ q.base) → z_lh Γ la M.2.2.1 ls →
    W p l e rm s m args below meth c H locs cs ss (z_MQ Γ Q rm below s) (F0 m pc la (st.map (z_cv Γ)))
def z_ws (M : z_M) : List Cond := (match M.2.2.2.2 with | [] => Cond.code M.1 M.2.1 M.2.2.1 M.2.2.2.1 | hh => Cond.codeWith M.1 M.2.1 M.2.2.1 M.2.2.2.1 hh) :: lw_all
/-- a contract: at the memory h, with these arguments, the method ends with Q; what it makes is bounded by its room -/
def z_C (Γ : z_W) (M : z_M) (rm : Room) (av : List Value) (h : z_H) (Q : Outcome → z_H → Prop) : Prop := ∀ l : Launch,
  MetFree l M.1 (headSpec (z_ws M) rm) (fun a U => a = (av.map (z_cv Γ)).toArray ∧ z_K Γ l U ∧ z_Rl Γ h U.heap) (fun _ _ _ _ _ => True)
    (fun a st o t => ∃ o' h', o = z_oc Γ o' ∧ Q o' h' ∧ z_Rl Γ h' t.heap ∧ st.WarmedH t.vm ∧ ∃ L, st.sameButNew ({ t with vm := st.vm } : State) L rm.cells rm.slots ∧ ∀ q ∈ L, z_B Γ ≤ q.base)
/-- the room by depth: frames, cells, slots, words -/
def z_rm (d k n : Nat) : Room := { frames := d + 64, cells := k, slots := n, locals := 64 * d + 20000 }
theorem z_mono {p : Program} {l : Launch} {e : Env} {R : Room} {s : State} {m : MethodId} {args : Array Value} {below : List Frame} {meth : Method} {c : Code} {H : Heap} {locs : List Loc} {cells slots : Nat} {Q Q' : State → Prop} {g : JFrame} (h : ∀ t, Q t → Q' t) (k : W p l e R s m args below meth c H locs cells slots Q g) : W p l e R s m args below meth c H locs cells slots Q' g := by
  intro T hT X
  obtain ⟨t, a, b⟩ := k T hT X
  exact ⟨t, a, h t b⟩
/-- the locals at the entry -/
def z_ls (av : List Value) : List (Option Value) := av.flatMap fun v => if v.category = 2 then [some v, none] else [some v]
theorem z_ls_mem (Γ : z_W) : ∀ (av : List Value) (j i : Nat) (v : Value), (z_ls av)[i]? = some (some v) → (j + i, z_cv Γ v) ∈ lv_args j (av.map (z_cv Γ))
  | [], j, i, v, h => by simp [z_ls] at h
  | w :: t, j, i, v, h => by
    have ih := z_ls_mem Γ t
    simp only [List.map_cons, lv_args]
    rw [z_cat]
    unfold z_ls at h
    rw [List.flatMap_cons] at h
    by_cases hc : w.category = 2
    · rw [if_pos hc] at h ⊢
      match i, h with
      | 0, h => simp at h; subst h; exact List.mem_cons_self
      | 1, h => simp at h
      | i + 2, h =>
        have h2 : (z_ls t)[i]? = some (some v) := by simpa [z_ls] using h
        have h3 := ih (j + 2) i v h2
        refine List.mem_cons_of_mem _ ?_
        rw [show j + (i + 2) = j + 2 + i by omega]
        exact h3
    · rw [if_neg hc] at h ⊢
      match i, h with
      | 0, h => simp at h; subst h; exact List.mem_cons_self
      | i + 1, h =>
        have h2 : (z_ls t)[i]? = some (some v) := by simpa [z_ls] using h
        have h3 := ih (j + 1) i v h2
        refine List.mem_cons_of_mem _ ?_
        rw [show j + (i + 1) = j + 1 + i by omega]
        exact h3
/-- lists of known locals as the kit has them -/
def z_pr (Γ : z_W) (ls : List (Option Value)) : List (Nat × Value) := (List.range ls.length).filterMap (fun i => match ls[i]? with | some (some v) => some (i, z_cv Γ v) | _ => none)
theorem z_pr_mem {Γ : z_W} {ls : List (Option Value)} {q : Nat × Value} : q ∈ z_pr Γ ls ↔ ∃ v, ls[q.1]? = some (some v) ∧ q.2 = z_cv Γ v := by
  unfold z_pr
  rw [List.mem_filterMap]
  constructor
  · rintro ⟨i, -, hi⟩
    cases hv : ls[i]? with
    | none => simp [hv] at hi
    | some w =>
      cases w with
      | none => simp [hv] at hi
      | some v =>
        simp [hv] at hi
        subst hi
        exact ⟨v, hv, rfl⟩
  · rintro ⟨v, hv, hq⟩
    refine ⟨q.1, List.mem_range.mpr (List.getElem?_eq_some_iff.mp hv).1, ?_⟩
    simp [hv, ← hq]
theorem z_lh.has {Γ : z_W} {la : Array Slot} {n : Nat} {ls : List (Option Value)} (h : z_lh Γ la n ls) : lv_has la n (z_pr Γ ls) := by
  refine ⟨h.1, h.2.1, fun q hq => ?_⟩
  obtain ⟨v, hv, e⟩ := z_pr_mem.mp hq
  rw [e]
  exact h.2.2 _ v hv
/-- a store kills a long whose second half it hits -/
def z_kl (ls : List (Option Value)) : Nat → List (Option Value)
  | 0 => ls
  | j + 1 => match ls[j]? with
    | some (some w) => if w.category = 2 then ls.set j none else ls
    | _ => ls
def z_st1 (ls : List (Option Value)) (i : Nat) (v : Value) : List (Option Value) := (z_kl ls i).set i (some v)
def z_st2 (ls : List (Option Value)) (i : Nat) (v : Value) : List (Option Value) := ((z_kl ls i).set i (some v)).set (i + 1) none
theorem z_kl_get {ls : List (Option Value)} {i j : Nat} {w : Value} (h : (z_kl ls i)[j]? = some (some w)) : ls[j]? = some (some w) ∧ ¬ (j + 1 = i ∧ w.category = 2) := by
  cases i with
  | zero => exact ⟨h, fun q => by omega⟩
  | succ k =>
    unfold z_kl at h
    cases hk : ls[k]? with
    | none =>
      simp only [hk] at h
      refine ⟨h, fun q => ?_⟩
      have : j = k := by omega
      subst this
      rw [hk] at h
      cases h
    | some x =>
      cases x with
      | none =>
        simp only [hk] at h
        refine ⟨h, fun q => ?_⟩
        have : j = k := by omega
        subst this
        rw [hk] at h
        cases h
      | some y =>
        simp only [hk] at h
        by_cases hc : y.category = 2
        · rw [if_pos hc] at h
          by_cases e : k = j
          · subst e
            rw [List.getElem?_set_self (List.getElem?_eq_some_iff.mp hk).1] at h
            cases h
          · rw [List.getElem?_set_ne e] at h
            exact ⟨h, fun q => e (by omega)⟩
        · rw [if_neg hc] at h
          refine ⟨h, fun q => ?_⟩
          have : j = k := by omega
          subst this
          rw [hk] at h
          cases h
          exact hc q.2
theorem z_lh.of1 {Γ : z_W} {la' : Array Slot} {n i : Nat} {ls : List (Option Value)} {v : Value} (h2 : lv_has la' n ((i, z_cv Γ v) :: (z_pr Γ ls).filter (fun q => !(q.1 == i) && !(q.1 + 1 == i && q.2.category == 2)))) : z_lh Γ la' n (z_st1 ls i v) := by
  refine ⟨h2.1, h2.2.1, fun j w hw => ?_⟩
  unfold z_st1 at hw
  by_cases e : i = j
  · subst e
    have hl : i < (z_kl ls i).length := by
      have := (List.getElem?_eq_some_iff.mp hw).1
      rwa [List.length_set] at this
    rw [List.getElem?_set_self hl] at hw
    cases hw
    exact h2.2.2 (i, z_cv Γ v) List.mem_cons_self
  · rw [List.getElem?_set_ne e] at hw
    obtain ⟨h3, h4⟩ := z_kl_get hw
    refine h2.2.2 (j, z_cv Γ w) (List.mem_cons_of_mem _ (List.mem_filter.mpr ⟨z_pr_mem.mpr ⟨w, h3, rfl⟩, ?_⟩))
    simp only [Bool.and_eq_true, Bool.not_eq_true', beq_eq_false_iff_ne, Bool.and_eq_false_iff, ne_eq]
    refine ⟨fun q => e q.symm, ?_⟩
    rw [z_cat]
    by_cases q : j + 1 = i
    · exact Or.inr (fun r => h4 ⟨q, r⟩)
    · exact Or.inl q
theorem z_lh.of2 {Γ : z_W} {la' : Array Slot} {n i : Nat} {ls : List (Option Value)} {v : Value} (h2 : lv_has la' n ((i, z_cv Γ v) :: (z_pr Γ ls).filter (fun q => !(q.1 == i) && (!(q.1 == i + 1) && !(q.1 + 1 == i && q.2.category == 2))))) : z_lh Γ la' n (z_st2 ls i v) := by
  refine ⟨h2.1, h2.2.1, fun j w hw => ?_⟩
  unfold z_st2 at hw
  by_cases e2 : i + 1 = j
  · subst e2
    have hl : i + 1 < ((z_kl ls i).set i (some v)).length := by
      have := (List.getElem?_eq_some_iff.mp hw).1
      rwa [List.length_set] at this
    rw [List.getElem?_set_self hl] at hw
    cases hw
  rw [List.getElem?_set_ne e2] at hw
  by_cases e : i = j
  · subst e
    have hl : i < (z_kl ls i).length := by
      have := (List.getElem?_eq_some_iff.mp hw).1
      rwa [List.length_set] at this
    rw [List.getElem?_set_self hl] at hw
    cases hw
    exact h2.2.2 (i, z_cv Γ v) List.mem_cons_self
  · rw [List.getElem?_set_ne e] at hw
    obtain ⟨h3, h4⟩ := z_kl_get hw
    refine h2.2.2 (j, z_cv Γ w) (List.mem_cons_of_mem _ (List.mem_filter.mpr ⟨z_pr_mem.mpr ⟨w, h3, rfl⟩, ?_⟩))
    simp only [Bool.and_eq_true, Bool.not_eq_true', beq_eq_false_iff_ne, Bool.and_eq_false_iff, ne_eq]
    refine ⟨fun q => e q.symm, fun q => e2 q.symm, ?_⟩
    rw [z_cat]
    by_cases q : j + 1 = i
    · exact Or.inr (fun r => h4 ⟨q, r⟩)
    · exact Or.inl q
theorem z_ls_len (Γ : z_W) : ∀ av : List Value, (lg_sl (av.map (z_cv Γ))).length = (z_ls av).length
  | [] => rfl
  | v :: t => by
    have ih := z_ls_len Γ t
    unfold lg_sl z_ls at ih ⊢
    rw [List.map_cons, List.flatMap_cons, List.flatMap_cons, List.length_append, List.length_append, ih, z_cat]
    by_cases hc : v.category = 2
    · rw [if_pos hc, if_pos hc]; rfl
    · rw [if_neg hc, if_neg hc]; rfl
/-- a contract out of a walk: a method without handlers -/
theorem z_C.of {Γ : z_W} {M : z_M} {rm : Room} {av : List Value} {h : z_H} {Q : Outcome → z_H → Prop} (hy : plainName M.1.cls = true) (hw : M.2.2.2.2 = []) (ls : List (Option Value)) (hn : (z_ls av).length ≤ M.2.2.1) (hl : z_ls av ++ List.replicate (M.2.2.1 - (z_ls av).length) none = ls) (body : z_G Γ M rm Q 0 0 0 ls [] h) : z_C Γ M rm av h Q := by
  intro l
  have hws : z_ws M = Cond.code M.1 M.2.1 M.2.2.1 M.2.2.2.1 :: lw_all := by unfold z_ws; rw [hw]
  rw [hws]
  refine MetFree.of_bodyS (code := M.2.1) (maxLocals := M.2.2.1) (ret := M.2.2.2.1) hy ?_ ?_
  · intro args s m h hn
    obtain ⟨meth, c, h1, h2, h3, h4, h5, h6, -, -⟩ := Cond.code_spec hn (atoms_spec (ws := Cond.code M.1 M.2.1 M.2.2.1 M.2.2.2.1 :: lw_all) h _ List.mem_cons_self)
    exact ⟨meth, c, h1, h2, h3, h4, h5, h6⟩
  · intro p e s m args below meth c s₁ B hml hP _
    obtain ⟨rfl, hK, hR⟩ := hP
    have hts := atoms_spec (ws := Cond.code M.1 M.2.1 M.2.2.1 M.2.2.2.1 :: lw_all) B.pre
    have hex : c.exceptionTable.isEmpty = true := B.noHandlers (hts _ List.mem_cons_self)
    have hh0 : s₁.heap = s.heap := by rw [B.state]; rfl
    have hCx : z_Cx Γ M p l s m ((av.map (z_cv Γ)).toArray) meth c := ⟨B.exec, B.bytes, hml, B.returns, findClass_of_methodNamed B.named, fun w h => hts w (List.mem_cons_of_mem _ h), B.notSynchronized, (name_of_methodNamed B.named B.method).1, by
      rw [hw]
      rw [Array.isEmpty_iff] at hex
      rw [hex]
      rfl, hK⟩
    have hlen := z_ls_len Γ av
    have hlv := lv_entry (av.map (z_cv Γ)) (n := M.2.2.1) (by rw [hlen]; exact hn)
    have hlh : z_lh Γ ((lg_sl (av.map (z_cv Γ)) ++ List.replicate (M.2.2.1 - (lg_sl (av.map (z_cv Γ))).length) Slot.unset).toArray) M.2.2.1 ls := by
      refine ⟨hlv.1, hlv.2.1, fun i v hv => ?_⟩
      rw [← hl] at hv
      by_cases hi : i < (z_ls av).length
      · rw [List.getElem?_append_left hi] at hv
        have := z_ls_mem Γ av 0 i v hv
        rw [Nat.zero_add] at this
        exact hlv.2.2 (i, z_cv Γ v) this
      · rw [List.getElem?_append_right (by omega), List.getElem?_replicate] at hv
        split at hv <;> cases hv
    obtain ⟨t, a1, o, b1, b2, ⟨h', b3, b4⟩, b5, b6⟩ := body p l e s m _ below meth c s.heap [] _ hCx hR (fun q h => by cases h) hlh s₁ hh0 (Stand.of_body B)
    refine ⟨t, z_oc Γ o, ?_, b1, b2, o, h', rfl, b3, b4, b5, b6⟩
    rw [lg_entry_eq]
    exact a1
