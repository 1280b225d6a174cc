/-! AS z_C.of, for any name that is no native's (JDK classes) -/
theorem z_C.ofF {Γ : z_W} {M : z_M} {rm : Room} {av : List Value} {h : z_H} {Q : Outcome → z_H → Prop} (hy : plainFor M.1 = true) (hw : M.2.2.2.2 = []) (ls : List (Option Value)) (hn : (z_ls av).length ≤ M.2.2.1) (hl : z_ls av ++ List.replicate (M.2.2.1 - (z_ls av).length) none = ls) (body : z_G Γ M rm Q 0 0 0 ls [] h) : z_C Γ M rm av h Q := by
  intro l
  have hws : z_ws M = Cond.code M.1 M.2.1 M.2.2.1 M.2.2.2.1 :: lw_all := by unfold z_ws; rw [hw]
  rw [hws]
  refine MetFree.of_bodySF (code := M.2.1) (maxLocals := M.2.2.1) (ret := M.2.2.2.1) hy ?_ ?_
  · intro args s m h hn
    obtain ⟨meth, c, h1, h2, h3, h4, h5, h6, -, -⟩ := Cond.code_spec hn (atoms_spec (ws := Cond.code M.1 M.2.1 M.2.2.1 M.2.2.2.1 :: lw_all) h _ List.mem_cons_self)
    exact ⟨meth, c, h1, h2, h3, h4, h5, h6⟩
  · intro p e s m args below meth c s₁ B hml hP _
    obtain ⟨rfl, hK, hR⟩ := hP
    have hts := atoms_spec (ws := Cond.code M.1 M.2.1 M.2.2.1 M.2.2.2.1 :: lw_all) B.pre
    have hex : c.exceptionTable.isEmpty = true := B.noHandlers (hts _ List.mem_cons_self)
    have hh0 : s₁.heap = s.heap := by rw [B.state]; rfl
    have hCx : z_Cx Γ M p l s m ((av.map (z_cv Γ)).toArray) meth c := ⟨B.exec, B.bytes, hml, B.returns, findClass_of_methodNamed B.named, fun w h => hts w (List.mem_cons_of_mem _ h), B.notSynchronized, (name_of_methodNamed B.named B.method).1, by
      rw [hw]
      rw [Array.isEmpty_iff] at hex
      rw [hex]
      rfl, hK⟩
    have hlen := z_ls_len Γ av
    have hlv := lv_entry (av.map (z_cv Γ)) (n := M.2.2.1) (by rw [hlen]; exact hn)
    have hlh : z_lh Γ ((lg_sl (av.map (z_cv Γ)) ++ List.replicate (M.2.2.1 - (lg_sl (av.map (z_cv Γ))).length) Slot.unset).toArray) M.2.2.1 ls := by
      refine ⟨hlv.1, hlv.2.1, fun i v hv => ?_⟩
      rw [← hl] at hv
      by_cases hi : i < (z_ls av).length
      · rw [List.getElem?_append_left hi] at hv
        have := z_ls_mem Γ av 0 i v hv
        rw [Nat.zero_add] at this
        exact hlv.2.2 (i, z_cv Γ v) this
      · rw [List.getElem?_append_right (by omega), List.getElem?_replicate] at hv
        split at hv <;> cases hv
    obtain ⟨t, a1, o, b1, b2, ⟨h', b3, b4⟩, b5, b6⟩ := body p l e s m _ below meth c s.heap [] _ hCx hR (fun q h => by cases h) hlh s₁ hh0 (Stand.of_body B)
    refine ⟨t, z_oc Γ o, ?_, b1, b2, o, h', rfl, b3, b4, b5, b6⟩
    rw [lg_entry_eq]
    exact a1
