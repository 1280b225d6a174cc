/-! Off's constructor: super() (by hand). -/
section ZOFS
variable {Γ : z_W} {M : z_M} {Q : Outcome → z_H → Prop} {cs ss pc : Nat} {ls : List (Option Value)} {st : List Value} {h : z_H}
theorem z_offSuper {L d k1 k2 : Nat} (hd : decode M.2.1 pc = .ok (.invokespecial 1, 3)) (hM : M.1.cls = RX15) (hT : z_T h L = some (.inr (.float, 0))) (hLo : z_o ≤ L) (hst : (st.map fun v => v.category).sum ≤ 8) (kk : z_G Γ M (z_rm d k1 k2) Q cs ss (pc + 3) ls st (z_mk h L)) : z_G Γ M (z_rm d k1 k2) Q cs ss pc ls (.ref L :: st) h := by
  intro p l e s m args below meth c H locs la X hR hL hl
  have hK := X.2.2.2.2.2.2.2.2.2
  have hts := X.2.2.2.2.2.1
  intro T' hT' S
  subst hT'
  have hlt := z_lt hR hT
  have hfo : z_fo Γ h T'.heap L 0 := by
    have h1 := hR.1 L hlt
    unfold z_ce at h1
    rw [hT] at h1
    exact h1
  obtain ⟨w, w1, w2, w3, ⟨w4, w5⟩, w6, w7⟩ := hfo
  obtain ⟨s0, T, Z, u0, sen, cellS, B, Lk, LZ, Y, gB, g1, g2, g3, g4, BL, bf, bn, bt⟩ := z_tb S hK hts hR
  have hpl : e.platform.magicAccessors = ({} : Platform).magicAccessors := by rw [S.admits.platform]
  have htr : e.platform.stackTraces = false := by
    rw [S.admits.platform]
    exact hK.2.2.2.2.2.2.2.1
  have hown := X.2.2.2.2.1
  rw [hM] at hown
  have hfX : s.vm.findClass RX15 = some (Γ.1.1 15) := (hK.2.1 15 (RX15, TX15, 7) rfl).2.1
  obtain ⟨c1, kX, f1, hk, hord, -, -, f6⟩ := Cond.instantiable_spec (hts _ q750)
  cases hfX.symm.trans f1
  obtain ⟨P1, Ps, hlen, L1, hLs, hP1m, hlink1, hlink⟩ := Bundle.chain0 (args := args) (s := s) hpl Y.init0 ["java/lang/Exception"] "java/lang/RuntimeException" (by decide +kernel) (by intro n hn; rw [List.mem_singleton] at hn; rw [hn]; decide +kernel) (z_ch0 hK hts)
  have hlen1 : Ps.length = 1 := hlen
  have hsel0 : selectMethod e.platform s.vm w.cls T.fill0 = .method T.fill0 := by
    obtain ⟨c2, r2, m2, q1, q2, q3, q4, -⟩ := Cond.selects_spec (hts _ q758)
    cases Option.some.inj (q1.symm.trans hfX)
    cases Option.some.inj (q2.symm.trans (State.methodFound?_of_named Y.fill0 (by decide)))
    cases Option.some.inj (q3.symm.trans Y.fill0)
    rw [Launch.admits_selectMethod S.admits, w2]; exact q4
  have hselF : selectMethod e.platform s.vm w.cls T.fill = .method T.fill := by
    obtain ⟨c2, r2, m2, q1, q2, q3, q4, -⟩ := Cond.selects_spec (hts _ q759)
    cases Option.some.inj (q1.symm.trans hfX)
    cases Option.some.inj (q2.symm.trans (State.methodFound?_of_named Y.fill (by decide)))
    cases Option.some.inj (q3.symm.trans Y.fill)
    rw [Launch.admits_selectMethod S.admits, w2]; exact q4
  have eC : T.fCause.slot = Γ.1.2 15 0 := z_offS hK (by decide) rfl Y.cause
  have eS : T.fStack.slot = Γ.1.2 15 1 := z_offS hK (by decide) rfl Y.stack
  have eP : T.fSupp.slot = Γ.1.2 15 2 := z_offS hK (by decide) rfl Y.supp
  have eB : B.fBack.slot = Γ.1.2 15 4 := z_offS hK (by decide) rfl bf
  have ap : ∀ {x y : Nat}, x < 7 → y < 7 → x ≠ y → Γ.1.2 15 x ≠ Γ.1.2 15 y := fun hx hy hne => z_offA hK hts hx hy hne
  have szk : ∀ k, k < 7 → Γ.1.2 15 k < w.slots.size := fun k hk7 => (Array.getElem?_eq_some_iff.mp (w7 k hk7)).1
  have tk : ∀ (f : Field) (v : Value), f.slot < w.slots.size → kX.instanceTypes[f.slot]? = some f.type → fits f.type v = true → Takes s w f v := fun f v h1 h2 h3 => ⟨h1, by rw [w2, w3]; simp [State.fitsSlot, State.slotType?, hk, hord, h2, h3]⟩
  have tyC := (Cond.laysAt hfX hk Y.cause (hts _ q760)).1
  have tyS := (Cond.laysAt hfX hk Y.stack (hts _ q762)).1
  have tyP := (Cond.laysAt hfX hk Y.supp (hts _ q764)).1
  have hskip : SkipFacts T e.platform s (fun u => u) u0 ((preparedCellV T.toThrowableT w (z_ad Γ L) u0 sen).withEntry T'.cur) := by
    refine ⟨B, BL, ?_, fun _ _ => rfl⟩
    have b0 : w.slots[B.fBack.slot]? = some .null := by rw [eB]; exact w7 4 (by decide)
    have n1 : B.fBack.slot ≠ T.fCause.slot := by rw [eB, eC]; exact ap (by decide) (by decide) (by decide)
    have n2 : B.fBack.slot ≠ T.fStack.slot := by rw [eB, eS]; exact ap (by decide) (by decide) (by decide)
    have n3 : B.fBack.slot ≠ T.fSupp.slot := by rw [eB, eP]; exact ap (by decide) (by decide) (by decide)
    simpa [preparedCellV, Cell.setSlot, Cell.withEntry, Array.getElem?_setIfInBounds, n1, n2, n3, n1.symm, n2.symm, n3.symm] using b0
  obtain ⟨tm, methC, cdC, kC, vm₁, hnC, -, -, -, -, -, -, -, hW₁, st1⟩ := Steps.initCold (tb := p.tables) (e := e) (below := below) (s := s) (U := T') S.here X.1 S.warmed hpl hown (t := Bundle.init0 "java/lang/RuntimeException") rfl rfl (by decide) (hts _ q809) (hts _ q810) (hts _ q811) (f := F0 m pc la (.ref (z_ad Γ L) :: st.map (z_cv Γ))) rfl (a := z_ad Γ L) (rest := st.map (z_cv Γ)) rfl (by rw [X.2.1]; exact hd)
  cases Option.some.inj (hnC.symm.trans hP1m)
  have X₁ := S.noted hW₁
  have cw : ((st.map (z_cv Γ)).map fun v => v.category).sum ≤ 8 := by rw [z_sum]; exact hst
  have hBL : z_B Γ ≤ z_ad Γ L := by rw [hK.1.1 L hLo]; omega
  obtain ⟨vm₂, X₂, st2⟩ := X₁.ctorPlainOffV X.1 (g := F0 m pc la (st.map (z_cv Γ))) rfl (hl.1.trans X.2.2.1.symm) T Lk Z LZ (P1 :: Ps)
    (fun P hP => by
      rcases List.mem_cons.mp hP with rfl | hP
      · exact L1
      · exact hLs P hP) ⟨hlink1, hlink⟩ (u0 := u0) (sen := sen) (self := z_ad Γ L) (cell := w) (cellS := cellS)
    w1 (fun _ q => by rw [w3] at q; cases q) (fun q => by rw [w3] at q; cases q) w4 w5 hsel0 hselF g1 (fun q => absurd gB (by rw [q]; exact Nat.not_lt.mpr hBL)) g2 g3 g4
    (tk _ _ (by rw [eC]; exact szk 0 (by decide)) tyC (by rw [Y.causeType]; rfl)) (tk _ _ (by rw [eS]; exact szk 1 (by decide)) tyS (by rw [Y.stackType]; exact fits_refV_array _ u0)) (tk _ _ (by rw [eP]; exact szk 2 (by decide)) tyP (by rw [Y.suppType]; exact fits_refV_object _ sen)) Y.objLocals hskip htr [] (by rw [X.2.1]; exact hd)
    (by rw [List.length_cons, hlen1]; show 1 + 1 + 2 < d + 64; omega) (by
      rw [List.length_cons, hlen1]
      have q : 2 * 0 + ((st.map (z_cv Γ)).map fun v => v.category).sum + (13 * (1 + 1) + 41) ≤ 64 * d + 20000 := by omega
      exact q)
  have hltH : z_ad Γ L < T'.heap.size := (Array.getElem?_eq_some_iff.mp w1).1
  have hR' : z_Rl Γ (z_mk h L) (T'.heap.setIfInBounds (z_ad Γ L) ((preparedCellV T.toThrowableT w (z_ad Γ L) u0 sen).setSlot T.fStack.slot u0.v)) := by
    refine z_Rl.setT hK.1 hR hLo hlt rfl (fun b hb => if_neg hb) (fun b ty j hb => z_mk_o ty hb) (by simp) (fun q hq => by simp [Array.getElem?_setIfInBounds, Ne.symm hq]) ?_
    unfold z_ce
    rw [show z_T (z_mk h L) L = some (.inr (.float, 1)) from if_pos rfl]
    refine ⟨(preparedCellV T.toThrowableT w (z_ad Γ L) u0 sen).setSlot T.fStack.slot u0.v, by simp [Array.getElem?_setIfInBounds, hltH], w2, w3, ?_⟩
    have b0 : w.slots[Γ.1.2 15 6]? = some (.int 0) := w7 6 (by decide)
    have n1 : Γ.1.2 15 6 ≠ T.fCause.slot := by rw [eC]; exact ap (by decide) (by decide) (by decide)
    have n2 : Γ.1.2 15 6 ≠ T.fStack.slot := by rw [eS]; exact ap (by decide) (by decide) (by decide)
    have n3 : Γ.1.2 15 6 ≠ T.fSupp.slot := by rw [eP]; exact ap (by decide) (by decide) (by decide)
    rw [show z_I (z_mk h L) L 6 = 0 from if_pos ⟨rfl, rfl⟩]
    simpa [preparedCellV, Cell.setSlot, Array.getElem?_setIfInBounds, n1, n2, n3, n1.symm, n2.symm, n3.symm] using b0
  obtain ⟨t, a1, b1⟩ := kk p l e s m args below meth c _ _ la X hR' (fun q hq => by
      rcases List.mem_append.mp hq with h | h
      · exact hL q h
      · have hb : q.base = z_ad Γ L := by
          simp only [List.mem_cons, List.not_mem_nil, or_false] at h
          rcases h with rfl | rfl | rfl | rfl <;> rfl
        rw [hb]; exact hBL) hl _ rfl X₂
  exact ⟨t, st1 t (fun acts => by rw [doInvoke_state]; have := st2 t a1; rw [doInvoke_state] at this; exact this), b1⟩
end ZOFS
