/-! THROWING AND CATCHING in the judgement (by hand). -/
/-- an exception and its class -/
def z_Xo (h : z_H) (x : Nat) (C : String) : Prop := (z_T h x = some (.inr (.float, 1)) ∧ C = RX15) ∨ ∃ n, n < 5 ∧ z_T h x = some (.inr (.float, n + 2)) ∧ C = z_xn n
theorem z_Xo.cell {Γ : z_W} {l : Launch} {s : State} {h : z_H} {H : Heap} {x : Nat} {C : String} (hX : z_Xo h x C) (hK : z_K Γ l s) (hR : z_Rl Γ h H) : ∃ w : Cell, H[z_ad Γ x]? = some w ∧ w.vm = .none ∧ s.vm.findClass C = some w.cls := by
  rcases hX with ⟨h1, rfl⟩ | ⟨n, hn, h1, rfl⟩
  · have h2 := hR.1 x (z_lt hR h1)
    unfold z_ce at h2
    rw [h1] at h2
    obtain ⟨w, w1, w2, w3, -⟩ : z_fo Γ h H x 1 := h2
    exact ⟨w, w1, w3, by rw [w2]; exact (hK.2.1 15 (RX15, TX15, 7) rfl).2.1⟩
  · have h2 := hR.1 x (z_lt hR h1)
    unfold z_ce at h2
    rw [h1] at h2
    have h3 : z_fo Γ h H x (n + 2) := h2
    rcases h3 with ⟨-, w, w1, w2, w3⟩ | ⟨q, -⟩
    · exact ⟨w, w1, w3, by rw [w2]; exact hK.2.2.2.2.2.2.2.2.1 n hn⟩
    · omega
section ZPL
variable {Γ : z_W} {M : z_M} {rm : Room} {Q : Outcome → z_H → Prop} {cs ss pc : Nat} {ls : List (Option Value)} {st : List Value} {h : z_H}
theorem z_offC {H : Heap} {a : Nat} (hR : z_Rl Γ h H) (ht : z_T h a = some (.inr (.float, 1))) : ∃ w : Cell, H[z_ad Γ a]? = some w ∧ w.cls = Γ.1.1 15 ∧ w.vm = .none ∧ w.slots[Γ.1.2 15 6]? = some (.int (z_I h a 6)) := by
  have h2 := hR.1 a (z_lt hR ht)
  unfold z_ce at h2
  rw [ht] at h2
  exact h2
theorem z_getPl {a idx : Nat} (hd : decode M.2.1 pc = .ok (.getfield idx, 3)) (hF : z_Fl M.1.cls idx 15 6) (ht : z_T h a = some (.inr (.float, 1))) (kk : z_G Γ M rm Q cs ss (pc + 3) ls (.int (z_I h a 6) :: st) h) : z_G Γ M rm Q cs ss pc ls (.ref a :: st) h := by
  intro p l e s m args below meth cd H locs la X hR hL hl
  obtain ⟨q, ref, hq, hk, hlink, hsame⟩ := hF
  cases hq
  obtain ⟨hin, hty, hnm⟩ := z_clf 15 (RX15, TX15, 7) rfl
  have hK := X.2.2.2.2.2.2.2.2.2
  have hts := X.2.2.2.2.2.1
  obtain ⟨w, q1, q2, q3, q4⟩ := z_offC hR ht
  obtain ⟨hS, hfc, kC, hkC, hkind⟩ := hK.2.1 15 (RX15, TX15, 7) rfl
  obtain ⟨cf, kf, fi, f, hi, hsl⟩ := hS 6 hk
  have hst := (u_facts hfc hkC (u_lays hts hin hk) hi).1
  have hi' : s.fieldFound? ref (TX15 6).2.1 (TX15 6).2.2.1 = some (cf, kf, fi, f) := by
    rcases hsame with e | hs
    · rw [e]; exact hi
    · exact u_same (hts _ hs) _ hi
  have hslot : w.slots[f.slot]? = some (.int (z_I h a 6)) := by rw [hsl]; exact q4
  have hkn : w.vm ≠ .unknown := by rw [q3]; exact fun h => by cases h
  rcases hlink with hl1 | ⟨host, hl1⟩
  · exact W.getf X.1 X.2.1 X.2.2.2.2.1 (hts _ hl1) hi' hst q1 hkn hslot rfl rfl hd (kk p l e s m args below meth cd H locs la X hR hL hl)
  · exact va_Wgetf X.1 X.2.1 X.2.2.2.2.1 (va_Nw.use rfl (hK.2.2.2.1 _ hl1 rfl)) hi' hst q1 hkn hslot rfl rfl hd (kk p l e s m args below meth cd H locs la X hR hL hl)
theorem z_putPl {a idx : Nat} {x : Int32} (hd : decode M.2.1 pc = .ok (.putfield idx, 3)) (hF : z_Pl M.1 idx 15 6) (ht : z_T h a = some (.inr (.float, 1))) (ha : z_o ≤ a) (kk : z_G Γ M rm Q cs ss (pc + 3) ls st (z_sI h a 6 x)) : z_G Γ M rm Q cs ss pc ls (.int x :: .ref a :: st) h := by
  intro p l e s m args below meth cd H locs la X hR hL hl
  obtain ⟨⟨q, ref, hq, hk, hlink, hsame⟩, hfin⟩ := hF
  cases hq
  obtain ⟨hin, hty, hnm⟩ := z_clf 15 (RX15, TX15, 7) rfl
  have hK := X.2.2.2.2.2.2.2.2.2
  have hts := X.2.2.2.2.2.1
  obtain ⟨w, q1, q2, q3, q4⟩ := z_offC hR ht
  obtain ⟨hS, hfc, kC, hkC, hkind⟩ := hK.2.1 15 (RX15, TX15, 7) rfl
  obtain ⟨cf, kf, fi, f, hi, hsl⟩ := hS 6 hk
  have hst := (u_facts hfc hkC (u_lays hts hin hk) hi).1
  have hlay := hts _ (hin _ (u_in_lay hk))
  unfold u_lay at hlay
  have hlt : f.slot < w.slots.size := by rw [hsl]; exact k2_hasslot q4
  have fin : ∀ H' : Heap, H'[z_ad Γ a]? = some (w.setSlot f.slot (.int x)) → H'.size = H.size → (∀ y, y ≠ z_ad Γ a → H'[y]? = H[y]?) → W p l e rm s m args below meth cd H' (locs ++ [⟨z_ad Γ a, f.slot⟩]) cs ss (z_MQ Γ Q rm below s) (F0 m (pc + 3) la (st.map (z_cv Γ))) := by
    intro H' e1 e2 e3
    refine kk p l e s m args below meth cd H' _ la X (z_Rl.set hK.1 hR ha rfl (fun _ => rfl) (fun b ty j hne => z_vt_sI _ (Or.inl hne)) e2 e3 ?_) (z_locs hK.1 hL ha) hl
    unfold z_ce
    rw [show z_T (z_sI h a 6 x) a = some (.inr (.float, 1)) from ht]
    refine ⟨w.setSlot f.slot (.int x), e1, q2, q3, ?_⟩
    rw [z_II, if_pos ⟨rfl, rfl⟩, ← hsl]
    simp [Cell.setSlot, Array.getElem?_setIfInBounds, hlt]
  rcases hfin _ rfl with hfi | ⟨⟨hfi, hin2, hdecl⟩, ref2, hlink2, hr2⟩
  · cases hfi
  · rw [if_pos hfi] at hlay
    have hcf : m.cls = cf := by
      obtain ⟨_, _, c', _, _, _, -, -, hf', -, -, -, hown2, -⟩ := Cond.laysFinal_spec hlay
      have e1 : c' = cf := by have := hi.symm.trans hf'; simp at this; exact this.1.symm
      rw [hdecl] at hown2
      rw [← e1]; exact Option.some.inj (X.2.2.2.2.1.symm.trans hown2)
    have h6 := u_fits (v := .int x) hfc hkC hkind (Or.inr hlay) hi (hty 6 hk) rfl rfl
    exact W.putFinK X.1 X.2.1 X.2.2.2.2.1 (hts _ hlink2) (hr2 ▸ hi) hst hcf (X.2.2.2.2.2.2.2.1.trans hin2) (by rw [q2]; exact h6) q1 q3 hlt rfl rfl hd fin
end ZPL
section ZTHR
variable {Γ : z_W} {M : z_M} {rm : Room} {Q : Outcome → z_H → Prop} {cs ss pc : Nat} {ls : List (Option Value)} {st : List Value} {h : z_H}
/-- out of the frame: no handler is there -/
theorem z_thOut {x : Nat} (hcov : ∀ y ∈ M.2.2.2.2, ¬ (y.1 ≤ pc ∧ pc < y.2.1)) (h1 : cs ≤ rm.cells) (h2 : ss ≤ rm.slots) (hq : Q (.threw x) h) : z_Th Γ M rm Q cs ss pc ls h x := by
  intro p l e s m args below meth c H locs la st X hR hL hl T hT S
  have hout : ∀ y ∈ c.exceptionTable.toList, covers y pc = false := fun y hy => by
    have h3 : (y.startPc, y.endPc, y.handlerPc, y.catchType) ∈ M.2.2.2.2 := by
      rw [← X.2.2.2.2.2.2.2.2.1]
      exact List.mem_map.mpr ⟨y, hy, rfl⟩
    have h4 : ¬ (y.startPc ≤ pc ∧ pc < y.endPc) := hcov _ h3
    simp only [covers, Bool.and_eq_false_iff, decide_eq_false_iff_not]
    omega
  obtain ⟨hwalk, hrun, hend, hwarm, hsame⟩ := S.leaveThrown (z_ad Γ x) (g := F0 m pc la st) rfl rfl rfl hout X.2.2.2.2.2.2.1
  refine ⟨_, hwalk, .threw x, hrun, hend, ⟨h, hq, ?_⟩, hwarm, locs, hsame.weaken (fun y hy _ => hy) h1 h2, hL⟩
  show z_Rl Γ h T.heap
  rw [hT]
  exact hR
theorem z_athrow {x : Nat} (hd : decode M.2.1 pc = .ok (.athrow, 1)) (kt : z_Th Γ M rm Q cs ss pc ls h x) : z_G Γ M rm Q cs ss pc ls (.ref x :: st) h := by
  intro p l e s m args below meth c H locs la X hR hL hl T hT S
  obtain ⟨t, a, b⟩ := kt p l e s m args below meth c H locs la (st.map (z_cv Γ)) X hR hL hl T hT S
  refine ⟨t, ?_, b⟩
  have hdc : decode c.code pc = .ok (.athrow, 1) := by rw [X.2.1]; exact hd
  have hst : (F0 m pc la ((Value.ref x :: st).map (z_cv Γ))).stack = .ref (z_ad Γ x) :: st.map (z_cv Γ) := rfl
  jvm_step S.here [X.1, hdc, athrow.wp_sem, hst]
  exact a
end ZTHR
