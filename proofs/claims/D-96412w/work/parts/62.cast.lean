/-! CASTS that succeed -/
section ZCAST
variable {Γ : z_W} {M : z_M} {rm : Room} {Q : Outcome → z_H → Prop} {cs ss pc : Nat} {ls : List (Option Value)} {rest : List Value} {h : z_H}
theorem z_castY {b c idx : Nat} {C nm : String} {q : vw_C} (hl : Cond.classLink M.1.cls idx nm ∈ lw_all) (hw : Cond.castable C nm ∈ lw_tbl) (hq : z_cl[c]? = some q) (hC : q.1 = C) (hb : z_T h b = some (.inl c)) (hd : decode M.2.1 pc = .ok (.checkcast idx, 3)) (k : z_G Γ M rm Q cs ss (pc + 3) ls (.ref b :: rest) h) : z_G Γ M rm Q cs ss pc ls (.ref b :: rest) h := by
  intro p l e s m args below meth c0 H locs la X hR hL hla
  have hK := X.2.2.2.2.2.2.2.2.2
  refine va_castY X.1 X.2.1 X.2.2.2.2.1 (X.2.2.2.2.2.1 _ hl) (hK.2.2.2.1 _ hw rfl) ?_ hd (k p l e s m args below meth c0 H locs la X hR hL hla)
  rw [← hC]
  exact z_rcv hK hR hb hq
theorem z_castS {b c idx : Nat} {nm : String} {q : vw_C} (hl : Cond.classLink M.1.cls idx nm ∈ lw_all) (hq : z_cl[c]? = some q) (hC : q.1 = nm) (hb : z_T h b = some (.inl c)) (hd : decode M.2.1 pc = .ok (.checkcast idx, 3)) (k : z_G Γ M rm Q cs ss (pc + 3) ls (.ref b :: rest) h) : z_G Γ M rm Q cs ss pc ls (.ref b :: rest) h := by
  intro p l e s m args below meth c0 H locs la X hR hL hla
  have hK := X.2.2.2.2.2.2.2.2.2
  refine va_castS (cC := Γ.1.1 c) X.1 X.2.1 X.2.2.2.2.1 (X.2.2.2.2.2.1 _ hl) (by rw [← hC]; exact (hK.2.1 c q hq).2) ?_ hd (k p l e s m args below meth c0 H locs la X hR hL hla)
  rw [← hC]
  exact z_rcv hK hR hb hq
theorem z_castN {idx : Nat} (hd : decode M.2.1 pc = .ok (.checkcast idx, 3)) (k : z_G Γ M rm Q cs ss (pc + 3) ls (.null :: rest) h) : z_G Γ M rm Q cs ss pc ls (.null :: rest) h := by
  intro p l e s m args below meth c0 H locs la X hR hL hla
  exact lv_castN X.1 X.2.1 hd (k p l e s m args below meth c0 H locs la X hR hL hla)
end ZCAST
