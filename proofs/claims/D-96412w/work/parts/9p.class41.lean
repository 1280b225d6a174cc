/-! THE CLASS's READER: clause, air (printed by class41.py) -/
set_option maxRecDepth 20000
theorem a_cs_t {tx : Nat → Int32} {n p : Nat} {c : Int32} (hc : a_cr tx n p = c) (hw : ¬ 2 ≤ a_hw c) : a_cs tx n p = a_bd (a_td tx n (a_hl c) p) fun y => .inr (y.1, a_hw c, y.2.1, y.2.2) := by
  unfold a_cs a_td
  rw [hc]
  cases a_wd tx n (a_hl c) p with
  | inl e => rfl
  | inr b =>
    show a_bd (a_nm tx n b) _ = a_bd (a_bd (a_nm tx n b) _) _
    cases a_nm tx n b with
    | inl e => rfl
    | inr r =>
      show (if 2 ≤ a_hw c then _ else _) = a_bd (if a_cr tx n r.1 = 32 then _ else _) _
      rw [if_neg hw]
      by_cases q : a_cr tx n r.1 = 32
      · rw [if_pos q, if_pos q]
        cases a_E tx n (r.1 + 1) with
        | inl e => rfl
        | inr z => rfl
      · rw [if_neg q, if_neg q]
        rfl
theorem a_cs_l {tx : Nat → Int32} {n p : Nat} {c : Int32} (hc : a_cr tx n p = c) (hw : 2 ≤ a_hw c) : a_cs tx n p = a_bd (a_tl tx n (a_hl c) p) fun r => .inr (r.1, a_hw c, r.2, []) := by
  unfold a_cs a_tl
  rw [hc]
  cases a_wd tx n (a_hl c) p with
  | inl e => rfl
  | inr b =>
    show a_bd (a_nm tx n b) _ = a_bd (a_nm tx n b) _
    cases a_nm tx n b with
    | inl e => rfl
    | inr r =>
      show (if 2 ≤ a_hw c then _ else _) = _
      rw [if_pos hw]
      rfl
/-- the class's words -/
def z_Wd (h : z_H) : Prop := z_Sx h 3 4 [117, 112, 32] ∧ z_Sx h 5 6 [100, 111, 119, 110, 32] ∧ z_Sx h 7 8 [98, 97, 115, 101, 32] ∧ z_Sx h 9 10 [115, 97, 102, 101, 32]
def z_rK (h0 : z_H) (tx : Nat → Int32) (n : Nat) (cls : List a_Cl) : Nat ⊕ (Nat × a_Cl) → Outcome → z_H → Prop
  | .inl e => z_rO h0 e
  | .inr y => fun o h' => o = .returned none ∧ z_SA h0 h' tx n y.1 (cls ++ [y.2])
theorem k_X14_clause_end {Γ : z_W} {h0 h : z_H} {n b cs ss : Nat} {tx : Nat → Int32} {rm : Room} {cls : List a_Cl} {x : a_Cl} {bs sf : Int32} (hB : z_SB h0 h tx n b (nI cls.length) bs sf (cls ++ [x])) (hbs : bs = a_la 2 40 (cls ++ [x])) (hsf : sf = a_la 3 8 (cls ++ [x])) (h1 : cs ≤ rm.cells) (h2 : ss ≤ rm.slots) : z_G Γ M_X14_clause rm (z_rK h0 tx n cls (.inr (b, x))) cs ss 105 [some (.ref (z_n h0))] [] h := by
  have hr := hB.2.1
  obtain ⟨s1, s2, s3, s4, s5, s6, s7, -⟩ := id hB
  have hn0 : 85 ≤ z_n h0 := hr.2.1
  refine z_aload_n dX14_clause_105 rfl rfl ?_
  refine z_getR (z_n h0 + 1) dX14_clause_106 fl_X14_12_14 hr.2.2.2.1 rfl hr.2.2.2.2.2.2.2.2.2.2.2.1 ?_
  refine z_dup dX14_clause_109 rfl ?_
  refine z_getI dX14_clause_110 fl_X14_136_2 s3 rfl ?_
  refine z_eqi (nI cls.length) s4 ?_
  refine z_iconst (v := 1) dX14_clause_113 rfl ?_
  refine z_iadd dX14_clause_114 ?_
  refine z_eqi (nI (cls ++ [x]).length) (by rw [List.length_append, List.length_singleton, nI_succ]) ?_
  refine z_putI dX14_clause_115 (pl_X14_136_2 rfl) s3 (Nat.le_trans (by decide) (Nat.le_succ_of_le hn0)) rfl ?_
  refine z_vret dX14_clause_118 rfl h1 h2 ?_
  refine ⟨rfl, ?_⟩
  unfold z_SA
  exact hB.sI 1 _ (Or.inl ⟨rfl, rfl, hbs.symm, hsf.symm⟩)
/-- a clause that the class only notes -/
theorem z_SB.nw {h0 h : z_H} {tx : Nat → Int32} {n p : Nat} {m bs sf : Int32} {cls : List a_Cl} {x : a_Cl} (hs : z_SB h0 h tx n p m bs sf cls) (hx : 2 ≤ x.1) : z_SB h0 h tx n p m bs sf (cls ++ [x]) := by
  obtain ⟨s1, s2, s3, s4, s5, s6, s7, Ar, N, ids, Cs, s8, s9, s10, s11, s12, s13⟩ := hs
  exact ⟨s1, s2, s3, s4, s5, s6, s7, Ar, N, ids, Cs, s8, s9, s10, by rw [List.length_append]; omega, a_tc_n hx cls Cs s12, s13⟩
theorem c_X14_clause {Γ : z_W} {h0 h : z_H} {n p : Nat} {tx : Nat → Int32} {cls : List a_Cl} (hW : z_Wd h0) (hA : z_SA h0 h tx n p cls) (hcl : cls.length < 33) : z_C Γ M_X14_clause (z_rm 24 (a_kc p (a_cs tx n p)) (33 * a_kc p (a_cs tx n p))) [.ref (z_n h0)] h (z_rK h0 tx n cls (a_cs tx n p)) := by
  have hB : z_SB h0 h tx n p (nI cls.length) (a_la 2 40 cls) (a_la 3 8 cls) cls := hA
  have hr := hB.2.1
  have hn0 : 85 ≤ z_n h0 := hr.2.1
  refine z_C.of (by decide +kernel) rfl [some (.ref (z_n h0))] (Nat.le_of_ble_eq_true rfl) rfl ?_
  refine z_aload_n dX14_clause_0 rfl rfl ?_
  refine z_vcall vl_X14_34_14 (c_X14_here hr) dX14_clause_1 rfl rfl hr.2.2.2.1 (z_rq (by decide) (by decide)) (Nat.le_of_ble_eq_true rfl) (Nat.zero_le _) (Nat.zero_le _) (z_cI ?_) z_tI
  refine z_wid 0 0 (Nat.le_refl _) (Nat.le_refl _) ?_
  by_cases e4_0 : a_cr tx n p = 98
  · refine z_lookup 68 dX14_clause_4 (by decide) (by rw [e4_0]; try rfl) (by decide) ?_
    refine z_aload_n dX14_clause_68 rfl rfl ?_
    refine z_getR (z_n h0 + 1) dX14_clause_69 fl_X14_12_14 hr.2.2.2.1 rfl hr.2.2.2.2.2.2.2.2.2.2.2.1 ?_
    refine z_aload_n dX14_clause_72 rfl rfl ?_
    refine z_ldcT (q := 7) dX14_clause_73 rfl (by decide) q986 ?_
    have eX : a_cs tx n p = a_bd (a_tl tx n [98, 97, 115, 101, 32] p) fun r => .inr (r.1, 2, r.2, []) := a_cs_l e4_0 (by decide)
    rw [eX]
    have hwl : ∀ b, a_wd tx n [98, 97, 115, 101, 32] p = .inr b → b = p + 5 ∧ b ≤ n := fun b hb => a_wd_b [98, 97, 115, 101, 32] p hr.2.2.2.2.2.2.2.2.1 (by decide) hb
    have CC := c_X14_told (Γ := Γ) hr (by decide : 7 < 16) (by decide : 8 < 16) (ws := [98, 97, 115, 101, 32]) (by decide) (hW.2.2.1.gr hB.1 (by decide) (by decide) hn0)
    cases hX : a_tl tx n [98, 97, 115, 101, 32] p with
    | inl e =>
      rw [hX] at CC
      refine z_vcall vl_X14_124_14 CC dX14_clause_75 rfl rfl hr.2.2.2.1 (z_rq (by decide) (by decide)) (Nat.le_of_ble_eq_true rfl) (by show 0 + 2 ≤ 4 * (e - p) + 3; omega) (by show 0 + 14 ≤ 33 * (4 * (e - p) + 3); omega) (fun v h1 q => ?_) (fun y h1 q => ?_)
      · obtain ⟨y, q1, -⟩ := q
        cases q1
      · exact z_thOut (by decide) (by show 0 + 2 ≤ 4 * (e - p) + 3; omega) (by show 0 + 14 ≤ 33 * (4 * (e - p) + 3); omega) (z_rT.gr hB.1 q)
    | inr y =>
      obtain ⟨b, v⟩ := y
      have hb : p + 6 ≤ b ∧ b ≤ n := by
        unfold a_tl at hX
        cases hwd : a_wd tx n [98, 97, 115, 101, 32] p with
        | inl e => rw [hwd] at hX; cases hX
        | inr b1 =>
          rw [hwd] at hX
          have h1 := hwl b1 hwd
          have h2 := a_nm_b (show a_nm tx n b1 = .inr (b, v) from hX)
          omega
      rw [hX] at CC
      refine z_vcall vl_X14_124_14 CC dX14_clause_75 rfl rfl hr.2.2.2.1 (z_rq (by decide) (by decide)) (Nat.le_of_ble_eq_true rfl) (by show 0 + 2 ≤ 4 * (b - p); omega) (by show 0 + 14 ≤ 33 * (4 * (b - p)); omega) (fun v h1 q => ?_) (fun y h1 q => ?_)
      · obtain ⟨q1, q2, q3, q4⟩ := q
        cases q1
        have hB1 := hB.pg q2 q3 q4 hb.2
        refine z_putI dX14_clause_78 (pl_X14_128_2 rfl) hB1.2.2.1 (Nat.le_trans (by decide) (Nat.le_succ_of_le hn0)) rfl ?_
        refine z_goto 105 dX14_clause_81 (by decide) ?_
        have hB2 := hB1.sI (m' := nI cls.length) (bs' := a_la 2 40 (cls ++ [(2, v, [])])) (sf' := a_la 3 8 (cls ++ [(2, v, [])])) 2 v (Or.inr (Or.inl ⟨rfl, rfl, by rw [a_la_app]; exact if_pos rfl, by rw [a_la_app]; exact if_neg (show ¬ ((2 : Int32) = 3) by decide)⟩))
        exact k_X14_clause_end (hB2.nw (show (2 : Int32) ≤ 2 by decide)) rfl rfl (by show 0 + 2 ≤ 4 * (b - p); omega) (by show 0 + 14 ≤ 33 * (4 * (b - p)); omega)
      · cases q.1
  by_cases e4_1 : a_cr tx n p = 100
  · refine z_lookup 58 dX14_clause_4 (by decide) (by rw [e4_1]; try rfl) (by decide) ?_
    refine z_aload_n dX14_clause_58 rfl rfl ?_
    refine z_ldcT (q := 5) dX14_clause_59 rfl (by decide) q985 ?_
    refine z_iconst (v := (-1)) dX14_clause_61 rfl ?_
    have eX : a_cs tx n p = a_bd (a_td tx n [100, 111, 119, 110, 32] p) fun y => .inr (y.1, 1, y.2.1, y.2.2) := a_cs_t e4_1 (by decide)
    rw [eX]
    have CC := c_X14_tested (Γ := Γ) (k := (-1)) (w := 1) hB (by decide : 5 < 16) (by decide : 6 < 16) (ws := [100, 111, 119, 110, 32]) (by decide) (by decide) (hW.2.1.gr hB.1 (by decide) (by decide) hn0) (by omega) (Or.inr ⟨rfl, rfl⟩)
    cases hX : a_td tx n [100, 111, 119, 110, 32] p with
    | inl e =>
      rw [hX] at CC
      refine z_vcall vl_X14_116_14 CC dX14_clause_62 rfl rfl hr.2.2.2.1 (z_rq (by decide) (by decide)) (Nat.le_of_ble_eq_true rfl) (by show 0 + (4 * (e - p) + 3) ≤ 4 * (e - p) + 3; omega) (by show 0 + 33 * (4 * (e - p) + 3) ≤ 33 * (4 * (e - p) + 3); omega) (fun v h1 q => ?_) (fun y h1 q => ?_)
      · obtain ⟨y, q1, -⟩ := q
        cases q1
      · exact z_thOut (by decide) (by show 0 + (4 * (e - p) + 3) ≤ 4 * (e - p) + 3; omega) (by show 0 + 33 * (4 * (e - p) + 3) ≤ 33 * (4 * (e - p) + 3); omega) q
    | inr y =>
      obtain ⟨b, v, S⟩ := y
      rw [hX] at CC
      refine z_vcall vl_X14_116_14 CC dX14_clause_62 rfl rfl hr.2.2.2.1 (z_rq (by decide) (by decide)) (Nat.le_of_ble_eq_true rfl) (by show 0 + 4 * (b - p) ≤ 4 * (b - p); omega) (by show 0 + 33 * (4 * (b - p)) ≤ 33 * (4 * (b - p)); omega) (fun v h1 q => ?_) (fun y h1 q => ?_)
      · obtain ⟨q1, q2⟩ := q
        cases q1
        refine z_goto 105 dX14_clause_65 (by decide) ?_
        exact k_X14_clause_end q2 (by rw [a_la_app]; exact (if_neg (show ¬ ((1 : Int32) = 2) by decide)).symm) (by rw [a_la_app]; exact (if_neg (show ¬ ((1 : Int32) = 3) by decide)).symm) (by show 0 + 4 * (b - p) ≤ 4 * (b - p); omega) (by show 0 + 33 * (4 * (b - p)) ≤ 33 * (4 * (b - p)); omega)
      · cases q.1
  by_cases e4_2 : a_cr tx n p = 115
  · refine z_lookup 84 dX14_clause_4 (by decide) (by rw [e4_2]; try rfl) (by decide) ?_
    refine z_aload_n dX14_clause_84 rfl rfl ?_
    refine z_getR (z_n h0 + 1) dX14_clause_85 fl_X14_12_14 hr.2.2.2.1 rfl hr.2.2.2.2.2.2.2.2.2.2.2.1 ?_
    refine z_aload_n dX14_clause_88 rfl rfl ?_
    refine z_ldcT (q := 9) dX14_clause_89 rfl (by decide) q991 ?_
    have eX : a_cs tx n p = a_bd (a_tl tx n [115, 97, 102, 101, 32] p) fun r => .inr (r.1, 3, r.2, []) := a_cs_l e4_2 (by decide)
    rw [eX]
    have hwl : ∀ b, a_wd tx n [115, 97, 102, 101, 32] p = .inr b → b = p + 5 ∧ b ≤ n := fun b hb => a_wd_b [115, 97, 102, 101, 32] p hr.2.2.2.2.2.2.2.2.1 (by decide) hb
    have CC := c_X14_told (Γ := Γ) hr (by decide : 9 < 16) (by decide : 10 < 16) (ws := [115, 97, 102, 101, 32]) (by decide) (hW.2.2.2.gr hB.1 (by decide) (by decide) hn0)
    cases hX : a_tl tx n [115, 97, 102, 101, 32] p with
    | inl e =>
      rw [hX] at CC
      refine z_vcall vl_X14_124_14 CC dX14_clause_91 rfl rfl hr.2.2.2.1 (z_rq (by decide) (by decide)) (Nat.le_of_ble_eq_true rfl) (by show 0 + 2 ≤ 4 * (e - p) + 3; omega) (by show 0 + 14 ≤ 33 * (4 * (e - p) + 3); omega) (fun v h1 q => ?_) (fun y h1 q => ?_)
      · obtain ⟨y, q1, -⟩ := q
        cases q1
      · exact z_thOut (by decide) (by show 0 + 2 ≤ 4 * (e - p) + 3; omega) (by show 0 + 14 ≤ 33 * (4 * (e - p) + 3); omega) (z_rT.gr hB.1 q)
    | inr y =>
      obtain ⟨b, v⟩ := y
      have hb : p + 6 ≤ b ∧ b ≤ n := by
        unfold a_tl at hX
        cases hwd : a_wd tx n [115, 97, 102, 101, 32] p with
        | inl e => rw [hwd] at hX; cases hX
        | inr b1 =>
          rw [hwd] at hX
          have h1 := hwl b1 hwd
          have h2 := a_nm_b (show a_nm tx n b1 = .inr (b, v) from hX)
          omega
      rw [hX] at CC
      refine z_vcall vl_X14_124_14 CC dX14_clause_91 rfl rfl hr.2.2.2.1 (z_rq (by decide) (by decide)) (Nat.le_of_ble_eq_true rfl) (by show 0 + 2 ≤ 4 * (b - p); omega) (by show 0 + 14 ≤ 33 * (4 * (b - p)); omega) (fun v h1 q => ?_) (fun y h1 q => ?_)
      · obtain ⟨q1, q2, q3, q4⟩ := q
        cases q1
        have hB1 := hB.pg q2 q3 q4 hb.2
        refine z_putI dX14_clause_94 (pl_X14_133_2 rfl) hB1.2.2.1 (Nat.le_trans (by decide) (Nat.le_succ_of_le hn0)) rfl ?_
        refine z_goto 105 dX14_clause_97 (by decide) ?_
        have hB2 := hB1.sI (m' := nI cls.length) (bs' := a_la 2 40 (cls ++ [(3, v, [])])) (sf' := a_la 3 8 (cls ++ [(3, v, [])])) 3 v (Or.inr (Or.inr ⟨rfl, rfl, by rw [a_la_app]; exact if_neg (show ¬ ((3 : Int32) = 2) by decide), by rw [a_la_app]; exact if_pos rfl⟩))
        exact k_X14_clause_end (hB2.nw (show (2 : Int32) ≤ 3 by decide)) rfl rfl (by show 0 + 2 ≤ 4 * (b - p); omega) (by show 0 + 14 ≤ 33 * (4 * (b - p)); omega)
      · cases q.1
  by_cases e4_3 : a_cr tx n p = 117
  · refine z_lookup 48 dX14_clause_4 (by decide) (by rw [e4_3]; try rfl) (by decide) ?_
    refine z_aload_n dX14_clause_48 rfl rfl ?_
    refine z_ldcT (q := 3) dX14_clause_49 rfl (by decide) q686 ?_
    refine z_iconst (v := 1) dX14_clause_51 rfl ?_
    have eX : a_cs tx n p = a_bd (a_td tx n [117, 112, 32] p) fun y => .inr (y.1, 0, y.2.1, y.2.2) := a_cs_t e4_3 (by decide)
    rw [eX]
    have CC := c_X14_tested (Γ := Γ) (k := 1) (w := 0) hB (by decide : 3 < 16) (by decide : 4 < 16) (ws := [117, 112, 32]) (by decide) (by decide) (hW.1.gr hB.1 (by decide) (by decide) hn0) (by omega) (Or.inl ⟨rfl, rfl⟩)
    cases hX : a_td tx n [117, 112, 32] p with
    | inl e =>
      rw [hX] at CC
      refine z_vcall vl_X14_116_14 CC dX14_clause_52 rfl rfl hr.2.2.2.1 (z_rq (by decide) (by decide)) (Nat.le_of_ble_eq_true rfl) (by show 0 + (4 * (e - p) + 3) ≤ 4 * (e - p) + 3; omega) (by show 0 + 33 * (4 * (e - p) + 3) ≤ 33 * (4 * (e - p) + 3); omega) (fun v h1 q => ?_) (fun y h1 q => ?_)
      · obtain ⟨y, q1, -⟩ := q
        cases q1
      · exact z_thOut (by decide) (by show 0 + (4 * (e - p) + 3) ≤ 4 * (e - p) + 3; omega) (by show 0 + 33 * (4 * (e - p) + 3) ≤ 33 * (4 * (e - p) + 3); omega) q
    | inr y =>
      obtain ⟨b, v, S⟩ := y
      rw [hX] at CC
      refine z_vcall vl_X14_116_14 CC dX14_clause_52 rfl rfl hr.2.2.2.1 (z_rq (by decide) (by decide)) (Nat.le_of_ble_eq_true rfl) (by show 0 + 4 * (b - p) ≤ 4 * (b - p); omega) (by show 0 + 33 * (4 * (b - p)) ≤ 33 * (4 * (b - p)); omega) (fun v h1 q => ?_) (fun y h1 q => ?_)
      · obtain ⟨q1, q2⟩ := q
        cases q1
        refine z_goto 105 dX14_clause_55 (by decide) ?_
        exact k_X14_clause_end q2 (by rw [a_la_app]; exact (if_neg (show ¬ ((0 : Int32) = 2) by decide)).symm) (by rw [a_la_app]; exact (if_neg (show ¬ ((0 : Int32) = 3) by decide)).symm) (by show 0 + 4 * (b - p) ≤ 4 * (b - p); omega) (by show 0 + 33 * (4 * (b - p)) ≤ 33 * (4 * (b - p)); omega)
      · cases q.1
  refine z_lookup (off := 96) 100 dX14_clause_4 (by decide) ((((if_neg (z_lkn (v := 98) rfl e4_0)).trans (if_neg (z_lkn (v := 100) rfl e4_1))).trans (if_neg (z_lkn (v := 115) rfl e4_2))).trans (if_neg (z_lkn (v := 117) rfl e4_3))) (by decide) ?_
  have eX : a_cs tx n p = .inl p := by
    unfold a_cs a_hl
    rw [if_neg e4_0, if_neg e4_1, if_neg e4_3]
    unfold a_wd
    rw [if_neg e4_2]
    rfl
  rw [eX]
  refine z_aload_n dX14_clause_100 rfl rfl ?_
  refine z_vcall vl_X14_38_14 (c_X14_off hr) dX14_clause_101 rfl rfl hr.2.2.2.1 (z_rq (by decide) (by decide)) (Nat.le_of_ble_eq_true rfl) (by show 0 + 1 ≤ 4 * (p - p) + 3; omega) (by show 0 + 7 ≤ 33 * (4 * (p - p) + 3); omega) (z_cR ?_) z_tR
  refine z_athrow dX14_clause_104 ?_
  exact z_thOut (by decide) (by show 0 + 1 ≤ 4 * (p - p) + 3; omega) (by show 0 + 7 ≤ 33 * (4 * (p - p) + 3); omega) ⟨_, rfl, hB.1.trans (z_gr.off h _), z_off_T h _, z_off_I h _⟩
