/-! THE REFERENCE: reading clauses and airs (printed by model23.py) -/
set_option maxRecDepth 20000
/-- a clause: where it ends, its word, number and signs -/
def a_cs (tx : Nat → Int32) (n a : Nat) : Nat ⊕ (Nat × Int32 × Int32 × List Int32) :=
  a_bd (match a_wd tx n (a_hl (a_cr tx n a)) a with | .inl p => .inl p | .inr b => .inr b) fun b => a_bd (a_nm tx n b) fun r =>
    if 2 ≤ a_hw (a_cr tx n a) then .inr (r.1, a_hw (a_cr tx n a), r.2, []) else if a_cr tx n r.1 = 32 then a_bd (a_E tx n (r.1 + 1)) fun q => .inr (q.1, a_hw (a_cr tx n a), r.2, q.2) else .inl r.1
def z_qc (h : z_H) (c s : Nat) (S : List Int32) (F : Nat → Nat → Int32) : Nat ⊕ (Nat × Int32 × Int32 × List Int32) → Outcome → z_H → Prop
  | .inl p => z_rp h 0 (fun F' => F' 49 14 = nI p ∧ z_fm (z_Rc c (s + S.length)) F F')
  | .inr (b, w, v, L) => z_rp h 1 (fun F' => F' 49 14 = nI b ∧ F' 49 24 = nI (s + (S ++ L).length) ∧ a_sg (F' 61) s (S ++ L) ∧ F' 57 c = w ∧ F' 58 c = v ∧ (¬ 2 ≤ w → F' 59 c = nI (s + S.length) ∧ F' 60 c = nI (s + (S ++ L).length)) ∧ z_fm (z_Rc c (s + S.length)) F F')
theorem a_nm_b {tx : Nat → Int32} {n a b : Nat} {v : Int32} (h : a_nm tx n a = .inr (b, v)) : a < b ∧ b ≤ n := by
  unfold a_nm at h
  split at h
  · rename_i c1
    have h1 := a_cr_d c1 (by decide)
    split at h
    · rename_i c2
      have h2 := a_cr_d c2 (by decide)
      simp only [Sum.inr.injEq, Prod.mk.injEq] at h
      omega
    · simp only [Sum.inr.injEq, Prod.mk.injEq] at h
      omega
  · cases h
theorem a_hl_n (c : Int32) : ∀ d, d ∈ a_hl c → ¬ (-1 : Int32) = d := by
  unfold a_hl
  split
  · decide
  · split
    · decide
    · split <;> decide
theorem a_E_b {tx : Nat → Int32} {n a b : Nat} {L : List Int32} (ha : a ≤ n) (h : a_E tx n a = .inr (b, L)) : a < b ∧ b ≤ n := by
  have := (a_run_ps (tx := tx) (n := n) (a := a) (g := n - a + 1) (f := 3 * n + 3) (S := []) (by omega) ha (by omega)).2 b L h
  exact ⟨this.1, this.2.1⟩
theorem c_X6_takesClause {Γ : z_W} {h : z_H} {F : Nat → Nat → Int32} {tx : Nat → Int32} {n a : Nat} {c s : Nat} {S : List Int32} (hF : z_F h) (ht : z_pt tx n F) (hn : a ≤ n) (ha : F 49 14 = nI a) (hc : c < 60) (hlt : z_ltr F) (hs5 : s ≤ 500) (hg : F 49 24 = nI (s + S.length)) (hsg : a_sg (F 61) s S) (hl : S.length ≤ a) : z_C Γ M_X6_takesClause (z_rm 6 0 0) [.ref 49, .int (nI c)] (z_ci h F) (z_qc h c s S F (a_cs tx n a)) := by
  refine z_C.of (by decide +kernel) rfl [some (.ref 49), some (.int (nI c))] (Nat.le_of_ble_eq_true rfl) rfl ?_
  refine z_aload_n dX6_takesClause_0 rfl rfl ?_
  refine z_iload_n dX6_takesClause_1 rfl rfl ?_
  have hCH := c_X6_takesHead (Γ := Γ) hF ht hn ha hc hlt
  unfold a_cs
  cases e1 : a_wd tx n (a_hl (a_cr tx n a)) a with
  | inl p =>
    rw [e1] at hCH
    refine z_vcall vl_X6_273_6 hCH dX6_takesClause_2 rfl rfl (hF.1 49 _ rfl) ⟨by decide, by decide⟩ (Nat.le_of_ble_eq_true rfl) (Nat.le_refl _) (Nat.le_refl _) (z_cJ (fun F2 q2 => ?_)) z_tJ
    refine z_if_eq 15 dX6_takesClause_5 (by decide) (fun _ => ?_) (fun q => absurd q (by decide))
    refine z_iconst (v := 0) dX6_takesClause_15 rfl ?_
    refine z_iret dX6_takesClause_16 rfl rfl (Nat.le_refl _) (Nat.le_refl _) ?_
    exact ⟨_, rfl, rfl, q2.1, z_fm.le q2.2 (fun a j q => q.elim Or.inl (fun r => Or.inr (Or.inr ⟨by omega, r.2⟩)))⟩
  | inr b =>
    rw [e1] at hCH
    refine z_vcall vl_X6_273_6 hCH dX6_takesClause_2 rfl rfl (hF.1 49 _ rfl) ⟨by decide, by decide⟩ (Nat.le_of_ble_eq_true rfl) (Nat.le_refl _) (Nat.le_refl _) (z_cJ (fun F2 q2 => ?_)) z_tJ
    have ht2 : z_pt tx n F2 := ht.fm q2.2.2 (by omega) (fun j => by omega)
    have hbb := a_wd_b _ _ hn (a_hl_n _) e1
    have hb := hbb.2
    simp only [a_bd]
    refine z_if_eq 15 dX6_takesClause_5 (by decide) (fun q => absurd q (by decide)) (fun _ => ?_)
    refine z_aload_n dX6_takesClause_8 rfl rfl ?_
    cases e2 : a_nm tx n b with
    | inl p =>
      have hp := a_nm_l e2
      subst hp
      refine z_vcall vl_X6_257_6 (c_X6_takesNumber_n hF ht2 hb q2.1 e2) dX6_takesClause_9 rfl rfl (hF.1 49 _ rfl) ⟨by decide, by decide⟩ (Nat.le_of_ble_eq_true rfl) (Nat.le_refl _) (Nat.le_refl _) (z_cI ?_) z_tI
      refine z_if_ne 17 dX6_takesClause_12 (by decide) (fun q => absurd q (by decide)) (fun _ => ?_)
      refine z_iconst (v := 0) dX6_takesClause_15 rfl ?_
      refine z_iret dX6_takesClause_16 rfl rfl (Nat.le_refl _) (Nat.le_refl _) ?_
      exact ⟨_, rfl, rfl, q2.1, z_fm.le q2.2.2 (fun a j q => q.elim Or.inl (fun r => Or.inr (Or.inr ⟨by omega, r.2⟩)))⟩
    | inr y =>
      obtain ⟨d, v⟩ := y
      have hdb := a_nm_b e2
      have hd := hdb.2
      refine z_vcall vl_X6_257_6 (c_X6_takesNumber_y hF ht2 hb q2.1 e2) dX6_takesClause_9 rfl rfl (hF.1 49 _ rfl) ⟨by decide, by decide⟩ (Nat.le_of_ble_eq_true rfl) (Nat.le_refl _) (Nat.le_refl _) (z_cJ (fun F9 q9 => ?_)) z_tJ
      have hw4 : z_u F9 58 c v 57 c = a_hw (a_cr tx n a) := (q9.2.2 57 c (fun q => absurd q.1 (by decide))).trans q2.2.1
      have hv4 : z_u F9 58 c v 58 c = v := by show (if 58 = 58 ∧ c = c then _ else _) = _; rw [if_pos ⟨rfl, rfl⟩]
      have hfr4 : z_fm (z_Rc c (s + S.length)) F (z_u F9 58 c v) := z_fm.u (z_fm.tr (z_fm.le q2.2.2 (R' := z_Rc c (s + S.length)) (fun a j q => q.elim Or.inl (fun r => Or.inr (Or.inr ⟨by omega, r.2⟩)))) q9.2.2 (fun a j q => Or.inl q)) (Or.inr (Or.inr ⟨by decide, rfl⟩))
      have ht4 : z_pt tx n (z_u F9 58 c v) := ht.fm hfr4 (by unfold z_Rc z_Rw; omega) (fun j => by unfold z_Rc z_Rw; omega)
      have hg4 : z_u F9 58 c v 49 24 = nI (s + S.length) := ((q9.2.2 49 24 (by decide)).trans (q2.2.2 49 24 (by omega))).trans hg
      have hsg4 : a_sg (z_u F9 58 c v 61) s S := a_sg_e hsg (fun j _ => (q9.2.2 61 j (fun q => absurd q.1 (by decide))).trans (q2.2.2 61 j (by omega)))
      simp only [a_bd]
      refine z_if_ne 17 dX6_takesClause_12 (by decide) (fun _ => ?_) (fun q => absurd q (by decide))
      refine z_aload_n dX6_takesClause_17 rfl rfl ?_
      refine z_getR 58 dX6_takesClause_18 fl_X6_68_6 (hF.1 49 _ rfl) rfl (hF.2.1 49 19 58 rfl) ?_
      refine z_iload_n dX6_takesClause_21 rfl rfl ?_
      refine z_aload_n dX6_takesClause_22 rfl rfl ?_
      refine z_getI dX6_takesClause_23 fl_X6_56_6 (hF.1 49 _ rfl) rfl ?_
      refine z_eqi (v) q9.2.1 ?_
      refine z_iast c dX6_takesClause_26 (hF.1 58 _ rfl) (by decide) rfl hc (by decide) ?_
      refine z_meq (z_ci h (z_u F9 58 c v)) rfl ?_
      refine z_aload_n dX6_takesClause_27 rfl rfl ?_
      refine z_getR 57 dX6_takesClause_28 fl_X6_65_6 (hF.1 49 _ rfl) rfl (hF.2.1 49 18 57 rfl) ?_
      refine z_iload_n dX6_takesClause_31 rfl rfl ?_
      refine z_iald c dX6_takesClause_32 (hF.1 57 _ rfl) rfl hc (by decide) ?_
      refine z_eqi (a_hw (a_cr tx n a)) hw4 ?_
      refine z_iconst (v := 2) dX6_takesClause_33 rfl ?_
      refine z_icmp_ge 54 dX6_takesClause_34 (by decide) (fun c34 => ?_) (fun c34 => ?_)
      · rw [if_pos c34]
        refine z_iconst (v := 1) dX6_takesClause_54 rfl ?_
        refine z_goto 59 dX6_takesClause_55 (by decide) ?_
        refine z_iret dX6_takesClause_59 rfl rfl (Nat.le_refl _) (Nat.le_refl _) ?_
        refine ⟨_, rfl, rfl, q9.1, ?_, ?_, hw4, hv4, fun q => absurd c34 q, hfr4⟩
        · rw [List.append_nil]; exact hg4
        · rw [List.append_nil]; exact hsg4
      · rw [if_neg c34]
        refine z_aload_n dX6_takesClause_37 rfl rfl ?_
        refine z_bipush (v := 32) dX6_takesClause_38 rfl ?_
        by_cases g40 : a_cr tx n d = 32
        · rw [if_pos g40]
          refine z_vcall vl_X6_242_6 (c_X6_takes_y hF ht4 hd q9.1 g40) dX6_takesClause_40 rfl rfl (hF.1 49 _ rfl) ⟨by decide, by decide⟩ (Nat.le_of_ble_eq_true rfl) (Nat.le_refl _) (Nat.le_refl _) (z_cI ?_) z_tI
          refine z_if_eq 58 dX6_takesClause_43 (by decide) (fun q => absurd q (by decide)) (fun _ => ?_)
          refine z_aload_n dX6_takesClause_46 rfl rfl ?_
          refine z_iload_n dX6_takesClause_47 rfl rfl ?_
          have hfr5 : z_fm (z_Rc c (s + S.length)) F (z_u (z_u F9 58 c v) 49 14 (nI (d + 1))) := hfr4.u (Or.inl ⟨rfl, by decide⟩)
          have hCE := c_X6_takesE (Γ := Γ) (h := h) (F := (z_u (z_u F9 58 c v) 49 14 (nI (d + 1)))) (tx := tx) (n := n) (a := d + 1) (c := c) (s := s) (S := S) hF ht4 (a_cr_in g40 (by decide)) rfl hc hs5 hg4 hsg4 (by omega)
          cases e3 : a_E tx n (d + 1) with
          | inl p =>
            rw [e3] at hCE
            refine z_vcall vl_X6_276_6 hCE dX6_takesClause_48 rfl rfl (hF.1 49 _ rfl) ⟨by decide, by decide⟩ (Nat.le_of_ble_eq_true rfl) (Nat.le_refl _) (Nat.le_refl _) (z_cJ (fun F48 q48 => ?_)) z_tJ
            refine z_if_eq 58 dX6_takesClause_51 (by decide) (fun _ => ?_) (fun q => absurd q (by decide))
            refine z_iconst (v := 0) dX6_takesClause_58 rfl ?_
            refine z_iret dX6_takesClause_59 rfl rfl (Nat.le_refl _) (Nat.le_refl _) ?_
            exact ⟨_, rfl, rfl, q48.1, hfr5.tr q48.2 (fun a j q => q)⟩
          | inr y =>
            obtain ⟨e, L⟩ := y
            rw [e3] at hCE
            refine z_vcall vl_X6_276_6 hCE dX6_takesClause_48 rfl rfl (hF.1 49 _ rfl) ⟨by decide, by decide⟩ (Nat.le_of_ble_eq_true rfl) (Nat.le_refl _) (Nat.le_refl _) (z_cJ (fun F48 q48 => ?_)) z_tJ
            refine z_if_eq 58 dX6_takesClause_51 (by decide) (fun q => absurd q (by decide)) (fun _ => ?_)
            refine z_iconst (v := 1) dX6_takesClause_54 rfl ?_
            refine z_goto 59 dX6_takesClause_55 (by decide) ?_
            refine z_iret dX6_takesClause_59 rfl rfl (Nat.le_refl _) (Nat.le_refl _) ?_
            exact ⟨_, rfl, rfl, q48.1, q48.2.1, q48.2.2.1, q48.2.2.2.1.trans hw4, q48.2.2.2.2.1.trans hv4, fun _ => ⟨q48.2.2.2.2.2.1, q48.2.2.2.2.2.2.1⟩, hfr5.tr q48.2.2.2.2.2.2.2 (fun a j q => q)⟩
        · rw [if_neg g40]
          refine z_vcall vl_X6_242_6 (c_X6_takes_n hF ht4 hd q9.1 g40) dX6_takesClause_40 rfl rfl (hF.1 49 _ rfl) ⟨by decide, by decide⟩ (Nat.le_of_ble_eq_true rfl) (Nat.le_refl _) (Nat.le_refl _) (z_cI ?_) z_tI
          refine z_if_eq 58 dX6_takesClause_43 (by decide) (fun _ => ?_) (fun q => absurd q (by decide))
          refine z_iconst (v := 0) dX6_takesClause_58 rfl ?_
          refine z_iret dX6_takesClause_59 rfl rfl (Nat.le_refl _) (Nat.le_refl _) ?_
          exact ⟨_, rfl, rfl, q9.1, hfr4⟩
theorem a_ps_len {tx : Nat → Int32} {n : Nat} : ∀ (f md d a b : Nat) (L : List Int32), a_ps tx n f md d a = .inr (b, L) → L.length + a ≤ b
  | 0, md, d, a, b, L, h => by cases h
  | f + 1, 0, d, a, b, L, h => by
    have ih := a_ps_len (tx := tx) (n := n) f
    have e : a_ps tx n (f + 1) 0 d a = if a_cr tx n a = 33 then (if d = 4 then .inl a else a_bd (a_ps tx n f 0 (d + 1) (a + 1)) fun r => .inr (r.1, r.2 ++ [-33]))
      else if a_cr tx n a = 40 then (if d = 4 then .inl a else a_bd (a_ps tx n f 2 (d + 1) (a + 1)) fun r => if a_cr tx n r.1 = 41 then .inr (r.1 + 1, r.2) else .inl r.1)
      else a_ts tx n a := rfl
    rw [e] at h
    split at h
    · split at h
      · cases h
      · obtain ⟨y, hy, h⟩ := a_bd_r h
        have := ih _ _ _ _ _ hy
        simp only [Sum.inr.injEq, Prod.mk.injEq] at h
        rw [← h.2, List.length_append, List.length_cons, List.length_nil]
        omega
    · split at h
      · split at h
        · cases h
        · obtain ⟨y, hy, h⟩ := a_bd_r h
          have := ih _ _ _ _ _ hy
          split at h
          · simp only [Sum.inr.injEq, Prod.mk.injEq] at h
            rw [← h.2]
            omega
          · cases h
      · have h1 := a_ts_b h
        obtain ⟨-, -, v, -, h2⟩ := a_ts_y h
        rw [h2, List.length_cons, List.length_nil]
        omega
  | f + 1, 1, d, a, b, L, h => by
    have ih := a_ps_len (tx := tx) (n := n) f
    obtain ⟨y, hy, h⟩ := a_bd_r (show a_bd (a_ps tx n f 0 d a) (fun r => a_bd (a_ps tx n f 3 d r.1) fun q => .inr (q.1, r.2 ++ q.2)) = .inr (b, L) from h)
    obtain ⟨z, hz, h⟩ := a_bd_r h
    have h1 := ih _ _ _ _ _ hy
    have h2 := ih _ _ _ _ _ hz
    simp only [Sum.inr.injEq, Prod.mk.injEq] at h
    rw [← h.2, List.length_append]
    omega
  | f + 1, 2, d, a, b, L, h => by
    have ih := a_ps_len (tx := tx) (n := n) f
    obtain ⟨y, hy, h⟩ := a_bd_r (show a_bd (a_ps tx n f 1 d a) (fun r => a_bd (a_ps tx n f 4 d r.1) fun q => .inr (q.1, r.2 ++ q.2)) = .inr (b, L) from h)
    obtain ⟨z, hz, h⟩ := a_bd_r h
    have h1 := ih _ _ _ _ _ hy
    have h2 := ih _ _ _ _ _ hz
    simp only [Sum.inr.injEq, Prod.mk.injEq] at h
    rw [← h.2, List.length_append]
    omega
  | f + 1, 3, d, a, b, L, h => by
    have ih := a_ps_len (tx := tx) (n := n) f
    have h := (show (if a_cr tx n a = 38 then a_bd (a_ps tx n f 0 d (a + 1)) fun r => a_bd (a_ps tx n f 3 d r.1) fun q => .inr (q.1, r.2 ++ [-38] ++ q.2) else .inr (a, [])) = .inr (b, L) from h)
    split at h
    · obtain ⟨y, hy, h⟩ := a_bd_r h
      obtain ⟨z, hz, h⟩ := a_bd_r h
      have h1 := ih _ _ _ _ _ hy
      have h2 := ih _ _ _ _ _ hz
      simp only [Sum.inr.injEq, Prod.mk.injEq] at h
      rw [← h.2, List.length_append, List.length_append, List.length_cons, List.length_nil]
      omega
    · cases h; rw [List.length_nil]; omega
  | f + 1, md + 4, d, a, b, L, h => by
    have ih := a_ps_len (tx := tx) (n := n) f
    have h := (show (if a_cr tx n a = 124 then a_bd (a_ps tx n f 1 d (a + 1)) fun r => a_bd (a_ps tx n f 4 d r.1) fun q => .inr (q.1, r.2 ++ [-124] ++ q.2) else .inr (a, [])) = .inr (b, L) from h)
    split at h
    · obtain ⟨y, hy, h⟩ := a_bd_r h
      obtain ⟨z, hz, h⟩ := a_bd_r h
      have h1 := ih _ _ _ _ _ hy
      have h2 := ih _ _ _ _ _ hz
      simp only [Sum.inr.injEq, Prod.mk.injEq] at h
      rw [← h.2, List.length_append, List.length_append, List.length_cons, List.length_nil]
      omega
    · cases h; rw [List.length_nil]; omega
theorem a_cs_b {tx : Nat → Int32} {n a b : Nat} {w v : Int32} {L : List Int32} (ha : a ≤ n) (h : a_cs tx n a = .inr (b, w, v, L)) : a < b ∧ b ≤ n ∧ a + L.length ≤ b := by
  unfold a_cs at h
  obtain ⟨y, hy, h⟩ := a_bd_r h
  cases e1 : a_wd tx n (a_hl (a_cr tx n a)) a with
  | inl p => rw [e1] at hy; cases hy
  | inr z =>
    rw [e1] at hy
    cases hy
    have h1 := a_wd_b _ _ ha (a_hl_n _) e1
    obtain ⟨r, hr, h⟩ := a_bd_r h
    have h2 := a_nm_b (b := r.1) (v := r.2) hr
    split at h
    · simp only [Sum.inr.injEq, Prod.mk.injEq] at h
      rw [← h.2.2.2, List.length_nil]
      omega
    · split at h
      · rename_i c2
        have h4 := a_cr_in c2 (by decide)
        obtain ⟨q, hq, h⟩ := a_bd_r h
        have h3 := a_E_b (b := q.1) (L := q.2) (by omega) hq
        have h5 := a_ps_len _ _ _ _ q.1 q.2 hq
        simp only [Sum.inr.injEq, Prod.mk.injEq] at h
        rw [← h.2.2.2]
        omega
      · cases h
abbrev a_Cl : Type := Int32 × Int32 × List Int32
def a_gt (tx : Nat → Int32) (n : Nat) : Nat → Nat → Nat ⊕ List a_Cl
  | 0, a => .inl a
  | r + 1, a => a_bd (a_cs tx n a) fun y => if y.1 = n then .inr [y.2] else if r = 0 then .inl y.1 else if a_cr tx n y.1 = 59 then a_bd (a_gt tx n r (y.1 + 1)) fun cls => .inr (y.2 :: cls) else .inl y.1
/-- the clauses lie there from c on, their signs from s + m on -/
def a_lc (F : Nat → Nat → Int32) (s : Nat) : Nat → Nat → List a_Cl → Prop
  | _, _, [] => True
  | c, m, x :: r => F 57 c = x.1 ∧ F 58 c = x.2.1 ∧ (¬ 2 ≤ x.1 → F 59 c = nI (s + m) ∧ F 60 c = nI (s + m + x.2.2.length)) ∧ a_lc F s (c + 1) (m + x.2.2.length) r
def a_fl : List a_Cl → List Int32
  | [] => []
  | x :: r => x.2.2 ++ a_fl r
abbrev z_Rg (f c s a k : Nat) : Prop := z_Rd a k ∨ z_Rw s a k ∨ ((57 ≤ a ∧ a ≤ 60) ∧ c ≤ k) ∨ (a = 56 ∧ k = f)
def z_qg (h : z_H) (n f s k : Nat) (S : List Int32) (F : Nat → Nat → Int32) : Nat ⊕ List a_Cl → Outcome → z_H → Prop
  | .inl p => z_rp h 0 (fun F' => F' 49 14 = nI p ∧ z_fm (z_Rg f (10 * f + k) (s + S.length)) F F')
  | .inr cls => z_rp h 1 (fun F' => F' 49 14 = nI n ∧ F' 56 f = nI (k + cls.length) ∧ a_lc F' s (10 * f + k) S.length cls ∧ a_sg (F' 61) s (S ++ a_fl cls) ∧ z_fm (z_Rg f (10 * f + k) (s + S.length)) F F')
theorem z_Rc_g {f c s a k : Nat} (h : z_Rc c s a k) : z_Rg f c s a k := h.elim Or.inl (fun q => q.elim (fun r => Or.inr (Or.inl r)) (fun r => Or.inr (Or.inr (Or.inl ⟨r.1, Nat.le_of_eq r.2.symm⟩))))
theorem lp_X6_goesText {Γ : z_W} {h : z_H} {tx : Nat → Int32} {n f s : Nat} (hF : z_F h) (hf : f < 6) (hs5 : s ≤ 500) : ∀ (r k a : Nat) (S : List Int32) (F : Nat → Nat → Int32), k + r + 1 = 10 → z_pt tx n F → a ≤ n → F 49 14 = nI a → z_ltr F → F 49 24 = nI (s + S.length) → a_sg (F 61) s S → S.length ≤ a → z_G Γ M_X6_goesText (z_rm 7 0 0) (z_qg h n f s k S F (a_gt tx n (r + 1) a)) 0 0 15 [some (.ref 49), some (.int (nI f)), some (.int (nI k))] [] (z_ci h F) := by
  intro r
  induction r with
  | zero =>
    intro k a S F hk ht hn ha hlt hg hsg hl
    have hn1 := ht.2.1
    refine z_aload_n dX6_goesText_15 rfl rfl ?_
    refine z_bipush (v := 10) dX6_goesText_16 rfl ?_
    refine z_iload_n dX6_goesText_18 rfl rfl ?_
    refine z_imul dX6_goesText_19 ?_
    refine z_iload_n dX6_goesText_20 rfl rfl ?_
    refine z_iadd dX6_goesText_21 ?_
    refine z_eqi (nI (10 * f + k)) (by rw [← nI_add, ← pk_mul]; rfl) ?_
    have hC := c_X6_takesClause (Γ := Γ) (c := 10 * f + k) (s := s) (S := S) hF ht hn ha (by omega) hlt hs5 hg hsg hl
    cases e1 : a_cs tx n a with
    | inl p =>
      rw [e1] at hC
      refine z_vcall vl_X6_279_6 hC dX6_goesText_22 rfl rfl (hF.1 49 _ rfl) ⟨by decide, by decide⟩ (Nat.le_of_ble_eq_true rfl) (Nat.le_refl _) (Nat.le_refl _) (z_cJ (fun F22 q22 => ?_)) z_tJ
      refine z_if_ne 30 dX6_goesText_25 (by decide) (fun q => absurd q (by decide)) (fun _ => ?_)
      refine z_iconst (v := 0) dX6_goesText_28 rfl ?_
      refine z_iret dX6_goesText_29 rfl rfl (Nat.le_refl _) (Nat.le_refl _) ?_
      rw [a_gt, e1]
      exact ⟨_, rfl, rfl, q22.1, z_fm.le q22.2 (fun a j q => z_Rc_g q)⟩
    | inr y =>
      obtain ⟨e, w, v, L⟩ := y
      rw [e1] at hC
      rw [a_gt, e1]
      refine z_vcall vl_X6_279_6 hC dX6_goesText_22 rfl rfl (hF.1 49 _ rfl) ⟨by decide, by decide⟩ (Nat.le_of_ble_eq_true rfl) (Nat.le_refl _) (Nat.le_refl _) (z_cJ (fun F22 q22 => ?_)) z_tJ
      have he := a_cs_b hn e1
      have hfr : z_fm (z_Rg f (10 * f + k) (s + S.length)) F (z_u F22 56 f (nI (k + 1))) := z_fm.u (z_fm.le q22.2.2.2.2.2.2 (fun a j q => z_Rc_g q)) (Or.inr (Or.inr (Or.inr ⟨rfl, rfl⟩)))
      have ht2 : z_pt tx n (z_u F22 56 f (nI (k + 1))) := ht.fm hfr (by unfold z_Rg z_Rw; omega) (fun j => by unfold z_Rg z_Rw; omega)
      have h56 : z_u F22 56 f (nI (k + 1)) 56 f = nI (k + 1) := by show (if 56 = 56 ∧ f = f then _ else _) = _; rw [if_pos ⟨rfl, rfl⟩]
      rw [List.length_append] at q22
      refine z_if_ne 30 dX6_goesText_25 (by decide) (fun _ => ?_) (fun q => absurd q (by decide))
      refine z_iinc (v := nI (k + 1)) dX6_goesText_30 rfl (nI_succ _).symm (by decide) rfl ?_
      refine z_aload_n dX6_goesText_33 rfl rfl ?_
      refine z_getR 56 dX6_goesText_34 fl_X6_62_6 (hF.1 49 _ rfl) rfl (hF.2.1 49 17 56 rfl) ?_
      refine z_iload_n dX6_goesText_37 rfl rfl ?_
      refine z_iload_n dX6_goesText_38 rfl rfl ?_
      refine z_iast f dX6_goesText_39 (hF.1 56 _ rfl) (by decide) rfl hf (by decide) ?_
      refine z_meq (z_ci h (z_u F22 56 f (nI (k + 1)))) rfl ?_
      refine z_aload_n dX6_goesText_40 rfl rfl ?_
      refine z_getI dX6_goesText_41 fl_X6_53_6 (hF.1 49 _ rfl) rfl ?_
      refine z_eqi (nI e) q22.1 ?_
      refine z_aload_n dX6_goesText_44 rfl rfl ?_
      refine z_getI dX6_goesText_45 fl_X6_50_6 (hF.1 49 _ rfl) rfl ?_
      refine z_eqi (nI n) ht2.1 ?_
      refine z_icmp_ne 53 dX6_goesText_48 (by decide) (fun c48 => ?_) (fun c48 => ?_)
      · have c48' : ¬ e = n := fun q => c48 (by rw [q])
        refine z_iload_n dX6_goesText_53 rfl rfl ?_
        refine z_bipush (v := 10) dX6_goesText_54 rfl ?_
        refine z_icmp_eq 68 dX6_goesText_56 (by decide) (fun _ => ?_) (fun q => by first | exact absurd (show nI (k + 1) = 10 by rw [show k + 1 = 10 by omega]; rfl) q | exact absurd q (show nI (k + 1) = 10 by rw [show k + 1 = 10 by omega]; rfl))
        refine z_iconst (v := 0) dX6_goesText_68 rfl ?_
        refine z_iret dX6_goesText_69 rfl rfl (Nat.le_refl _) (Nat.le_refl _) ?_
        show z_qg h n f s k S F (if e = n then .inr [(w, v, L)] else _) _ _
        rw [if_neg c48', if_pos rfl]
        exact ⟨_, rfl, rfl, q22.1, hfr⟩
      · have c48' : e = n := (nI_eq (by omega) (by omega)).mp c48
        refine z_iconst (v := 1) dX6_goesText_51 rfl ?_
        refine z_iret dX6_goesText_52 rfl rfl (Nat.le_refl _) (Nat.le_refl _) ?_
        show z_qg h n f s k S F (if e = n then .inr [(w, v, L)] else _) _ _
        rw [if_pos c48']
        refine ⟨_, rfl, rfl, by rw [← c48']; exact q22.1, h56, ⟨q22.2.2.2.1, q22.2.2.2.2.1, fun q => ⟨(q22.2.2.2.2.2.1 q).1, by rw [Nat.add_assoc]; exact (q22.2.2.2.2.2.1 q).2⟩, trivial⟩, ?_, hfr⟩
        show a_sg (F22 61) s (S ++ (L ++ []))
        rw [List.append_nil]
        exact q22.2.2.1
  | succ r ih =>
    intro k a S F hk ht hn ha hlt hg hsg hl
    have hn1 := ht.2.1
    refine z_aload_n dX6_goesText_15 rfl rfl ?_
    refine z_bipush (v := 10) dX6_goesText_16 rfl ?_
    refine z_iload_n dX6_goesText_18 rfl rfl ?_
    refine z_imul dX6_goesText_19 ?_
    refine z_iload_n dX6_goesText_20 rfl rfl ?_
    refine z_iadd dX6_goesText_21 ?_
    refine z_eqi (nI (10 * f + k)) (by rw [← nI_add, ← pk_mul]; rfl) ?_
    have hC := c_X6_takesClause (Γ := Γ) (c := 10 * f + k) (s := s) (S := S) hF ht hn ha (by omega) hlt hs5 hg hsg hl
    cases e1 : a_cs tx n a with
    | inl p =>
      rw [e1] at hC
      refine z_vcall vl_X6_279_6 hC dX6_goesText_22 rfl rfl (hF.1 49 _ rfl) ⟨by decide, by decide⟩ (Nat.le_of_ble_eq_true rfl) (Nat.le_refl _) (Nat.le_refl _) (z_cJ (fun F22 q22 => ?_)) z_tJ
      refine z_if_ne 30 dX6_goesText_25 (by decide) (fun q => absurd q (by decide)) (fun _ => ?_)
      refine z_iconst (v := 0) dX6_goesText_28 rfl ?_
      refine z_iret dX6_goesText_29 rfl rfl (Nat.le_refl _) (Nat.le_refl _) ?_
      rw [a_gt, e1]
      exact ⟨_, rfl, rfl, q22.1, z_fm.le q22.2 (fun a j q => z_Rc_g q)⟩
    | inr y =>
      obtain ⟨e, w, v, L⟩ := y
      rw [e1] at hC
      rw [a_gt, e1]
      refine z_vcall vl_X6_279_6 hC dX6_goesText_22 rfl rfl (hF.1 49 _ rfl) ⟨by decide, by decide⟩ (Nat.le_of_ble_eq_true rfl) (Nat.le_refl _) (Nat.le_refl _) (z_cJ (fun F22 q22 => ?_)) z_tJ
      have he := a_cs_b hn e1
      have hfr : z_fm (z_Rg f (10 * f + k) (s + S.length)) F (z_u F22 56 f (nI (k + 1))) := z_fm.u (z_fm.le q22.2.2.2.2.2.2 (fun a j q => z_Rc_g q)) (Or.inr (Or.inr (Or.inr ⟨rfl, rfl⟩)))
      have ht2 : z_pt tx n (z_u F22 56 f (nI (k + 1))) := ht.fm hfr (by unfold z_Rg z_Rw; omega) (fun j => by unfold z_Rg z_Rw; omega)
      have h56 : z_u F22 56 f (nI (k + 1)) 56 f = nI (k + 1) := by show (if 56 = 56 ∧ f = f then _ else _) = _; rw [if_pos ⟨rfl, rfl⟩]
      rw [List.length_append] at q22
      refine z_if_ne 30 dX6_goesText_25 (by decide) (fun _ => ?_) (fun q => absurd q (by decide))
      refine z_iinc (v := nI (k + 1)) dX6_goesText_30 rfl (nI_succ _).symm (by decide) rfl ?_
      refine z_aload_n dX6_goesText_33 rfl rfl ?_
      refine z_getR 56 dX6_goesText_34 fl_X6_62_6 (hF.1 49 _ rfl) rfl (hF.2.1 49 17 56 rfl) ?_
      refine z_iload_n dX6_goesText_37 rfl rfl ?_
      refine z_iload_n dX6_goesText_38 rfl rfl ?_
      refine z_iast f dX6_goesText_39 (hF.1 56 _ rfl) (by decide) rfl hf (by decide) ?_
      refine z_meq (z_ci h (z_u F22 56 f (nI (k + 1)))) rfl ?_
      refine z_aload_n dX6_goesText_40 rfl rfl ?_
      refine z_getI dX6_goesText_41 fl_X6_53_6 (hF.1 49 _ rfl) rfl ?_
      refine z_eqi (nI e) q22.1 ?_
      refine z_aload_n dX6_goesText_44 rfl rfl ?_
      refine z_getI dX6_goesText_45 fl_X6_50_6 (hF.1 49 _ rfl) rfl ?_
      refine z_eqi (nI n) ht2.1 ?_
      refine z_icmp_ne 53 dX6_goesText_48 (by decide) (fun c48 => ?_) (fun c48 => ?_)
      · have c48' : ¬ e = n := fun q => c48 (by rw [q])
        refine z_iload_n dX6_goesText_53 rfl rfl ?_
        refine z_bipush (v := 10) dX6_goesText_54 rfl ?_
        refine z_icmp_eq 68 dX6_goesText_56 (by decide) (fun q => by first | exact absurd q (show ¬ nI (k + 1) = 10 from fun q => by have := (nI_eq (b := 10) (by omega) (by decide)).mp q; omega) | exact absurd (show ¬ nI (k + 1) = 10 from fun q => by have := (nI_eq (b := 10) (by omega) (by decide)).mp q; omega) q) (fun _ => ?_)
        refine z_aload_n dX6_goesText_59 rfl rfl ?_
        refine z_bipush (v := 59) dX6_goesText_60 rfl ?_
        by_cases g62 : a_cr tx n e = 59
        · refine z_vcall vl_X6_242_6 (c_X6_takes_y hF ht2 he.2.1 q22.1 g62) dX6_goesText_62 rfl rfl (hF.1 49 _ rfl) ⟨by decide, by decide⟩ (Nat.le_of_ble_eq_true rfl) (Nat.le_refl _) (Nat.le_refl _) (z_cI ?_) z_tI
          refine z_if_ne 15 dX6_goesText_65 (by decide) (fun _ => ?_) (fun q => absurd q (by decide))
          have hen := a_cr_in g62 (by decide)
          show z_G _ _ _ (z_qg h n f s k S F (if e = n then .inr [(w, v, L)] else if r + 1 = 0 then .inl e else if a_cr tx n e = 59 then a_bd (a_gt tx n (r + 1) (e + 1)) (fun cls => .inr ((w, v, L) :: cls)) else .inl e)) _ _ _ _ _ _
          rw [if_neg c48', if_neg (by omega), if_pos g62]
          have fin := ih (k + 1) (e + 1) (S ++ L) (z_u (z_u F22 56 f (nI (k + 1))) 49 14 (nI (e + 1))) (by omega) ht2 (by omega) rfl (fun k v hk => (hfr 63 k (by unfold z_Rg z_Rw; omega)).trans (hlt k v hk)) (by rw [List.length_append]; exact q22.2.1) q22.2.2.1 (by rw [List.length_append]; omega)
          refine fin.mono (fun o h' q => ?_)
          cases e4 : a_gt tx n (r + 1) (e + 1) with
          | inl p =>
            rw [e4] at q
            obtain ⟨F', r1, r2, r3, r4⟩ := q
            rw [List.length_append] at r4
            exact ⟨F', r1, r2, r3, (hfr.u (Or.inl ⟨rfl, by decide⟩)).tr r4 (fun a j q => by unfold z_Rg z_Rw at *; omega)⟩
          | inr cls =>
            rw [e4] at q
            obtain ⟨F', r1, r2, r3, r4, r5, r6, r7⟩ := q
            rw [List.length_append] at r5 r7
            refine ⟨F', r1, r2, r3, ?_, ⟨?_, ?_, fun q => ⟨?_, ?_⟩, ?_⟩, ?_, (hfr.u (Or.inl ⟨rfl, by decide⟩)).tr r7 (fun a j q => by unfold z_Rg z_Rw at *; omega)⟩
            · rw [r4, List.length_cons]; congr 1; omega
            · exact (r7 57 _ (by unfold z_Rg z_Rw; omega)).trans q22.2.2.2.1
            · exact (r7 58 _ (by unfold z_Rg z_Rw; omega)).trans q22.2.2.2.2.1
            · exact (r7 59 _ (by unfold z_Rg z_Rw; omega)).trans (q22.2.2.2.2.2.1 q).1
            · exact (r7 60 _ (by unfold z_Rg z_Rw; omega)).trans (by rw [Nat.add_assoc]; exact (q22.2.2.2.2.2.1 q).2)
            · exact r5
            · show a_sg (F' 61) s (S ++ (L ++ a_fl cls))
              rw [← List.append_assoc]
              exact r6
        · refine z_vcall vl_X6_242_6 (c_X6_takes_n hF ht2 he.2.1 q22.1 g62) dX6_goesText_62 rfl rfl (hF.1 49 _ rfl) ⟨by decide, by decide⟩ (Nat.le_of_ble_eq_true rfl) (Nat.le_refl _) (Nat.le_refl _) (z_cI ?_) z_tI
          refine z_if_ne 15 dX6_goesText_65 (by decide) (fun q => absurd q (by decide)) (fun _ => ?_)
          refine z_iconst (v := 0) dX6_goesText_68 rfl ?_
          refine z_iret dX6_goesText_69 rfl rfl (Nat.le_refl _) (Nat.le_refl _) ?_
          show z_qg h n f s k S F (if e = n then .inr [(w, v, L)] else _) _ _
          rw [if_neg c48', if_neg (by omega), if_neg g62]
          exact ⟨_, rfl, rfl, q22.1, hfr⟩
      · have c48' : e = n := (nI_eq (by omega) (by omega)).mp c48
        refine z_iconst (v := 1) dX6_goesText_51 rfl ?_
        refine z_iret dX6_goesText_52 rfl rfl (Nat.le_refl _) (Nat.le_refl _) ?_
        show z_qg h n f s k S F (if e = n then .inr [(w, v, L)] else _) _ _
        rw [if_pos c48']
        refine ⟨_, rfl, rfl, by rw [← c48']; exact q22.1, h56, ⟨q22.2.2.2.1, q22.2.2.2.2.1, fun q => ⟨(q22.2.2.2.2.2.1 q).1, by rw [Nat.add_assoc]; exact (q22.2.2.2.2.2.1 q).2⟩, trivial⟩, ?_, hfr⟩
        show a_sg (F22 61) s (S ++ (L ++ []))
        rw [List.append_nil]
        exact q22.2.2.1
theorem c_X6_goesText {Γ : z_W} {h : z_H} {F : Nat → Nat → Int32} {tx : Nat → Int32} {n f : Nat} (hF : z_F h) (ht : z_pt tx n F) (hf : f < 6) (hlt : z_ltr F) : z_C Γ M_X6_goesText (z_rm 7 0 0) [.ref 49, .int (nI f)] (z_ci h F) (z_qg h n f (100 * f) 0 [] F (a_gt tx n 10 0)) := by
  refine z_C.of (by decide +kernel) rfl [some (.ref 49), some (.int (nI f)), none] (Nat.le_of_ble_eq_true rfl) rfl ?_
  refine z_aload_n dX6_goesText_0 rfl rfl ?_
  refine z_iconst (v := 0) dX6_goesText_1 rfl ?_
  refine z_putI dX6_goesText_2 (pl_X6_53_6 rfl) (hF.1 49 _ rfl) (by decide) rfl ?_
  refine z_meq (z_ci h (z_u F 49 14 0)) rfl ?_
  refine z_aload_n dX6_goesText_5 rfl rfl ?_
  refine z_bipush (v := 100) dX6_goesText_6 rfl ?_
  refine z_iload_n dX6_goesText_8 rfl rfl ?_
  refine z_imul dX6_goesText_9 ?_
  refine z_eqi (nI (100 * f)) (pk_mul 100 f) ?_
  refine z_putI dX6_goesText_10 (pl_X6_83_6 rfl) (hF.1 49 _ rfl) (by decide) rfl ?_
  refine z_meq (z_ci h (z_u (z_u F 49 14 0) 49 24 (nI (100 * f)))) rfl ?_
  refine z_iconst (v := 0) dX6_goesText_13 rfl ?_
  refine z_istore_n dX6_goesText_14 rfl (by decide) rfl ?_
  have fin := lp_X6_goesText (Γ := Γ) (h := h) (tx := tx) (n := n) (f := f) (s := 100 * f) hF hf (by omega) 9 0 0 [] (z_u (z_u F 49 14 0) 49 24 (nI (100 * f))) (by omega) ht (by omega) rfl hlt rfl (fun i v hi => by simp at hi) (Nat.le_refl _)
  have hfr : z_fm (z_Rg f (10 * f + 0) (100 * f + 0)) F (z_u (z_u F 49 14 0) 49 24 (nI (100 * f))) := ((z_fm.refl _ _).u (Or.inl ⟨rfl, by decide⟩)).u (Or.inr (Or.inl (Or.inl ⟨rfl, by decide⟩)))
  refine fin.mono (fun o h' q => ?_)
  cases e4 : a_gt tx n 10 0 with
  | inl p =>
    rw [e4] at q
    obtain ⟨F', r1, r2, r3, r4⟩ := q
    exact ⟨F', r1, r2, r3, hfr.tr r4 (fun a j q => q)⟩
  | inr cls =>
    rw [e4] at q
    obtain ⟨F', r1, r2, r3, r4, r5, r6, r7⟩ := q
    exact ⟨F', r1, r2, r3, r4, r5, r6, hfr.tr r7 (fun a j q => q)⟩
abbrev z_Ra (A a k : Nat) : Prop := z_Rg A (10 * A) (100 * A) a k ∨ (a = 49 ∧ (k = 11 ∨ k = 12 ∨ k = 13))
def z_qa (h : z_H) (A : Nat) (F : Nat → Nat → Int32) : Nat ⊕ List a_Cl → Outcome → z_H → Prop
  | .inl p => z_rp h (-10 - nI p) (fun F' => F' 49 13 = 0 ∧ F' 49 11 = F 49 11 ∧ F' 49 12 = F 49 12 ∧ z_fm (z_Ra A) F F')
  | .inr cls => z_rp h (nI A) (fun F' => F' 49 13 = 0 ∧ F' 49 12 = nI A ∧ F' 49 11 = nI (A + 1) ∧ F' 56 A = nI cls.length ∧ a_lc F' (100 * A) (10 * A) 0 cls ∧ a_sg (F' 61) (100 * A) (a_fl cls) ∧ z_fm (z_Ra A) F F')
theorem a_lc_e {F G : Nat → Nat → Int32} {s : Nat} (h : ∀ a k, 57 ≤ a → a ≤ 60 → G a k = F a k) : ∀ (cls : List a_Cl) (c m : Nat), a_lc F s c m cls → a_lc G s c m cls
  | [], _, _, _ => trivial
  | x :: r, c, m, k => ⟨(h 57 c (by omega) (by omega)).trans k.1, (h 58 c (by omega) (by omega)).trans k.2.1, fun q => ⟨(h 59 c (by omega) (by omega)).trans (k.2.2.1 q).1, (h 60 c (by omega) (by omega)).trans (k.2.2.1 q).2⟩, a_lc_e h r _ _ k.2.2.2⟩
theorem c_X6_air_6 {Γ : z_W} {h : z_H} {F : Nat → Nat → Int32}  (hF : z_F h) (h6 : F 49 11 = 6) : z_C Γ M_X6_air (z_rm 8 0 0) [.ref 49] (z_ci h F) (z_ri (-4) (z_ci h F)) := by
  refine z_C.of (by decide +kernel) rfl [some (.ref 49), none] (Nat.le_of_ble_eq_true rfl) rfl ?_
  refine z_aload_n dX6_air_0 rfl rfl ?_
  refine z_getI dX6_air_1 fl_X6_44_6 (hF.1 49 _ rfl) rfl ?_
  refine z_eqi (6) h6 ?_
  refine z_bipush (v := 6) dX6_air_4 rfl ?_
  refine z_icmp_ne 12 dX6_air_6 (by decide) (fun q => by first | exact absurd q (fun q => q rfl) | exact absurd (fun q => q rfl) q) (fun _ => ?_)
  refine z_bipush (v := (-4)) dX6_air_9 rfl ?_
  refine z_iret dX6_air_11 rfl rfl (Nat.le_refl _) (Nat.le_refl _) ?_
  exact ⟨rfl, rfl⟩
theorem c_X6_air {Γ : z_W} {h : z_H} {F : Nat → Nat → Int32} {tx : Nat → Int32} {n A : Nat} (hF : z_F h) (ht : z_pt tx n F) (hA : F 49 11 = nI A) (h6 : A < 6) (hlt : z_ltr F) : z_C Γ M_X6_air (z_rm 8 0 0) [.ref 49] (z_ci h F) (z_qa h A F (a_gt tx n 10 0)) := by
  refine z_C.of (by decide +kernel) rfl [some (.ref 49), none] (Nat.le_of_ble_eq_true rfl) rfl ?_
  refine z_aload_n dX6_air_0 rfl rfl ?_
  refine z_getI dX6_air_1 fl_X6_44_6 (hF.1 49 _ rfl) rfl ?_
  refine z_eqi (nI A) hA ?_
  refine z_bipush (v := 6) dX6_air_4 rfl ?_
  refine z_icmp_ne 12 dX6_air_6 (by decide) (fun _ => ?_) (fun q => by first | exact absurd (fun q => by have := (nI_eq (b := 6) (by omega) (by decide)).mp q; omega) q | exact absurd q (fun q => by have := (nI_eq (b := 6) (by omega) (by decide)).mp q; omega))
  refine z_aload_n dX6_air_12 rfl rfl ?_
  refine z_aload_n dX6_air_13 rfl rfl ?_
  refine z_getI dX6_air_14 fl_X6_44_6 (hF.1 49 _ rfl) rfl ?_
  refine z_eqi (nI A) hA ?_
  have hC := c_X6_goesText (Γ := Γ) (f := A) hF ht h6 hlt
  cases e1 : a_gt tx n 10 0 with
  | inl p =>
    rw [e1] at hC
    refine z_vcall vl_X6_282_6 hC dX6_air_17 rfl rfl (hF.1 49 _ rfl) ⟨by decide, by decide⟩ (Nat.le_of_ble_eq_true rfl) (Nat.le_refl _) (Nat.le_refl _) (z_cJ (fun F17 q17 => ?_)) z_tJ
    refine z_istore_n dX6_air_20 rfl (by decide) rfl ?_
    refine z_aload_n dX6_air_21 rfl rfl ?_
    refine z_iconst (v := 0) dX6_air_22 rfl ?_
    refine z_putI dX6_air_23 (pl_X6_50_6 rfl) (hF.1 49 _ rfl) (by decide) rfl ?_
    refine z_meq (z_ci h (z_u F17 49 13 0)) rfl ?_
    refine z_iload_n dX6_air_26 rfl rfl ?_
    refine z_if_ne 38 dX6_air_27 (by decide) (fun q => absurd q (by decide)) (fun _ => ?_)
    refine z_bipush (v := (-10)) dX6_air_30 rfl ?_
    refine z_aload_n dX6_air_32 rfl rfl ?_
    refine z_getI dX6_air_33 fl_X6_53_6 (hF.1 49 _ rfl) rfl ?_
    refine z_eqi (nI p) q17.1 ?_
    refine z_isub dX6_air_36 ?_
    refine z_iret dX6_air_37 rfl rfl (Nat.le_refl _) (Nat.le_refl _) ?_
    exact ⟨_, rfl, rfl, rfl, q17.2 49 11 (by unfold z_Rg z_Rw; omega), q17.2 49 12 (by unfold z_Rg z_Rw; omega), z_fm.u (z_fm.le q17.2 (fun a j q => Or.inl q)) (Or.inr ⟨rfl, by decide⟩)⟩
  | inr cls =>
    rw [e1] at hC
    refine z_vcall vl_X6_282_6 hC dX6_air_17 rfl rfl (hF.1 49 _ rfl) ⟨by decide, by decide⟩ (Nat.le_of_ble_eq_true rfl) (Nat.le_refl _) (Nat.le_refl _) (z_cJ (fun F17 q17 => ?_)) z_tJ
    refine z_istore_n dX6_air_20 rfl (by decide) rfl ?_
    refine z_aload_n dX6_air_21 rfl rfl ?_
    refine z_iconst (v := 0) dX6_air_22 rfl ?_
    refine z_putI dX6_air_23 (pl_X6_50_6 rfl) (hF.1 49 _ rfl) (by decide) rfl ?_
    refine z_meq (z_ci h (z_u F17 49 13 0)) rfl ?_
    refine z_iload_n dX6_air_26 rfl rfl ?_
    refine z_if_ne 38 dX6_air_27 (by decide) (fun _ => ?_) (fun q => absurd q (by decide))
    refine z_aload_n dX6_air_38 rfl rfl ?_
    refine z_aload_n dX6_air_39 rfl rfl ?_
    refine z_getI dX6_air_40 fl_X6_44_6 (hF.1 49 _ rfl) rfl ?_
    refine z_eqi (nI A) ((q17.2.2.2.2 49 11 (by unfold z_Rg z_Rw; omega)).trans hA) ?_
    refine z_putI dX6_air_43 (pl_X6_47_6 rfl) (hF.1 49 _ rfl) (by decide) rfl ?_
    refine z_meq (z_ci h (z_u (z_u F17 49 13 0) 49 12 (nI A))) rfl ?_
    refine z_aload_n dX6_air_46 rfl rfl ?_
    refine z_dup dX6_air_47 rfl ?_
    refine z_getI dX6_air_48 fl_X6_44_6 (hF.1 49 _ rfl) rfl ?_
    refine z_eqi (nI A) ((q17.2.2.2.2 49 11 (by unfold z_Rg z_Rw; omega)).trans hA) ?_
    refine z_iconst (v := 1) dX6_air_51 rfl ?_
    refine z_iadd dX6_air_52 ?_
    refine z_eqi (nI (A + 1)) (nI_succ _).symm ?_
    refine z_putI dX6_air_53 (pl_X6_44_6 rfl) (hF.1 49 _ rfl) (by decide) rfl ?_
    refine z_meq (z_ci h (z_u (z_u (z_u F17 49 13 0) 49 12 (nI A)) 49 11 (nI (A + 1)))) rfl ?_
    refine z_aload_n dX6_air_56 rfl rfl ?_
    refine z_getI dX6_air_57 fl_X6_47_6 (hF.1 49 _ rfl) rfl ?_
    refine z_eqi (nI A) rfl ?_
    refine z_iret dX6_air_60 rfl rfl (Nat.le_refl _) (Nat.le_refl _) ?_
    exact ⟨_, rfl, rfl, rfl, rfl, rfl, by rw [← Nat.zero_add cls.length]; exact q17.2.1, a_lc_e (F := F17) (fun a k h1 h2 => by show (if a = 49 ∧ k = 11 then _ else if a = 49 ∧ k = 12 then _ else if a = 49 ∧ k = 13 then _ else F17 a k) = F17 a k; rw [if_neg (by omega), if_neg (by omega), if_neg (by omega)]) cls _ _ q17.2.2.1, q17.2.2.2.1, (((z_fm.le q17.2.2.2.2 (fun a j q => Or.inl q)).u (Or.inr ⟨rfl, by decide⟩)).u (Or.inr ⟨rfl, by decide⟩)).u (Or.inr ⟨rfl, by decide⟩)⟩
