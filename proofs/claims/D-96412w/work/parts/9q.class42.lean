/-! THE CLASS's air (printed by class42.py) -/
set_option maxRecDepth 20000
theorem a_wd_le {tx : Nat → Int32} {n e : Nat} : ∀ (ws : List Int32) (a : Nat), a ≤ n → (∀ c ∈ ws, ¬ c = -1) → a_wd tx n ws a = .inl e → e ≤ n
  | [], a, ha, _, h => by cases h
  | c :: ws, a, ha, hw, h => by
    unfold a_wd at h
    by_cases q : a_cr tx n a = c
    · rw [if_pos q] at h
      have hl : a < n := a_cr_lt (fun w => hw c List.mem_cons_self (q.symm.trans w))
      exact a_wd_le ws (a + 1) hl (fun c' hc => hw c' (List.mem_cons_of_mem _ hc)) h
    · rw [if_neg q] at h
      cases h
      exact ha
theorem a_hl_m (c : Int32) : ∀ x ∈ a_hl c, ¬ x = -1 := by
  unfold a_hl
  split
  · decide
  · split
    · decide
    · split <;> decide
theorem a_cs_go {tx : Nat → Int32} {n p : Nat} (hp : p ≤ n) : (∀ e, a_cs tx n p = .inl e → e ≤ n) ∧ ∀ y, a_cs tx n p = .inr y → p ≤ y.1 ∧ y.1 ≤ n := by
  have key : ∀ z, a_cs tx n p = z → (∀ e, z = .inl e → e ≤ n) ∧ ∀ y, z = .inr y → p ≤ y.1 ∧ y.1 ≤ n := by
    intro z hz
    unfold a_cs at hz
    cases hw : a_wd tx n (a_hl (a_cr tx n p)) p with
    | inl e =>
      rw [hw] at hz
      have he := a_wd_le _ p hp (a_hl_m _) hw
      subst hz
      exact ⟨fun e' h => by cases h; exact he, fun y h => by cases h⟩
    | inr b =>
      rw [hw] at hz
      obtain ⟨hb, hbn⟩ := a_wd_b _ p hp (fun c hc q => a_hl_m _ c hc q.symm) hw
      have hz : (a_bd (a_nm tx n b) fun r => if 2 ≤ a_hw (a_cr tx n p) then .inr (r.1, a_hw (a_cr tx n p), r.2, []) else if a_cr tx n r.1 = 32 then a_bd (a_E tx n (r.1 + 1)) fun q => .inr (q.1, a_hw (a_cr tx n p), r.2, q.2) else .inl r.1) = z := hz
      cases hm : a_nm tx n b with
      | inl e =>
        rw [hm] at hz
        have he := a_nm_l hm
        subst hz
        exact ⟨fun e' h => by cases h; omega, fun y h => by cases h⟩
      | inr r =>
        obtain ⟨b2, nv⟩ := r
        rw [hm] at hz
        obtain ⟨hb2, hb2n⟩ := a_nm_b hm
        have hz : (if 2 ≤ a_hw (a_cr tx n p) then .inr (b2, a_hw (a_cr tx n p), nv, []) else if a_cr tx n b2 = 32 then a_bd (a_E tx n (b2 + 1)) fun q => .inr (q.1, a_hw (a_cr tx n p), nv, q.2) else .inl b2) = z := hz
        by_cases c1 : 2 ≤ a_hw (a_cr tx n p)
        · rw [if_pos c1] at hz
          subst hz
          exact ⟨fun e' h => (by cases h), fun y h => by cases h; exact ⟨by omega, hb2n⟩⟩
        · rw [if_neg c1] at hz
          by_cases c2 : a_cr tx n b2 = 32
          · rw [if_pos c2] at hz
            have hb2l : b2 < n := a_cr_lt (by rw [c2]; decide)
            have hgo : a_go n (b2 + 1) 3 (a_E tx n (b2 + 1)) := a_ps_go (3 * n + 3) 2 0 (b2 + 1) hb2l
            cases hE : a_E tx n (b2 + 1) with
            | inl e =>
              rw [hE] at hz hgo
              have := hgo.1 e rfl
              subst hz
              exact ⟨fun e' h => by cases h; omega, fun y h => by cases h⟩
            | inr q =>
              obtain ⟨b3, S⟩ := q
              rw [hE] at hz hgo
              have := hgo.2 b3 S rfl
              subst hz
              exact ⟨fun e' h => (by cases h), fun y h => by cases h; exact ⟨by show p ≤ b3; omega, by show b3 ≤ n; omega⟩⟩
          · rw [if_neg c2] at hz
            subst hz
            exact ⟨fun e' h => by cases h; exact hb2n, fun y h => by cases h⟩
  exact key _ rfl
/-- what follows a clause -/
def a_T (tx : Nat → Int32) (n r p : Nat) : Nat ⊕ List a_Cl := if p = n then .inr [] else if r = 0 then .inl p else if a_cr tx n p = 59 then a_gt tx n r (p + 1) else .inl p
theorem a_gt_T {tx : Nat → Int32} {n r a : Nat} : a_gt tx n (r + 1) a = a_bd (a_cs tx n a) fun y => a_bd (a_T tx n r y.1) fun l => .inr (y.2 :: l) := by
  rw [a_gt]
  cases a_cs tx n a with
  | inl e => rfl
  | inr y =>
    show (if y.1 = n then _ else _) = a_bd (a_T tx n r y.1) _
    unfold a_T
    by_cases c1 : y.1 = n
    · rw [if_pos c1, if_pos c1]; rfl
    · rw [if_neg c1, if_neg c1]
      by_cases c2 : r = 0
      · rw [if_pos c2, if_pos c2]; rfl
      · rw [if_neg c2, if_neg c2]
        by_cases c3 : a_cr tx n y.1 = 59
        · rw [if_pos c3, if_pos c3]
        · rw [if_neg c3, if_neg c3]; rfl
def z_rQ (h0 : z_H) (tx : Nat → Int32) (n : Nat) : Nat ⊕ List a_Cl → Outcome → z_H → Prop
  | .inl e => z_rO h0 e
  | .inr cls => fun o h' => o = .returned (some (.ref (z_n h0 + 1))) ∧ z_SA h0 h' tx n n cls
theorem k_X14_air_end {Γ : z_W} {h0 h : z_H} {n p : Nat} {tx : Nat → Int32} {cls : List a_Cl} (hA : z_SA h0 h tx n p cls) : z_G Γ M_X14_air (z_rm 25 (4 * n + 4) (33 * (4 * n + 4))) (z_rQ h0 tx n (if p = n then .inr cls else .inl p)) (4 * p) (33 * (4 * p)) 42 [some (.ref (z_n h0))] [] h := by
  have hB : z_SB h0 h tx n p (nI cls.length) (a_la 2 40 cls) (a_la 3 8 cls) cls := hA
  have hr := hB.2.1
  obtain ⟨r1, r2, r3, r4, r5, r6, r7, r8, r9, r10, r11, r12, r13, r14⟩ := id hr
  refine z_aload_n dX14_air_42 rfl rfl ?_
  refine z_getI dX14_air_43 fl_X14_26_14 r4 rfl ?_
  refine z_eqi (nI p) r8 ?_
  refine z_aload_n dX14_air_46 rfl rfl ?_
  refine z_getI dX14_air_47 fl_X14_22_14 r4 rfl ?_
  refine z_eqi (nI n) r6 ?_
  by_cases c : p < n
  · refine z_icmp_ge 58 dX14_air_50 (by decide) (fun q => absurd q (Int32.not_le.mpr (nI_lt c (by omega)))) (fun _ => ?_)
    rw [if_neg (by omega)]
    refine z_aload_n dX14_air_53 rfl rfl ?_
    refine z_vcall vl_X14_38_14 (c_X14_off hr) dX14_air_54 rfl rfl r4 (z_rq (by decide) (by decide)) (Nat.le_of_ble_eq_true rfl) (by show 4 * p + 1 ≤ 4 * n + 4; omega) (by show 33 * (4 * p) + 7 ≤ 33 * (4 * n + 4); omega) (z_cR ?_) z_tR
    refine z_athrow dX14_air_57 ?_
    exact z_thOut (by decide) (by show 4 * p + 1 ≤ 4 * n + 4; omega) (by show 33 * (4 * p) + 7 ≤ 33 * (4 * n + 4); omega) ⟨_, rfl, hB.1.trans (z_gr.off h _), z_off_T h _, z_off_I h _⟩
  · refine z_icmp_ge 58 dX14_air_50 (by decide) (fun _ => ?_) (fun q => absurd (nI_le (by omega) (by omega)) q)
    have e : p = n := by omega
    rw [if_pos e]
    refine z_aload_n dX14_air_58 rfl rfl ?_
    refine z_getR (z_n h0 + 1) dX14_air_59 fl_X14_12_14 r4 rfl r12 ?_
    refine z_aret dX14_air_62 rfl (Or.inl ⟨_, rfl⟩) (Or.inr ⟨_, rfl⟩) (by show 4 * p ≤ 4 * n + 4; omega) (by show 33 * (4 * p) ≤ 33 * (4 * n + 4); omega) ?_
    exact ⟨rfl, by rw [← e]; rw [e] at hA ⊢; exact hA⟩
theorem lp_X14_air {Γ : z_W} {h0 : z_H} {n : Nat} {tx : Nat → Int32} (hW : z_Wd h0) : ∀ (r p : Nat) (h : z_H) (cls : List a_Cl), cls.length + r = 10 → z_SA h0 h tx n p cls → z_G Γ M_X14_air (z_rm 25 (4 * n + 4) (33 * (4 * n + 4))) (z_rQ h0 tx n (a_bd (a_T tx n r p) fun l => .inr (cls ++ l))) (4 * p) (33 * (4 * p)) 4 [some (.ref (z_n h0))] [] h := by
  intro r
  induction r with
  | zero =>
    intro p h cls hl hA
    have hB : z_SB h0 h tx n p (nI cls.length) (a_la 2 40 cls) (a_la 3 8 cls) cls := hA
    have hr := hB.2.1
    have hl10 : cls.length = 10 := by omega
    refine z_aload_n dX14_air_4 rfl rfl ?_
    refine z_getR (z_n h0 + 1) dX14_air_5 fl_X14_12_14 hr.2.2.2.1 rfl hr.2.2.2.2.2.2.2.2.2.2.2.1 ?_
    refine z_getI dX14_air_8 fl_X14_136_2 hB.2.2.1 rfl ?_
    refine z_eqi 10 (by rw [hB.2.2.2.1, hl10]; rfl) ?_
    refine z_bipush (v := 10) dX14_air_11 rfl ?_
    refine z_icmp_ge 42 dX14_air_13 (by decide) (fun _ => ?_) (fun q => absurd (Int32.le_refl _) q)
    have e : (a_bd (a_T tx n 0 p) fun l => .inr (cls ++ l) : Nat ⊕ List a_Cl) = if p = n then .inr cls else .inl p := by
      unfold a_T
      by_cases c : p = n
      · rw [if_pos c, if_pos c]
        show Sum.inr (cls ++ []) = _
        rw [List.append_nil]
      · rw [if_neg c, if_neg c, if_pos rfl]
        rfl
    rw [e]
    exact k_X14_air_end hA
  | succ r ih =>
    intro p h cls hl hA
    have hB : z_SB h0 h tx n p (nI cls.length) (a_la 2 40 cls) (a_la 3 8 cls) cls := hA
    have hr := hB.2.1
    obtain ⟨r1, r2, r3, r4, r5, r6, r7, r8, r9, r10, r11, r12, r13, r14⟩ := id hr
    refine z_aload_n dX14_air_4 rfl rfl ?_
    refine z_getR (z_n h0 + 1) dX14_air_5 fl_X14_12_14 r4 rfl r12 ?_
    refine z_getI dX14_air_8 fl_X14_136_2 hB.2.2.1 rfl ?_
    refine z_eqi (nI cls.length) hB.2.2.2.1 ?_
    refine z_bipush (v := 10) dX14_air_11 rfl ?_
    refine z_icmp_ge 42 dX14_air_13 (by decide) (fun q => absurd q (Int32.not_le.mpr (nI_lt (b := 10) (by omega) (by decide)))) (fun _ => ?_)
    refine z_aload_n dX14_air_16 rfl rfl ?_
    refine z_vcall vl_X14_34_14 (c_X14_here hr) dX14_air_17 rfl rfl r4 (z_rq (by decide) (by decide)) (Nat.le_of_ble_eq_true rfl) (by show 4 * p + 0 ≤ 4 * n + 4; omega) (by show 33 * (4 * p) + 0 ≤ 33 * (4 * n + 4); omega) (z_cI ?_) z_tI
    refine z_wid (4 * p) (33 * (4 * p)) (Nat.le_refl _) (Nat.le_refl _) ?_
    refine z_bipush (v := 59) dX14_air_20 rfl ?_
    refine z_icmp_ne 42 dX14_air_22 (by decide) (fun c22 => ?_) (fun c22 => ?_)
    · have e : (a_bd (a_T tx n (r + 1) p) fun l => .inr (cls ++ l) : Nat ⊕ List a_Cl) = if p = n then .inr cls else .inl p := by
        unfold a_T
        by_cases c : p = n
        · rw [if_pos c, if_pos c]
          show Sum.inr (cls ++ []) = _
          rw [List.append_nil]
        · rw [if_neg c, if_neg c, if_neg (by omega), if_neg c22]
          rfl
      rw [e]
      exact k_X14_air_end hA
    · have hpn : p < n := a_cr_lt (by rw [c22]; decide)
      have e : a_T tx n (r + 1) p = a_bd (a_cs tx n (p + 1)) fun y => a_bd (a_T tx n r y.1) fun l => .inr (y.2 :: l) := by
        conv => lhs; unfold a_T
        rw [if_neg (by omega), if_neg (by omega), if_pos c22, a_gt_T]
      rw [e]
      refine z_aload_n dX14_air_25 rfl rfl ?_
      refine z_dup dX14_air_26 rfl ?_
      refine z_getI dX14_air_27 fl_X14_26_14 r4 rfl ?_
      refine z_eqi (nI p) r8 ?_
      refine z_iconst (v := 1) dX14_air_30 rfl ?_
      refine z_iadd dX14_air_31 ?_
      refine z_eqi (nI (p + 1)) (nI_succ p).symm ?_
      refine z_putI dX14_air_32 (pl_X14_26_14 rfl) r4 (Nat.le_trans (by decide) r2) rfl ?_
      have hA1 : z_SA h0 (z_sI h (z_n h0) 2 (nI (p + 1))) tx n (p + 1) cls := hB.pg (z_pg.sI _ h (Or.inl rfl) _) (if_pos ⟨rfl, rfl⟩) ((if_neg (fun q => absurd q.2 (by decide))).trans r10) hpn
      refine z_aload_n dX14_air_35 rfl rfl ?_
      have CC := c_X14_clause (Γ := Γ) hW hA1 (by omega)
      obtain ⟨g1, g2⟩ := a_cs_go (tx := tx) (n := n) (p := p + 1) hpn
      cases hX : a_cs tx n (p + 1) with
      | inl e =>
        rw [hX] at CC
        have he := g1 e hX
        refine z_vcall vl_X14_139_14 CC dX14_air_36 rfl rfl r4 (z_rq (by decide) (by decide)) (Nat.le_of_ble_eq_true rfl) (by show 4 * p + (4 * (e - (p + 1)) + 3) ≤ 4 * n + 4; omega) (by show 33 * (4 * p) + 33 * (4 * (e - (p + 1)) + 3) ≤ 33 * (4 * n + 4); omega) (fun v h1 q => ?_) (fun y h1 q => ?_)
        · obtain ⟨y, q1, -⟩ := q
          cases q1
        · exact z_thOut (by decide) (by show 4 * p + (4 * (e - (p + 1)) + 3) ≤ 4 * n + 4; omega) (by show 33 * (4 * p) + 33 * (4 * (e - (p + 1)) + 3) ≤ 33 * (4 * n + 4); omega) q
      | inr y =>
        rw [hX] at CC
        have he := g2 y hX
        refine z_vcall vl_X14_139_14 CC dX14_air_36 rfl rfl r4 (z_rq (by decide) (by decide)) (Nat.le_of_ble_eq_true rfl) (by show 4 * p + 4 * (y.1 - (p + 1)) ≤ 4 * n + 4; omega) (by show 33 * (4 * p) + 33 * (4 * (y.1 - (p + 1))) ≤ 33 * (4 * n + 4); omega) (fun v h1 q => ?_) (fun y h1 q => ?_)
        · obtain ⟨q1, q2⟩ := q
          cases q1
          refine z_wid (4 * y.1) (33 * (4 * y.1)) (by show 4 * p + 4 * (y.1 - (p + 1)) ≤ 4 * y.1; omega) (by show 33 * (4 * p) + 33 * (4 * (y.1 - (p + 1))) ≤ 33 * (4 * y.1); omega) ?_
          refine z_goto 4 dX14_air_39 (by decide) ?_
          have kR := ih y.1 h1 (cls ++ [y.2]) (by rw [List.length_append, List.length_singleton]; omega) q2
          refine z_G.mono kR (fun o g hq => ?_)
          show z_rQ h0 tx n (a_bd (a_bd (a_T tx n r y.1) fun l => .inr (y.2 :: l)) fun l => .inr (cls ++ l)) o g
          cases hY : a_T tx n r y.1 with
          | inl e => rw [hY] at hq; exact hq
          | inr l =>
            rw [hY] at hq
            have hq2 : z_rQ h0 tx n (.inr (cls ++ [y.2] ++ l)) o g := hq
            rw [show cls ++ [y.2] ++ l = cls ++ (y.2 :: l) by simp] at hq2
            exact hq2
        · cases q.1
theorem c_X14_air {Γ : z_W} {h0 h : z_H} {n : Nat} {tx : Nat → Int32} (hW : z_Wd h0) (hA : z_SA h0 h tx n 0 []) : z_C Γ M_X14_air (z_rm 25 (4 * n + 4) (33 * (4 * n + 4))) [.ref (z_n h0)] h (z_rQ h0 tx n (a_gt tx n 10 0)) := by
  have hB : z_SB h0 h tx n 0 (nI ([] : List a_Cl).length) (a_la 2 40 []) (a_la 3 8 []) [] := hA
  have hr := hB.2.1
  have r4 := hr.2.2.2.1
  refine z_C.of (by decide +kernel) rfl [some (.ref (z_n h0))] (Nat.le_of_ble_eq_true rfl) rfl ?_
  refine z_aload_n dX14_air_0 rfl rfl ?_
  have CC := c_X14_clause (Γ := Γ) hW hA (by decide)
  obtain ⟨g1, g2⟩ := a_cs_go (tx := tx) (n := n) (p := 0) (Nat.zero_le _)
  rw [a_gt_T]
  cases hX : a_cs tx n 0 with
  | inl e =>
    rw [hX] at CC
    have he := g1 e hX
    refine z_vcall vl_X14_139_14 CC dX14_air_1 rfl rfl r4 (z_rq (by decide) (by decide)) (Nat.le_of_ble_eq_true rfl) (by show 0 + (4 * (e - 0) + 3) ≤ 4 * n + 4; omega) (by show 0 + 33 * (4 * (e - 0) + 3) ≤ 33 * (4 * n + 4); omega) (fun v h1 q => ?_) (fun y h1 q => ?_)
    · obtain ⟨y, q1, -⟩ := q
      cases q1
    · exact z_thOut (by decide) (by show 0 + (4 * (e - 0) + 3) ≤ 4 * n + 4; omega) (by show 0 + 33 * (4 * (e - 0) + 3) ≤ 33 * (4 * n + 4); omega) q
  | inr y =>
    rw [hX] at CC
    have he := g2 y hX
    refine z_vcall vl_X14_139_14 CC dX14_air_1 rfl rfl r4 (z_rq (by decide) (by decide)) (Nat.le_of_ble_eq_true rfl) (by show 0 + 4 * (y.1 - 0) ≤ 4 * n + 4; omega) (by show 0 + 33 * (4 * (y.1 - 0)) ≤ 33 * (4 * n + 4); omega) (fun v h1 q => ?_) (fun y h1 q => ?_)
    · obtain ⟨q1, q2⟩ := q
      cases q1
      refine z_wid (4 * y.1) (33 * (4 * y.1)) (by show 0 + 4 * (y.1 - 0) ≤ 4 * y.1; omega) (by show 0 + 33 * (4 * (y.1 - 0)) ≤ 33 * (4 * y.1); omega) ?_
      exact lp_X14_air hW 9 y.1 h1 ([] ++ [y.2]) rfl q2
    · cases q.1
/-- a new air -/
def z_x2 (h : z_H) : z_H := z_sI (z_sI (z_sR (z_al0 (z_new (z_new h (.inl 2)) (.inl 21)) (z_n h + 1)) (z_n h) 0 (some (z_n h + 1))) (z_n h) 2 40) (z_n h) 3 8
theorem z_x2_T {h : z_H} {a : Nat} (ha : a < z_n h) : z_T (z_x2 h) a = z_T h a := (if_neg (by show ¬ a = z_n h + 1; omega)).trans (if_neg (by show ¬ a = z_n h; omega))
theorem z_x2_gr (h : z_H) : z_gr h (z_x2 h) := ⟨by show z_n h ≤ z_n h + 1 + 1; omega, fun a ha => ⟨fun k => (if_neg (fun q => by omega)).trans ((if_neg (fun q => by omega)).trans ((if_neg (fun q => by omega)).trans ((if_neg (by show ¬ a = z_n h + 1; omega)).trans (if_neg (by show ¬ a = z_n h; omega))))), fun k => (if_neg (by show ¬ a = z_n h + 1; omega)).trans (if_neg (by show ¬ a = z_n h; omega)), fun k => (if_neg (fun q => by omega)).trans ((if_neg (fun q => by omega)).trans ((if_neg (by show ¬ a = z_n h + 1; omega)).trans (if_neg (by show ¬ a = z_n h; omega)))), z_x2_T ha⟩⟩
theorem c_X14_init {Γ : z_W} {h : z_H} {L : Nat} {v : Int32} (hT : z_T h L = some (.inl 14)) (hL : 85 ≤ L) (hn : 85 ≤ z_n h) (hLn : L < z_n h) : z_C Γ M_X14_init (z_rm 6 2 8) [.ref L, .ref 22, .int v] h (z_rv (z_sI (z_sR (z_sR (z_x2 h) L 4 (some (z_n h))) L 0 (some 22)) L 1 v)) := by
  have hT1 : z_T (z_x2 h) L = some (.inl 14) := (z_x2_T hLn).trans hT
  refine z_C.of (by decide +kernel) rfl [some (.ref L), some (.ref 22), some (.int v)] (Nat.le_of_ble_eq_true rfl) rfl ?_
  refine z_aload_n dX14_init_0 rfl rfl ?_
  refine z_objInit dX14_init_1 q655 q135 q136 (Nat.le_of_ble_eq_true rfl) ⟨by decide, by decide⟩ ?_
  refine z_aload_n dX14_init_4 rfl rfl ?_
  refine z_newo dX14_init_5 (c := 2) rfl q656 q164 q89 (Nat.le_of_ble_eq_true rfl) (Nat.le_of_ble_eq_true rfl) ?_
  refine z_dup dX14_init_8 rfl ?_
  refine z_icall il_X14_11 (c_X2_init (h := z_new h (.inl 2)) (L := z_n h) (if_pos rfl) hn (Nat.le_succ_of_le hn) (Nat.lt_succ_self _)) dX14_init_9 rfl rfl ⟨by decide, by decide⟩ (Nat.le_of_ble_eq_true rfl) (Nat.le_of_ble_eq_true rfl) (Nat.le_of_ble_eq_true rfl) (z_cV ?_) z_tV
  refine z_putR dX14_init_12 pf_X14_init_12_14 hT1 (Nat.le_trans (by decide) hL) rfl ?_
  refine z_aload_n dX14_init_15 rfl rfl ?_
  refine z_aload_n dX14_init_16 rfl rfl ?_
  refine z_putR dX14_init_17 pf_X14_init_18_14 hT1 (Nat.le_trans (by decide) hL) rfl ?_
  refine z_aload_n dX14_init_20 rfl rfl ?_
  refine z_iload_n dX14_init_21 rfl rfl ?_
  refine z_putI dX14_init_22 pf_X14_init_22_14 hT1 (Nat.le_trans (by decide) hL) rfl ?_
  refine z_vret dX14_init_25 rfl (Nat.le_of_ble_eq_true rfl) (Nat.le_of_ble_eq_true rfl) (z_rv_i ?_)
  rfl
theorem z_SA.new {h0 : z_H} {n : Nat} {tx : Nat → Int32} (hF : z_F h0) (h1 : z_T h0 1 = some (z_oa 0)) (hn : n ≤ 100) (ht : ∀ k, z_I h0 22 k = tx k) : z_SA h0 (z_sI (z_sR (z_sR (z_x2 (z_new h0 (.inl 14))) (z_n h0) 4 (some (z_n h0 + 1))) (z_n h0) 0 (some 22)) (z_n h0) 1 (nI n)) tx n 0 [] := by
  have hn0 : 85 ≤ z_n h0 := hF.2.2
  have g1 : z_gr h0 (z_x2 (z_new h0 (.inl 14))) := (z_gr.new h0 _).trans (z_x2_gr _)
  have g2 : z_gr h0 (z_sI (z_sR (z_sR (z_x2 (z_new h0 (.inl 14))) (z_n h0) 4 (some (z_n h0 + 1))) (z_n h0) 0 (some 22)) (z_n h0) 1 (nI n)) := ⟨g1.1, fun a ha => ⟨fun k => (if_neg (fun q => by omega)).trans ((g1.2 a ha).1 k), (g1.2 a ha).2.1, fun k => (if_neg (fun q => by omega)).trans ((if_neg (fun q => by omega)).trans ((g1.2 a ha).2.2.1 k)), (g1.2 a ha).2.2.2⟩⟩
  have e1 : ¬ z_n h0 = z_n h0 + 1 := by omega
  have e2 : ¬ z_n h0 = z_n h0 + 1 + 1 := by omega
  have e3 : ¬ z_n h0 + 1 = z_n h0 := by omega
  have e4 : ¬ z_n h0 + 2 = z_n h0 := by omega
  have e5 : ¬ z_n h0 + 2 = z_n h0 + 1 := by omega
  refine ⟨g2, ⟨g2.F hF, hn0, by show z_n h0 < z_n h0 + 1 + 1 + 1; omega, ?_, ?_, ?_, hn, ?_, Nat.zero_le _, ?_, Nat.zero_le _, ?_, fun k => ((g2.2 22 (by omega)).1 k).trans (ht k), ((g2.2 1 (by omega)).2.2.2).trans h1⟩, ?_, ?_, ?_, ?_, ?_, 1, 0, [], [], ⟨by omega, by show z_n h0 + 2 < z_n h0 + 1 + 1 + 1; omega, ?_, ?_, Nat.le_refl _, ?_, by show 1 < z_n h0 + 1 + 1 + 1; omega, by omega, ((g2.2 1 (by omega)).2.2.2).trans h1, Or.inl ⟨rfl, rfl⟩, fun i b q => by simp at q, fun i _ q => by omega⟩, Or.inl rfl, rfl, Nat.le_refl _, rfl, fun i b c q => by simp at q⟩
  all_goals simp [z_x2, z_al0, z_II, z_IR, z_In, z_RR, z_RI, z_Rn, z_TI, z_TR, z_Tn, z_nI, z_nR, z_nn, a_la, nI, e1, e2, e3, e4, e5, Nat.add_assoc]
/-- what the class's air leaves -/
def z_xQ (h : z_H) (n : Nat) : Nat ⊕ List a_Cl → Outcome → z_H → Prop
  | .inl e => fun o h' => o = .returned (some (.int (-10 - nI e))) ∧ z_gr (z_sI h 16 8 0) h'
  | .inr cls => fun o h' => o = .returned (some (.int (z_I h 16 9))) ∧ ∃ g, z_SA (z_sI h 16 8 0) g (z_I h 22) n n cls ∧ h' = z_sI (z_sR g 16 10 (some (z_n h + 1))) 16 9 (z_I h 16 9 + 1)
theorem c_X0_air_6 {Γ : z_W} {h : z_H} (hF : z_F h) (h6 : z_I h 16 9 = 6) : z_C Γ M_X0_air (z_rm 27 410 13530) [.ref 16] h (z_ri (-4) h) := by
  refine z_C.ofH (by decide +kernel) (by decide) [some (.ref 16), none, none] (Nat.le_of_ble_eq_true rfl) rfl ?_
  refine z_aload_n dX0_air_0 rfl rfl ?_
  refine z_getI dX0_air_1 fl_X0_202_0 (hF.1 16 _ rfl) rfl ?_
  refine z_eqi 6 h6 ?_
  refine z_bipush (v := 6) dX0_air_4 rfl ?_
  refine z_icmp_ne 12 dX0_air_6 (by decide) (fun q => absurd rfl q) (fun _ => ?_)
  refine z_bipush (v := (-4)) dX0_air_9 rfl ?_
  exact z_iret dX0_air_11 rfl rfl (Nat.zero_le _) (Nat.zero_le _) (z_ri_i rfl rfl)
theorem c_X0_air {Γ : z_W} {h : z_H} {n : Nat} (hF : z_F h) (h1 : z_T h 1 = some (z_oa 0)) (hW : z_Wd h) (hn : n ≤ 100) (ht : z_I h 16 8 = nI n) (h6 : ¬ z_I h 16 9 = 6) : z_C Γ M_X0_air (z_rm 27 410 13530) [.ref 16] h (z_xQ h n (a_gt (z_I h 22) n 10 0)) := by
  refine z_C.ofH (by decide +kernel) (by decide) [some (.ref 16), none, none] (Nat.le_of_ble_eq_true rfl) rfl ?_
  refine z_aload_n dX0_air_0 rfl rfl ?_
  refine z_getI dX0_air_1 fl_X0_202_0 (hF.1 16 _ rfl) rfl ?_
  refine z_bipush (v := 6) dX0_air_4 rfl ?_
  refine z_icmp_ne 12 dX0_air_6 (by decide) (fun _ => ?_) (fun q => absurd q h6)
  refine z_aload_n dX0_air_12 rfl rfl ?_
  refine z_getI dX0_air_13 fl_X0_199_0 (hF.1 16 _ rfl) rfl ?_
  refine z_eqi (nI n) ht ?_
  refine z_istore_n dX0_air_16 rfl (by decide) rfl ?_
  refine z_lsq [some (.ref 16), some (.int (nI n)), none] rfl ?_
  refine z_aload_n dX0_air_17 rfl rfl ?_
  refine z_iconst (v := 0) dX0_air_18 rfl ?_
  refine z_putI dX0_air_19 (pl_X0_199_0 rfl) (hF.1 16 _ rfl) (by decide) rfl ?_
  have hI : ∀ a k, ¬ (a = 16 ∧ k = 8) → z_I (z_sI h 16 8 0) a k = z_I h a k := fun a k q => if_neg q
  have hF0 : z_F (z_sI h 16 8 0) := hF
  have hW0 : z_Wd (z_sI h 16 8 0) := by
    have key : ∀ s v ws, s ≠ 16 → v ≠ 16 → z_Sx h s v ws → z_Sx (z_sI h 16 8 0) s v ws := fun s v ws hs hv q => by
      obtain ⟨a1, a2, a3, a4, a5, a6⟩ := q
      exact ⟨a1, a2, (hI s 1 (by omega)).trans a3, a4, a5, fun k x hx => ⟨(hI v k (by omega)).trans (a6 k x hx).1, (a6 k x hx).2⟩⟩
    exact ⟨key _ _ _ (by decide) (by decide) hW.1, key _ _ _ (by decide) (by decide) hW.2.1, key _ _ _ (by decide) (by decide) hW.2.2.1, key _ _ _ (by decide) (by decide) hW.2.2.2⟩
  have hA0 := z_SA.new (h0 := z_sI h 16 8 0) (n := n) (tx := z_I h 22) hF0 h1 hn (fun k => hI 22 k (by omega))
  have hn85 : 85 ≤ z_n h := hF.2.2
  obtain ⟨h0, e0⟩ : ∃ g, g = z_sI h 16 8 0 := ⟨_, rfl⟩
  have en : z_n h0 = z_n h := by rw [e0]; rfl
  have eI : ∀ a k, ¬ (a = 16 ∧ k = 8) → z_I h0 a k = z_I h a k := fun a k q => by rw [e0]; exact hI a k q
  refine z_hq e0.symm ?_
  show z_G Γ M_X0_air (z_rm 27 410 13530) (z_xQ h n (a_gt (z_I h 22) n 10 0)) 0 0 22 _ [] h0
  rw [← e0] at hF0 hW0 hA0
  have hT16 : z_T h0 16 = some (.inl 0) := hF0.1 16 _ rfl
  refine z_aload_n dX0_air_22 rfl rfl ?_
  refine z_newo dX0_air_23 (c := 14) rfl q650 q651 q107 (Nat.le_of_ble_eq_true rfl) (Nat.le_of_ble_eq_true rfl) ?_
  refine z_dup dX0_air_26 rfl ?_
  refine z_aload_n dX0_air_27 rfl rfl ?_
  refine z_getR 22 dX0_air_28 fl_X0_42_0 ((if_neg (by show ¬ 16 = z_n h0; omega)).trans hT16) rfl ((if_neg (by show ¬ 16 = z_n h0; omega)).trans (hF0.2.1 16 7 22 rfl)) ?_
  refine z_iload_n dX0_air_31 rfl rfl ?_
  refine z_icall il_X0_207 (c_X14_init (h := z_new h0 (.inl 14)) (L := z_n h0) (if_pos rfl) (by omega) (by show 85 ≤ z_n h0 + 1; omega) (Nat.lt_succ_self _)) dX0_air_32 rfl rfl (z_rq (by decide) (by decide)) (Nat.le_of_ble_eq_true rfl) (Nat.le_of_ble_eq_true rfl) (Nat.le_of_ble_eq_true rfl) (z_cV ?_) z_tV
  refine z_wid 3 13 (Nat.le_refl _) (Nat.le_refl _) ?_
  obtain ⟨g1, eg⟩ : ∃ g, g = z_sI (z_sR (z_sR (z_x2 (z_new h0 (.inl 14))) (z_n h0) 4 (some (z_n h0 + 1))) (z_n h0) 0 (some 22)) (z_n h0) 1 (nI n) := ⟨_, rfl⟩
  refine z_hq eg.symm ?_
  rw [← eg] at hA0
  have CC := c_X14_air (Γ := Γ) hW0 hA0
  have hr4 : z_T g1 (z_n h0) = some (.inl 14) := hA0.2.1.2.2.2.1
  cases hX : a_gt (z_I h 22) n 10 0 with
  | inl e =>
    rw [hX] at CC
    refine z_vcall vl_X0_210_14 CC dX0_air_35 rfl rfl hr4 (z_rq (by decide) (by decide)) (Nat.le_of_ble_eq_true rfl) (by show 3 + (4 * n + 4) ≤ 410; omega) (by show 13 + 33 * (4 * n + 4) ≤ 13530; omega) (fun v h2 q => ?_) (fun y h2 q => ?_)
    · obtain ⟨y, q1, -⟩ := q
      cases q1
    · obtain ⟨y', q1, q2, q3, q4⟩ := q
      cases q1
      refine z_thCatch (Or.inl ⟨q3, rfl⟩) [] [] rfl (fun y hy => by cases hy) ⟨by decide, by decide⟩ (by decide) q649 q751 ?_
      refine z_astore_n dX0_air_53 rfl (by decide) rfl ?_
      refine z_bipush (v := (-10)) dX0_air_54 rfl ?_
      refine z_aload_n dX0_air_56 rfl rfl ?_
      refine z_getPl dX0_air_57 fl_X0_215_15 q3 ?_
      refine z_eqi (nI e) q4 ?_
      refine z_isub dX0_air_60 ?_
      refine z_iret dX0_air_61 rfl rfl (by show 3 + (4 * n + 4) ≤ 410; omega) (by show 13 + 33 * (4 * n + 4) ≤ 13530; omega) ?_
      exact ⟨rfl, by rw [← e0]; exact q2⟩
  | inr cls =>
    rw [hX] at CC
    refine z_vcall vl_X0_210_14 CC dX0_air_35 rfl rfl hr4 (z_rq (by decide) (by decide)) (Nat.le_of_ble_eq_true rfl) (by show 3 + (4 * n + 4) ≤ 410; omega) (by show 13 + 33 * (4 * n + 4) ≤ 13530; omega) (fun v h2 q => ?_) (fun y h2 q => ?_)
    · obtain ⟨q1, q2⟩ := q
      cases q1
      have hg2 := q2.1
      have hT2 : z_T h2 16 = some (.inl 0) := ((hg2.2 16 (by omega)).2.2.2).trans hT16
      refine z_putR dX0_air_38 (pl_X0_49_0 rfl) hT2 (by decide) rfl ?_
      refine z_aload_n dX0_air_41 rfl rfl ?_
      refine z_dup dX0_air_42 rfl ?_
      refine z_getI dX0_air_43 fl_X0_202_0 hT2 rfl ?_
      refine z_eqi (z_I h 16 9) (((hg2.2 16 (by omega)).1 9).trans (eI 16 9 (by omega))) ?_
      refine z_dup_x1 dX0_air_46 rfl rfl ?_
      refine z_iconst (v := 1) dX0_air_47 rfl ?_
      refine z_iadd dX0_air_48 ?_
      refine z_putI dX0_air_49 (pl_X0_202_0 rfl) hT2 (by decide) rfl ?_
      refine z_iret dX0_air_52 rfl rfl (by show 3 + (4 * n + 4) ≤ 410; omega) (by show 13 + 33 * (4 * n + 4) ≤ 13530; omega) ?_
      exact ⟨rfl, h2, by rw [← e0]; exact q2, by rw [en]⟩
    · cases q.1
