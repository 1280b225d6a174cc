/-! THE CLASS: gainOf, climbOf, turns (printed by class8.py) -/
set_option maxRecDepth 20000
/-- what the class has of lifts and air agrees with the reference (ints of the class: f) -/
def z_CA (h : z_H) (f : Nat → Nat → Int32) : Prop := (∀ j, j < z_c (z_I h 49 0) → ∃ id k, z_R h 17 j = some id ∧ z_Lf h id j k) ∧ (∀ j, j < 6 → f 18 j = z_I h 53 j) ∧ (∀ j, j < 24 → f 19 j = z_I h 54 j) ∧ ∃ a Cs, z_R h 16 10 = some a ∧ (∀ f', f' 23 = f 23 → f' 24 = f 24 → z_Ar (z_cy h f') a (m_X6_lastOf h 2 40) (m_X6_lastOf h 3 8) Cs) ∧ z_cc (z_I h 57) (z_I h 58) (a_hv h) (a_bg h) (a_cn h) Cs
/-- the class's ints but for its notes: tried, look, leftAt, bestLift, bestPace -/
def z_cn0 (a k : Nat) : Prop := a = 21 ∨ a = 25 ∨ (a = 16 ∧ (k = 22 ∨ k = 23 ∨ k = 24))
theorem z_CA.fm {h : z_H} {f f' : Nat → Nat → Int32} (hc : z_CA h f) (h1 : f' 18 = f 18) (h2 : f' 19 = f 19) (h3 : f' 23 = f 23) (h4 : f' 24 = f 24) : z_CA h f' := by
  obtain ⟨c1, c2, c3, a, Cs, c4, c5, c6⟩ := hc
  exact ⟨c1, fun j hj => by rw [h1]; exact c2 j hj, fun j hj => by rw [h2]; exact c3 j hj, a, Cs, c4, fun g g1 g2 => c5 g (g1.trans h3) (g2.trans h4), c6⟩
/-- a look is as f says but for this -/
def z_lkf (f : Nat → Nat → Int32) (L : Nat → Int32) : Nat → Nat → Int32 := fun a k => if a = 25 then L k else f a k
theorem z_min99 (h : z_H) (x : Int32) : m_J3_min h 99 x = if x ≤ 99 then x else 99 := by
  unfold m_J3_min
  by_cases e : x ≤ 99
  · rw [if_pos e]
    by_cases e2 : x < 99
    · rw [if_pos e2]
    · rw [if_neg e2]; exact Int32.le_antisymm (Int32.not_lt.mp e2) e
  · rw [if_neg e, if_neg (fun q => e (Int32.le_of_lt q))]
theorem z_getv {Γ : z_W} {M : z_M} {rm : Room} {Q : Outcome → z_H → Prop} {cs ss pc : Nat} {ls : List (Option Value)} {st : List Value} {h : z_H} (hM : M.1.cls = RX0) {b k : Nat} (hk : k ≤ 6) (hT : z_T h b = some (.inl (7 + k))) (hd : decode M.2.1 pc = .ok (.getfield 173, 3)) (kk : z_G Γ M rm Q cs ss (pc + 3) ls (.int (z_I h b 2) :: st) h) : z_G Γ M rm Q cs ss pc ls (.ref b :: st) h := by
  match k, hk, hT with
  | 0, _, hT => exact z_getI hd (by rw [hM]; exact fl_X0_173_7) hT rfl kk
  | 1, _, hT => exact z_getI hd (by rw [hM]; exact fl_X0_173_8) hT rfl kk
  | 2, _, hT => exact z_getI hd (by rw [hM]; exact fl_X0_173_9) hT rfl kk
  | 3, _, hT => exact z_getI hd (by rw [hM]; exact fl_X0_173_10) hT rfl kk
  | 4, _, hT => exact z_getI hd (by rw [hM]; exact fl_X0_173_11) hT rfl kk
  | 5, _, hT => exact z_getI hd (by rw [hM]; exact fl_X0_173_12) hT rfl kk
  | 6, _, hT => exact z_getI hd (by rw [hM]; exact fl_X0_173_13) hT rfl kk
theorem z_getm {Γ : z_W} {M : z_M} {rm : Room} {Q : Outcome → z_H → Prop} {cs ss pc : Nat} {ls : List (Option Value)} {st : List Value} {h : z_H} (hM : M.1.cls = RX0) {b k : Nat} (hk : k ≤ 6) (hT : z_T h b = some (.inl (7 + k))) (hd : decode M.2.1 pc = .ok (.getfield 177, 3)) (kk : z_G Γ M rm Q cs ss (pc + 3) ls (.int (z_I h b 3) :: st) h) : z_G Γ M rm Q cs ss pc ls (.ref b :: st) h := by
  match k, hk, hT with
  | 0, _, hT => exact z_getI hd (by rw [hM]; exact fl_X0_177_7) hT rfl kk
  | 1, _, hT => exact z_getI hd (by rw [hM]; exact fl_X0_177_8) hT rfl kk
  | 2, _, hT => exact z_getI hd (by rw [hM]; exact fl_X0_177_9) hT rfl kk
  | 3, _, hT => exact z_getI hd (by rw [hM]; exact fl_X0_177_10) hT rfl kk
  | 4, _, hT => exact z_getI hd (by rw [hM]; exact fl_X0_177_11) hT rfl kk
  | 5, _, hT => exact z_getI hd (by rw [hM]; exact fl_X0_177_12) hT rfl kk
  | 6, _, hT => exact z_getI hd (by rw [hM]; exact fl_X0_177_13) hT rfl kk
theorem c_X0_gainOf_20 {Γ : z_W} {h : z_H} {f : Nat → Nat → Int32} {l : Int32} (hF : z_F h) (hc : z_CA h f) (hm : z_cn (z_I h 49 0) 6) (hl : l = nI (z_c l) ∧ z_c l < z_c (z_I h 49 0)) : z_C Γ M_X0_gainOf (z_rm 32 0 0) [.ref 16, .ref 20, .int l] (z_cy h f) (z_rI (fun r h' => ∃ L, r = m_X6_gain (z_fy h (f 20 0) (f 20 1) (f 20 2)) l ∧ h' = z_cy h (z_lkf f L))) := by
  obtain ⟨c1, c2, c3, a, Cs, c4, c5, c6⟩ := hc
  have hl6 : l = nI (z_c l) ∧ z_c l < 6 := ⟨hl.1, by have := hl.2; have := hm.2; omega⟩
  obtain ⟨id, k, hid, hlf⟩ := c1 _ hl.2
  obtain ⟨h85, hk6, hkd, hTL, -, hn, hv, hmi, -⟩ := hlf
  have hAr := c5 (z_u (z_u (z_u (z_u (z_u (z_u f 25 0 l) 25 1 (nI k)) 25 2 (f 20 1 / 50)) 25 3 (m_J3_min h 99 (f 20 2 / 10))) 25 4 (z_I h id 2)) 25 5 (z_I h id 3 / 10)) rfl rfl
  refine z_C.of (by decide +kernel) rfl [some (.ref 16), some (.ref 20), some (.int l)] (Nat.le_of_ble_eq_true rfl) rfl ?_
  refine z_aload_n dX0_gainOf_0 rfl rfl ?_
  refine z_getR 25 dX0_gainOf_1 fl_X0_56_0 (hF.1 16 _ rfl) rfl (hF.2.1 16 11 25 rfl) ?_
  refine z_iload_n dX0_gainOf_4 rfl rfl ?_
  refine z_putI dX0_gainOf_5 (pl_X0_150_3 rfl) (hF.1 25 _ rfl) (by decide) rfl ?_
  refine z_meq (z_cy h (z_u f 25 0 l)) (z_cy_s (by decide)) ?_
  refine z_aload_n dX0_gainOf_8 rfl rfl ?_
  refine z_getR 25 dX0_gainOf_9 fl_X0_56_0 (hF.1 16 _ rfl) rfl (hF.2.1 16 11 25 rfl) ?_
  refine z_aload_n dX0_gainOf_12 rfl rfl ?_
  refine z_getR 17 dX0_gainOf_13 fl_X0_17_0 (hF.1 16 _ rfl) rfl (hF.2.1 16 0 17 rfl) ?_
  refine z_iload_n dX0_gainOf_16 rfl rfl ?_
  refine z_aald (z_c l) id dX0_gainOf_17 (hF.1 17 _ rfl) (by simp [z_at]) hl6.1 hl6.2 (by decide) hid ?_
  refine z_kind rfl hk6 hTL dX0_gainOf_18 (by decide) (Nat.le_of_ble_eq_true rfl) (Nat.le_refl _) (Nat.le_refl _) ?_
  refine z_putI dX0_gainOf_21 (pl_X0_157_3 rfl) (hF.1 25 _ rfl) (by decide) rfl ?_
  refine z_meq (z_cy h (z_u (z_u f 25 0 l) 25 1 (nI k))) (z_cy_s (by decide)) ?_
  refine z_aload_n dX0_gainOf_24 rfl rfl ?_
  refine z_getR 25 dX0_gainOf_25 fl_X0_56_0 (hF.1 16 _ rfl) rfl (hF.2.1 16 11 25 rfl) ?_
  refine z_aload_n dX0_gainOf_28 rfl rfl ?_
  refine z_getI dX0_gainOf_29 fl_X0_159_1 (hF.1 20 _ rfl) rfl ?_
  refine z_eqi (f 20 1) rfl ?_
  refine z_bipush (v := 50) dX0_gainOf_32 rfl ?_
  refine z_idiv dX0_gainOf_34 (by decide) ?_
  refine z_putI dX0_gainOf_35 (pl_X0_162_3 rfl) (hF.1 25 _ rfl) (by decide) rfl ?_
  refine z_meq (z_cy h (z_u (z_u (z_u f 25 0 l) 25 1 (nI k)) 25 2 ((f 20 1) / 50))) (z_cy_s (by decide)) ?_
  refine z_aload_n dX0_gainOf_38 rfl rfl ?_
  refine z_getR 25 dX0_gainOf_39 fl_X0_56_0 (hF.1 16 _ rfl) rfl (hF.2.1 16 11 25 rfl) ?_
  refine z_bipush (v := 99) dX0_gainOf_42 rfl ?_
  refine z_aload_n dX0_gainOf_44 rfl rfl ?_
  refine z_getI dX0_gainOf_45 fl_X0_163_1 (hF.1 20 _ rfl) rfl ?_
  refine z_eqi (f 20 2) rfl ?_
  refine z_bipush (v := 10) dX0_gainOf_48 rfl ?_
  refine z_idiv dX0_gainOf_50 (by decide) ?_
  refine z_scall sl_X0_166 (c_J3_min) dX0_gainOf_51 rfl rfl ⟨by decide, by decide⟩ (Nat.le_of_ble_eq_true rfl) (Nat.le_refl _) (Nat.le_refl _) (z_cI ?_) z_tI
  refine z_putI dX0_gainOf_54 (pl_X0_172_3 rfl) (hF.1 25 _ rfl) (by decide) rfl ?_
  refine z_meq (z_cy h (z_u (z_u (z_u (z_u f 25 0 l) 25 1 (nI k)) 25 2 ((f 20 1) / 50)) 25 3 (m_J3_min h 99 ((f 20 2) / 10)))) (z_cy_s (by decide)) ?_
  refine z_aload_n dX0_gainOf_57 rfl rfl ?_
  refine z_getR 25 dX0_gainOf_58 fl_X0_56_0 (hF.1 16 _ rfl) rfl (hF.2.1 16 11 25 rfl) ?_
  refine z_aload_n dX0_gainOf_61 rfl rfl ?_
  refine z_getR 17 dX0_gainOf_62 fl_X0_17_0 (hF.1 16 _ rfl) rfl (hF.2.1 16 0 17 rfl) ?_
  refine z_iload_n dX0_gainOf_65 rfl rfl ?_
  refine z_aald (z_c l) id dX0_gainOf_66 (hF.1 17 _ rfl) (by simp [z_at]) hl6.1 hl6.2 (by decide) hid ?_
  refine z_getv rfl hk6 hTL dX0_gainOf_67 <| z_eqi (z_I h id 2) (z_cy_hi h85) ?_
  refine z_putI dX0_gainOf_70 (pl_X0_176_3 rfl) (hF.1 25 _ rfl) (by decide) rfl ?_
  refine z_meq (z_cy h (z_u (z_u (z_u (z_u (z_u f 25 0 l) 25 1 (nI k)) 25 2 ((f 20 1) / 50)) 25 3 (m_J3_min h 99 ((f 20 2) / 10))) 25 4 (z_I h id 2))) (z_cy_s (by decide)) ?_
  refine z_aload_n dX0_gainOf_73 rfl rfl ?_
  refine z_getR 25 dX0_gainOf_74 fl_X0_56_0 (hF.1 16 _ rfl) rfl (hF.2.1 16 11 25 rfl) ?_
  refine z_aload_n dX0_gainOf_77 rfl rfl ?_
  refine z_getR 17 dX0_gainOf_78 fl_X0_17_0 (hF.1 16 _ rfl) rfl (hF.2.1 16 0 17 rfl) ?_
  refine z_iload_n dX0_gainOf_81 rfl rfl ?_
  refine z_aald (z_c l) id dX0_gainOf_82 (hF.1 17 _ rfl) (by simp [z_at]) hl6.1 hl6.2 (by decide) hid ?_
  refine z_getm rfl hk6 hTL dX0_gainOf_83 <| z_eqi (z_I h id 3) (z_cy_hi h85) ?_
  refine z_bipush (v := 10) dX0_gainOf_86 rfl ?_
  refine z_idiv dX0_gainOf_88 (by decide) ?_
  refine z_putI dX0_gainOf_89 (pl_X0_180_3 rfl) (hF.1 25 _ rfl) (by decide) rfl ?_
  refine z_meq (z_cy h (z_u (z_u (z_u (z_u (z_u (z_u f 25 0 l) 25 1 (nI k)) 25 2 ((f 20 1) / 50)) 25 3 (m_J3_min h 99 ((f 20 2) / 10))) 25 4 (z_I h id 2)) 25 5 ((z_I h id 3) / 10))) (z_cy_s (by decide)) ?_
  refine z_aload_n dX0_gainOf_92 rfl rfl ?_
  refine z_getR 18 dX0_gainOf_93 fl_X0_21_0 (hF.1 16 _ rfl) rfl (hF.2.1 16 1 18 rfl) ?_
  refine z_iload_n dX0_gainOf_96 rfl rfl ?_
  refine z_iald (z_c l) dX0_gainOf_97 (hF.1 18 _ rfl) hl6.1 hl6.2 (by decide) ?_
  refine z_eqi (f 18 (z_c l)) rfl ?_
  refine z_aload_n dX0_gainOf_98 rfl rfl ?_
  refine z_getR a dX0_gainOf_99 fl_X0_49_0 (hF.1 16 _ rfl) rfl c4 ?_
  refine z_aload_n dX0_gainOf_102 rfl rfl ?_
  refine z_getR 25 dX0_gainOf_103 fl_X0_56_0 (hF.1 16 _ rfl) rfl (hF.2.1 16 11 25 rfl) ?_
  have hLk : z_Lk (z_cy h (z_u (z_u (z_u (z_u (z_u (z_u f 25 0 l) 25 1 (nI k)) 25 2 (f 20 1 / 50)) 25 3 (m_J3_min h 99 (f 20 2 / 10))) 25 4 (z_I h id 2)) 25 5 (z_I h id 3 / 10))) (fun x => m_X6_factOf (z_fy h (f 20 0) (f 20 1) (f 20 2)) x l) := by
    intro q hq
    match q, hq with
    | 0, _ => rfl
    | 1, _ => exact hkd.symm
    | 2, _ => rfl
    | 3, _ => show m_J3_min h 99 (f 20 2 / 10) = if f 20 2 / 10 ≤ 99 then f 20 2 / 10 else 99; exact z_min99 _ _
    | 4, _ => exact hv
    | 5, _ => show z_I h id 3 / 10 = z_I h 52 (z_c l) / 10; rw [hmi]
  refine z_vcall vl_X0_181_2 (c_X2_more hAr (hF.1 25 _ rfl) hLk) dX0_gainOf_106 rfl rfl hAr.1 ⟨by decide, by decide⟩ (Nat.le_of_ble_eq_true rfl) (Nat.le_refl _) (Nat.le_refl _) (z_cI ?_) z_tI
  refine z_iadd dX0_gainOf_109 ?_
  refine z_iret dX0_gainOf_110 rfl rfl (Nat.le_refl _) (Nat.le_refl _) (z_rI_i ⟨fun q_ => (z_u (z_u (z_u (z_u (z_u (z_u f 25 0 l) 25 1 (nI k)) 25 2 (f 20 1 / 50)) 25 3 (m_J3_min h 99 (f 20 2 / 10))) 25 4 (z_I h id 2)) 25 5 (z_I h id 3 / 10)) 25 q_, ?_, ?_⟩)
  · rw [c2 _ hl6.2]
    exact a_gn_ms (ev := a_hv h) _ _ c6
  · refine congrArg (z_cy h) (funext fun a => funext fun j => ?_)
    unfold z_lkf
    by_cases e : a = 25
    · subst e; rw [if_pos rfl]
    · rw [if_neg e]
      show (if a = 25 ∧ j = 5 then _ else if a = 25 ∧ j = 4 then _ else if a = 25 ∧ j = 3 then _ else if a = 25 ∧ j = 2 then _ else if a = 25 ∧ j = 1 then _ else if a = 25 ∧ j = 0 then _ else f a j) = f a j
      rw [if_neg (fun q => e q.1), if_neg (fun q => e q.1), if_neg (fun q => e q.1), if_neg (fun q => e q.1), if_neg (fun q => e q.1), if_neg (fun q => e q.1)]
theorem c_X0_gainOf_21 {Γ : z_W} {h : z_H} {f : Nat → Nat → Int32} {l : Int32} (hF : z_F h) (hc : z_CA h f) (hm : z_cn (z_I h 49 0) 6) (hl : l = nI (z_c l) ∧ z_c l < z_c (z_I h 49 0)) : z_C Γ M_X0_gainOf (z_rm 32 0 0) [.ref 16, .ref 21, .int l] (z_cy h f) (z_rI (fun r h' => ∃ L, r = m_X6_gain (z_fy h (f 21 0) (f 21 1) (f 21 2)) l ∧ h' = z_cy h (z_lkf f L))) := by
  obtain ⟨c1, c2, c3, a, Cs, c4, c5, c6⟩ := hc
  have hl6 : l = nI (z_c l) ∧ z_c l < 6 := ⟨hl.1, by have := hl.2; have := hm.2; omega⟩
  obtain ⟨id, k, hid, hlf⟩ := c1 _ hl.2
  obtain ⟨h85, hk6, hkd, hTL, -, hn, hv, hmi, -⟩ := hlf
  have hAr := c5 (z_u (z_u (z_u (z_u (z_u (z_u f 25 0 l) 25 1 (nI k)) 25 2 (f 21 1 / 50)) 25 3 (m_J3_min h 99 (f 21 2 / 10))) 25 4 (z_I h id 2)) 25 5 (z_I h id 3 / 10)) rfl rfl
  refine z_C.of (by decide +kernel) rfl [some (.ref 16), some (.ref 21), some (.int l)] (Nat.le_of_ble_eq_true rfl) rfl ?_
  refine z_aload_n dX0_gainOf_0 rfl rfl ?_
  refine z_getR 25 dX0_gainOf_1 fl_X0_56_0 (hF.1 16 _ rfl) rfl (hF.2.1 16 11 25 rfl) ?_
  refine z_iload_n dX0_gainOf_4 rfl rfl ?_
  refine z_putI dX0_gainOf_5 (pl_X0_150_3 rfl) (hF.1 25 _ rfl) (by decide) rfl ?_
  refine z_meq (z_cy h (z_u f 25 0 l)) (z_cy_s (by decide)) ?_
  refine z_aload_n dX0_gainOf_8 rfl rfl ?_
  refine z_getR 25 dX0_gainOf_9 fl_X0_56_0 (hF.1 16 _ rfl) rfl (hF.2.1 16 11 25 rfl) ?_
  refine z_aload_n dX0_gainOf_12 rfl rfl ?_
  refine z_getR 17 dX0_gainOf_13 fl_X0_17_0 (hF.1 16 _ rfl) rfl (hF.2.1 16 0 17 rfl) ?_
  refine z_iload_n dX0_gainOf_16 rfl rfl ?_
  refine z_aald (z_c l) id dX0_gainOf_17 (hF.1 17 _ rfl) (by simp [z_at]) hl6.1 hl6.2 (by decide) hid ?_
  refine z_kind rfl hk6 hTL dX0_gainOf_18 (by decide) (Nat.le_of_ble_eq_true rfl) (Nat.le_refl _) (Nat.le_refl _) ?_
  refine z_putI dX0_gainOf_21 (pl_X0_157_3 rfl) (hF.1 25 _ rfl) (by decide) rfl ?_
  refine z_meq (z_cy h (z_u (z_u f 25 0 l) 25 1 (nI k))) (z_cy_s (by decide)) ?_
  refine z_aload_n dX0_gainOf_24 rfl rfl ?_
  refine z_getR 25 dX0_gainOf_25 fl_X0_56_0 (hF.1 16 _ rfl) rfl (hF.2.1 16 11 25 rfl) ?_
  refine z_aload_n dX0_gainOf_28 rfl rfl ?_
  refine z_getI dX0_gainOf_29 fl_X0_159_1 (hF.1 21 _ rfl) rfl ?_
  refine z_eqi (f 21 1) rfl ?_
  refine z_bipush (v := 50) dX0_gainOf_32 rfl ?_
  refine z_idiv dX0_gainOf_34 (by decide) ?_
  refine z_putI dX0_gainOf_35 (pl_X0_162_3 rfl) (hF.1 25 _ rfl) (by decide) rfl ?_
  refine z_meq (z_cy h (z_u (z_u (z_u f 25 0 l) 25 1 (nI k)) 25 2 ((f 21 1) / 50))) (z_cy_s (by decide)) ?_
  refine z_aload_n dX0_gainOf_38 rfl rfl ?_
  refine z_getR 25 dX0_gainOf_39 fl_X0_56_0 (hF.1 16 _ rfl) rfl (hF.2.1 16 11 25 rfl) ?_
  refine z_bipush (v := 99) dX0_gainOf_42 rfl ?_
  refine z_aload_n dX0_gainOf_44 rfl rfl ?_
  refine z_getI dX0_gainOf_45 fl_X0_163_1 (hF.1 21 _ rfl) rfl ?_
  refine z_eqi (f 21 2) rfl ?_
  refine z_bipush (v := 10) dX0_gainOf_48 rfl ?_
  refine z_idiv dX0_gainOf_50 (by decide) ?_
  refine z_scall sl_X0_166 (c_J3_min) dX0_gainOf_51 rfl rfl ⟨by decide, by decide⟩ (Nat.le_of_ble_eq_true rfl) (Nat.le_refl _) (Nat.le_refl _) (z_cI ?_) z_tI
  refine z_putI dX0_gainOf_54 (pl_X0_172_3 rfl) (hF.1 25 _ rfl) (by decide) rfl ?_
  refine z_meq (z_cy h (z_u (z_u (z_u (z_u f 25 0 l) 25 1 (nI k)) 25 2 ((f 21 1) / 50)) 25 3 (m_J3_min h 99 ((f 21 2) / 10)))) (z_cy_s (by decide)) ?_
  refine z_aload_n dX0_gainOf_57 rfl rfl ?_
  refine z_getR 25 dX0_gainOf_58 fl_X0_56_0 (hF.1 16 _ rfl) rfl (hF.2.1 16 11 25 rfl) ?_
  refine z_aload_n dX0_gainOf_61 rfl rfl ?_
  refine z_getR 17 dX0_gainOf_62 fl_X0_17_0 (hF.1 16 _ rfl) rfl (hF.2.1 16 0 17 rfl) ?_
  refine z_iload_n dX0_gainOf_65 rfl rfl ?_
  refine z_aald (z_c l) id dX0_gainOf_66 (hF.1 17 _ rfl) (by simp [z_at]) hl6.1 hl6.2 (by decide) hid ?_
  refine z_getv rfl hk6 hTL dX0_gainOf_67 <| z_eqi (z_I h id 2) (z_cy_hi h85) ?_
  refine z_putI dX0_gainOf_70 (pl_X0_176_3 rfl) (hF.1 25 _ rfl) (by decide) rfl ?_
  refine z_meq (z_cy h (z_u (z_u (z_u (z_u (z_u f 25 0 l) 25 1 (nI k)) 25 2 ((f 21 1) / 50)) 25 3 (m_J3_min h 99 ((f 21 2) / 10))) 25 4 (z_I h id 2))) (z_cy_s (by decide)) ?_
  refine z_aload_n dX0_gainOf_73 rfl rfl ?_
  refine z_getR 25 dX0_gainOf_74 fl_X0_56_0 (hF.1 16 _ rfl) rfl (hF.2.1 16 11 25 rfl) ?_
  refine z_aload_n dX0_gainOf_77 rfl rfl ?_
  refine z_getR 17 dX0_gainOf_78 fl_X0_17_0 (hF.1 16 _ rfl) rfl (hF.2.1 16 0 17 rfl) ?_
  refine z_iload_n dX0_gainOf_81 rfl rfl ?_
  refine z_aald (z_c l) id dX0_gainOf_82 (hF.1 17 _ rfl) (by simp [z_at]) hl6.1 hl6.2 (by decide) hid ?_
  refine z_getm rfl hk6 hTL dX0_gainOf_83 <| z_eqi (z_I h id 3) (z_cy_hi h85) ?_
  refine z_bipush (v := 10) dX0_gainOf_86 rfl ?_
  refine z_idiv dX0_gainOf_88 (by decide) ?_
  refine z_putI dX0_gainOf_89 (pl_X0_180_3 rfl) (hF.1 25 _ rfl) (by decide) rfl ?_
  refine z_meq (z_cy h (z_u (z_u (z_u (z_u (z_u (z_u f 25 0 l) 25 1 (nI k)) 25 2 ((f 21 1) / 50)) 25 3 (m_J3_min h 99 ((f 21 2) / 10))) 25 4 (z_I h id 2)) 25 5 ((z_I h id 3) / 10))) (z_cy_s (by decide)) ?_
  refine z_aload_n dX0_gainOf_92 rfl rfl ?_
  refine z_getR 18 dX0_gainOf_93 fl_X0_21_0 (hF.1 16 _ rfl) rfl (hF.2.1 16 1 18 rfl) ?_
  refine z_iload_n dX0_gainOf_96 rfl rfl ?_
  refine z_iald (z_c l) dX0_gainOf_97 (hF.1 18 _ rfl) hl6.1 hl6.2 (by decide) ?_
  refine z_eqi (f 18 (z_c l)) rfl ?_
  refine z_aload_n dX0_gainOf_98 rfl rfl ?_
  refine z_getR a dX0_gainOf_99 fl_X0_49_0 (hF.1 16 _ rfl) rfl c4 ?_
  refine z_aload_n dX0_gainOf_102 rfl rfl ?_
  refine z_getR 25 dX0_gainOf_103 fl_X0_56_0 (hF.1 16 _ rfl) rfl (hF.2.1 16 11 25 rfl) ?_
  have hLk : z_Lk (z_cy h (z_u (z_u (z_u (z_u (z_u (z_u f 25 0 l) 25 1 (nI k)) 25 2 (f 21 1 / 50)) 25 3 (m_J3_min h 99 (f 21 2 / 10))) 25 4 (z_I h id 2)) 25 5 (z_I h id 3 / 10))) (fun x => m_X6_factOf (z_fy h (f 21 0) (f 21 1) (f 21 2)) x l) := by
    intro q hq
    match q, hq with
    | 0, _ => rfl
    | 1, _ => exact hkd.symm
    | 2, _ => rfl
    | 3, _ => show m_J3_min h 99 (f 21 2 / 10) = if f 21 2 / 10 ≤ 99 then f 21 2 / 10 else 99; exact z_min99 _ _
    | 4, _ => exact hv
    | 5, _ => show z_I h id 3 / 10 = z_I h 52 (z_c l) / 10; rw [hmi]
  refine z_vcall vl_X0_181_2 (c_X2_more hAr (hF.1 25 _ rfl) hLk) dX0_gainOf_106 rfl rfl hAr.1 ⟨by decide, by decide⟩ (Nat.le_of_ble_eq_true rfl) (Nat.le_refl _) (Nat.le_refl _) (z_cI ?_) z_tI
  refine z_iadd dX0_gainOf_109 ?_
  refine z_iret dX0_gainOf_110 rfl rfl (Nat.le_refl _) (Nat.le_refl _) (z_rI_i ⟨fun q_ => (z_u (z_u (z_u (z_u (z_u (z_u f 25 0 l) 25 1 (nI k)) 25 2 (f 21 1 / 50)) 25 3 (m_J3_min h 99 (f 21 2 / 10))) 25 4 (z_I h id 2)) 25 5 (z_I h id 3 / 10)) 25 q_, ?_, ?_⟩)
  · rw [c2 _ hl6.2]
    exact a_gn_ms (ev := a_hv h) _ _ c6
  · refine congrArg (z_cy h) (funext fun a => funext fun j => ?_)
    unfold z_lkf
    by_cases e : a = 25
    · subst e; rw [if_pos rfl]
    · rw [if_neg e]
      show (if a = 25 ∧ j = 5 then _ else if a = 25 ∧ j = 4 then _ else if a = 25 ∧ j = 3 then _ else if a = 25 ∧ j = 2 then _ else if a = 25 ∧ j = 1 then _ else if a = 25 ∧ j = 0 then _ else f a j) = f a j
      rw [if_neg (fun q => e q.1), if_neg (fun q => e q.1), if_neg (fun q => e q.1), if_neg (fun q => e q.1), if_neg (fun q => e q.1), if_neg (fun q => e q.1)]
theorem z_lkf_2 (f : Nat → Nat → Int32) (L K : Nat → Int32) : z_lkf (z_lkf f L) K = z_lkf f K := funext fun a => funext fun k => by unfold z_lkf; split <;> rfl
theorem c_X0_climbOf_20 {Γ : z_W} {h : z_H} {f : Nat → Nat → Int32} {l : Int32} {B : Nat} (hk0 : z_ok h) (hc : z_CA h f) (hl : l = nI (z_c l) ∧ z_c l < z_c (z_I h 49 0)) (hmi0 : z_cn (f 20 2) B) (hB : B < 2 ^ 31) : z_C Γ M_X0_climbOf (z_rm 33 0 0) [.ref 16, .ref 20, .int l] (z_cy h f) (z_rI (fun r h' => ∃ L, r = a_cl h l (f 20 0) (f 20 1) (f 20 2) ∧ h' = z_cy h (z_lkf f L))) := by
  obtain ⟨hF, -, hm, hvs, -⟩ := id hk0
  obtain ⟨c1, c2, c3, -⟩ := id hc
  have hl6 : l = nI (z_c l) ∧ z_c l < 6 := ⟨hl.1, by have := hl.2; have := hm.2; omega⟩
  obtain ⟨id, k, hid, hlf⟩ := c1 _ hl.2
  obtain ⟨h85, hk6, hkd, hTL, -, hn, hv, hmi, h46⟩ := hlf
  refine z_C.of (by decide +kernel) rfl [some (.ref 16), some (.ref 20), some (.int l)] (Nat.le_of_ble_eq_true rfl) rfl ?_
  refine z_aload_n dX0_climbOf_0 rfl rfl ?_
  refine z_getR 17 dX0_climbOf_1 fl_X0_17_0 (hF.1 16 _ rfl) rfl (hF.2.1 16 0 17 rfl) ?_
  refine z_iload_n dX0_climbOf_4 rfl rfl ?_
  refine z_aald (z_c l) id dX0_climbOf_5 (hF.1 17 _ rfl) (by simp [z_at]) hl6.1 hl6.2 (by decide) hid ?_
  refine z_aload_n dX0_climbOf_6 rfl rfl ?_
  refine z_aload_n dX0_climbOf_7 rfl rfl ?_
  refine z_iload_n dX0_climbOf_8 rfl rfl ?_
  refine z_vcall vl_X0_185_0 (c_X0_gainOf_20 hF hc hm hl) dX0_climbOf_9 rfl rfl (hF.1 16 _ rfl) ⟨by decide, by decide⟩ (Nat.le_of_ble_eq_true rfl) (Nat.le_refl _) (Nat.le_refl _) (z_cPI (fun r h' hq => ?_)) z_tPI
  obtain ⟨L1, rfl, rfl⟩ := hq
  refine z_aload_n dX0_climbOf_12 rfl rfl ?_
  refine z_getI dX0_climbOf_13 fl_X0_159_1 (hF.1 20 _ rfl) rfl ?_
  refine z_eqi (f 20 1) rfl ?_
  refine z_aload_n dX0_climbOf_16 rfl rfl ?_
  refine z_getI dX0_climbOf_17 fl_X0_163_1 (hF.1 20 _ rfl) rfl ?_
  refine z_eqi (f 20 2) rfl ?_
  refine z_climb rfl hk6 hTL h46 (hF.1 19 _ rfl) ⟨by rw [z_cy_hi h85, hn]; unfold z_c; rw [nI_clamp (by have := hl6.2; unfold z_c at this; omega)], by rw [z_cy_hi h85, hn]; unfold z_c; rw [nI_clamp (by have := hl6.2; unfold z_c at this; omega)]; exact hl6.2⟩ (by rw [z_cy_hi h85, hv]; exact z_v2 (hvs _ hl.2)) hmi0 hB dX0_climbOf_20 (by decide) (Nat.le_of_ble_eq_true rfl) (Nat.le_refl _) (Nat.le_refl _) ?_
  refine z_iret dX0_climbOf_23 rfl rfl (Nat.le_refl _) (Nat.le_refl _) (z_rI_i ⟨L1, ?_, rfl⟩)
  rw [z_cy_hi h85, z_cy_hi h85, hn, hv]
  have e19 : z_I (z_cy h (z_lkf f L1)) 19 (4 * z_c (nI (z_c l)) + z_c (f 20 2) % 4) = z_I h 54 (4 * z_c l + z_c (f 20 2) % 4) := by
    rw [← hl6.1]
    exact c3 _ (by have := hl6.2; have := Nat.mod_lt (z_c (f 20 2)) (show 4 > 0 by decide); omega)
  rw [e19]
  exact a_cb_cl hk6 hkd
theorem c_X0_climbOf_21 {Γ : z_W} {h : z_H} {f : Nat → Nat → Int32} {l : Int32} {B : Nat} (hk0 : z_ok h) (hc : z_CA h f) (hl : l = nI (z_c l) ∧ z_c l < z_c (z_I h 49 0)) (hmi0 : z_cn (f 21 2) B) (hB : B < 2 ^ 31) : z_C Γ M_X0_climbOf (z_rm 33 0 0) [.ref 16, .ref 21, .int l] (z_cy h f) (z_rI (fun r h' => ∃ L, r = a_cl h l (f 21 0) (f 21 1) (f 21 2) ∧ h' = z_cy h (z_lkf f L))) := by
  obtain ⟨hF, -, hm, hvs, -⟩ := id hk0
  obtain ⟨c1, c2, c3, -⟩ := id hc
  have hl6 : l = nI (z_c l) ∧ z_c l < 6 := ⟨hl.1, by have := hl.2; have := hm.2; omega⟩
  obtain ⟨id, k, hid, hlf⟩ := c1 _ hl.2
  obtain ⟨h85, hk6, hkd, hTL, -, hn, hv, hmi, h46⟩ := hlf
  refine z_C.of (by decide +kernel) rfl [some (.ref 16), some (.ref 21), some (.int l)] (Nat.le_of_ble_eq_true rfl) rfl ?_
  refine z_aload_n dX0_climbOf_0 rfl rfl ?_
  refine z_getR 17 dX0_climbOf_1 fl_X0_17_0 (hF.1 16 _ rfl) rfl (hF.2.1 16 0 17 rfl) ?_
  refine z_iload_n dX0_climbOf_4 rfl rfl ?_
  refine z_aald (z_c l) id dX0_climbOf_5 (hF.1 17 _ rfl) (by simp [z_at]) hl6.1 hl6.2 (by decide) hid ?_
  refine z_aload_n dX0_climbOf_6 rfl rfl ?_
  refine z_aload_n dX0_climbOf_7 rfl rfl ?_
  refine z_iload_n dX0_climbOf_8 rfl rfl ?_
  refine z_vcall vl_X0_185_0 (c_X0_gainOf_21 hF hc hm hl) dX0_climbOf_9 rfl rfl (hF.1 16 _ rfl) ⟨by decide, by decide⟩ (Nat.le_of_ble_eq_true rfl) (Nat.le_refl _) (Nat.le_refl _) (z_cPI (fun r h' hq => ?_)) z_tPI
  obtain ⟨L1, rfl, rfl⟩ := hq
  refine z_aload_n dX0_climbOf_12 rfl rfl ?_
  refine z_getI dX0_climbOf_13 fl_X0_159_1 (hF.1 21 _ rfl) rfl ?_
  refine z_eqi (f 21 1) rfl ?_
  refine z_aload_n dX0_climbOf_16 rfl rfl ?_
  refine z_getI dX0_climbOf_17 fl_X0_163_1 (hF.1 21 _ rfl) rfl ?_
  refine z_eqi (f 21 2) rfl ?_
  refine z_climb rfl hk6 hTL h46 (hF.1 19 _ rfl) ⟨by rw [z_cy_hi h85, hn]; unfold z_c; rw [nI_clamp (by have := hl6.2; unfold z_c at this; omega)], by rw [z_cy_hi h85, hn]; unfold z_c; rw [nI_clamp (by have := hl6.2; unfold z_c at this; omega)]; exact hl6.2⟩ (by rw [z_cy_hi h85, hv]; exact z_v2 (hvs _ hl.2)) hmi0 hB dX0_climbOf_20 (by decide) (Nat.le_of_ble_eq_true rfl) (Nat.le_refl _) (Nat.le_refl _) ?_
  refine z_iret dX0_climbOf_23 rfl rfl (Nat.le_refl _) (Nat.le_refl _) (z_rI_i ⟨L1, ?_, rfl⟩)
  rw [z_cy_hi h85, z_cy_hi h85, hn, hv]
  have e19 : z_I (z_cy h (z_lkf f L1)) 19 (4 * z_c (nI (z_c l)) + z_c (f 21 2) % 4) = z_I h 54 (4 * z_c l + z_c (f 21 2) % 4) := by
    rw [← hl6.1]
    exact c3 _ (by have := hl6.2; have := Nat.mod_lt (z_c (f 21 2)) (show 4 > 0 by decide); omega)
  rw [e19]
  exact a_cb_cl hk6 hkd
