/-! THE CLASS: enter, turn, glide (printed by class18.py) -/
set_option maxRecDepth 20000
def v_X0_enter (h : z_H) (f : Nat → Nat → Int32) (l : Int32) : Int32 := if m_X6_isLift h l then (if z_I h 52 (z_c l) = f 20 0 then a_cl h l (f 20 0) (f 20 1) (f 20 2) else -1002) else -1001
def g_X0_enter (h : z_H) (f : Nat → Nat → Int32) (l : Int32) : Nat → Nat → Int32 := if m_X6_isLift h l then (if z_I h 52 (z_c l) = f 20 0 then z_u f 20 3 l else f) else f
theorem c_X0_enter {Γ : z_W} {h : z_H} {f : Nat → Nat → Int32} {l : Int32} (hS : z_S h f)  : z_C Γ M_X0_enter (z_rm 34 0 0) [.ref 16, .int l] (z_cy h f) (z_ask h (g_X0_enter h f l) (v_X0_enter h f l)) := by
  obtain ⟨hS3, hS6, hm99, hh4, hmi, hk, hb, hc⟩ := id hS
  obtain ⟨hF, ha, hm, hvs, hws, hho⟩ := id hk
  obtain ⟨c1, -, -, a, Cs, c4, c5x, -⟩ := id hc
  refine z_C.of (by decide +kernel) rfl [some (.ref 16), some (.int l)] (Nat.le_of_ble_eq_true rfl) rfl ?_
  refine z_aload_n dX0_enter_0 rfl rfl ?_
  refine z_iload_n dX0_enter_1 rfl rfl ?_
  refine z_vcall vl_X0_193_0 (c_X0_isLift hF hS3) dX0_enter_2 rfl rfl (hF.1 16 _ rfl) ⟨by decide, by decide⟩ (Nat.le_of_ble_eq_true rfl) (Nat.le_refl _) (Nat.le_refl _) (z_cI ?_) z_tI
  refine z_bif_ne 12 dX0_enter_5 (by decide) (fun c5 => ?_) (fun c5 => ?_)
  · have hl := z_ix hm (by decide) c5
    have hl6 : l = nI (z_c l) ∧ z_c l < 6 := ⟨hl.1, by have := hl.2; have := hm.2; omega⟩
    obtain ⟨id, k, hid, hlf⟩ := c1 _ hl.2
    obtain ⟨h85, hk6, hkd, hTL, -, hn1, hvL, hmL, h46⟩ := hlf
    refine z_aload_n dX0_enter_12 rfl rfl ?_
    refine z_getR 17 dX0_enter_13 fl_X0_17_0 (hF.1 16 _ rfl) rfl (hF.2.1 16 0 17 rfl) ?_
    refine z_iload_n dX0_enter_16 rfl rfl ?_
    refine z_aald (z_c l) id dX0_enter_17 (hF.1 17 _ rfl) (by simp [z_at]) hl6.1 hl6.2 (by decide) hid ?_
    refine z_getm rfl hk6 hTL dX0_enter_18 <| z_eqi (z_I h 52 (z_c l)) (by rw [z_cy_hi h85, hmL]) ?_
    refine z_aload_n dX0_enter_21 rfl rfl ?_
    refine z_getR 20 dX0_enter_22 fl_X0_31_0 (hF.1 16 _ rfl) rfl (hF.2.1 16 4 20 rfl) ?_
    refine z_getI dX0_enter_25 fl_X0_218_1 (hF.1 20 _ rfl) rfl ?_
    refine z_eqi (f 20 0) rfl ?_
    refine z_icmp_eq 35 dX0_enter_28 (by decide) (fun c28 => ?_) (fun c28 => ?_)
    · refine z_aload_n dX0_enter_35 rfl rfl ?_
      refine z_getR 20 dX0_enter_36 fl_X0_31_0 (hF.1 16 _ rfl) rfl (hF.2.1 16 4 20 rfl) ?_
      refine z_iload_n dX0_enter_39 rfl rfl ?_
      refine z_putI dX0_enter_40 (pl_X0_219_1 rfl) (hF.1 20 _ rfl) (by decide) rfl ?_
      refine z_meq (z_cy h (z_u f 20 3 l)) (z_cy_s (by decide)) ?_
      refine z_aload_n dX0_enter_43 rfl rfl ?_
      refine z_aload_n dX0_enter_44 rfl rfl ?_
      refine z_getR 20 dX0_enter_45 fl_X0_31_0 (hF.1 16 _ rfl) rfl (hF.2.1 16 4 20 rfl) ?_
      refine z_iload_n dX0_enter_48 rfl rfl ?_
      refine z_vcall vl_X0_196_0 (c_X0_climbOf_20 (f := z_u f 20 3 l) hk (hc.fm rfl rfl rfl rfl) hl hmi (by decide)) dX0_enter_49 rfl rfl (hF.1 16 _ rfl) ⟨by decide, by decide⟩ (Nat.le_of_ble_eq_true rfl) (Nat.le_refl _) (Nat.le_refl _) (z_cPI (fun r h' hq => ?_)) z_tPI
      obtain ⟨L1, rfl, rfl⟩ := hq
      refine z_iret dX0_enter_52 rfl rfl (Nat.le_refl _) (Nat.le_refl _) (z_ask_i ?_ ?_)
      · unfold v_X0_enter; rw [if_pos (show m_X6_isLift h l from c5), if_pos (show (z_I h 52 (z_c l)) = (f 20 0) from c28)]; rfl
      · unfold g_X0_enter; rw [if_pos (show m_X6_isLift h l from c5), if_pos (show (z_I h 52 (z_c l)) = (f 20 0) from c28)]; exact (z_fm.refl _ _).lk
    · refine z_sipush (v := (-1002)) dX0_enter_31 rfl ?_
      refine z_iret dX0_enter_34 rfl rfl (Nat.le_refl _) (Nat.le_refl _) (z_ask_i ?_ ?_)
      · unfold v_X0_enter; rw [if_pos (show m_X6_isLift h l from c5), if_neg (show ¬ ((z_I h 52 (z_c l)) = (f 20 0)) from c28)]
      · unfold g_X0_enter; rw [if_pos (show m_X6_isLift h l from c5), if_neg (show ¬ ((z_I h 52 (z_c l)) = (f 20 0)) from c28)]; exact z_fm.refl _ _
  · refine z_sipush (v := (-1001)) dX0_enter_8 rfl ?_
    refine z_iret dX0_enter_11 rfl rfl (Nat.le_refl _) (Nat.le_refl _) (z_ask_i ?_ ?_)
    · unfold v_X0_enter; rw [if_neg (show ¬ (m_X6_isLift h l) from c5)]
    · unfold g_X0_enter; rw [if_neg (show ¬ (m_X6_isLift h l) from c5)]; exact z_fm.refl _ _
theorem z_fm.tk20 {f : Nat → Nat → Int32} {hi mi : Int32} {L : Nat → Int32} : z_fm z_cn0 (z_u (z_u f 20 1 hi) 20 2 mi) (z_tk f 20 hi mi L) := by
  intro a k hn
  unfold z_tk z_u
  rw [if_neg (fun q => hn (Or.inr (Or.inl q)))]
  by_cases e1 : a = 20 ∧ k = 1
  · rw [if_pos e1, if_neg (by omega), if_pos e1]
  · rw [if_neg e1]
    by_cases e2 : a = 20 ∧ k = 2
    · rw [if_pos e2, if_pos e2]
    · rw [if_neg e2, if_neg e2, if_neg e1]
def v_X0_turn (h : z_H) (f : Nat → Nat → Int32) (n : Int32) : Int32 := if z_in n 0 60 then (if f 20 3 = -1 then -3 else if f 20 2 + n ≤ 9999 then (a_it h (f 20 3) (f 20 0) (f 20 1) (f 20 2) (z_c n)).1 else -3) else -2
def g_X0_turn (h : z_H) (f : Nat → Nat → Int32) (n : Int32) : Nat → Nat → Int32 := if z_in n 0 60 then (if f 20 3 = -1 then f else if f 20 2 + n ≤ 9999 then z_u (z_u f 20 1 (a_it h (f 20 3) (f 20 0) (f 20 1) (f 20 2) (z_c n)).1) 20 2 (a_it h (f 20 3) (f 20 0) (f 20 1) (f 20 2) (z_c n)).2 else f) else f
theorem c_X0_turn {Γ : z_W} {h : z_H} {f : Nat → Nat → Int32} {n : Int32} (hS : z_S h f) (hin2 : ¬ f 20 3 = -1 → f 20 3 = nI (z_c (f 20 3)) ∧ z_c (f 20 3) < z_c (z_I h 49 0)) : z_C Γ M_X0_turn (z_rm 35 0 0) [.ref 16, .int n] (z_cy h f) (z_ask h (g_X0_turn h f n) (v_X0_turn h f n)) := by
  obtain ⟨hS3, hS6, hm99, hh4, hmi, hk, hb, hc⟩ := id hS
  obtain ⟨hF, ha, hm, hvs, hws, hho⟩ := id hk
  refine z_C.of (by decide +kernel) rfl [some (.ref 16), some (.int n)] (Nat.le_of_ble_eq_true rfl) rfl ?_
  refine z_iload_n dX0_turn_0 rfl rfl ?_
  refine z_iconst (v := 0) dX0_turn_1 rfl ?_
  refine z_bipush (v := 60) dX0_turn_2 rfl ?_
  refine z_scall sl_X0_5 (c_X0_in) dX0_turn_4 rfl rfl ⟨by decide, by decide⟩ (Nat.le_of_ble_eq_true rfl) (Nat.le_refl _) (Nat.le_refl _) (z_cI ?_) z_tI
  refine z_bif_ne 13 dX0_turn_7 (by decide) (fun c7 => ?_) (fun c7 => ?_)
  · have hn := z_pl2 (n := 60) rfl (by decide) c7
    refine z_aload_n dX0_turn_13 rfl rfl ?_
    refine z_getR 20 dX0_turn_14 fl_X0_31_0 (hF.1 16 _ rfl) rfl (hF.2.1 16 4 20 rfl) ?_
    refine z_getI dX0_turn_17 fl_X0_219_1 (hF.1 20 _ rfl) rfl ?_
    refine z_eqi (f 20 3) rfl ?_
    refine z_iconst (v := (-1)) dX0_turn_20 rfl ?_
    refine z_icmp_eq 39 dX0_turn_21 (by decide) (fun c21 => ?_) (fun c21 => ?_)
    · refine z_bipush (v := (-3)) dX0_turn_39 rfl ?_
      refine z_iret dX0_turn_41 rfl rfl (Nat.le_refl _) (Nat.le_refl _) (z_ask_i ?_ ?_)
      · unfold v_X0_turn; rw [if_pos (show z_in n 0 60 from c7), if_pos (show (f 20 3) = (-1) from c21)]
      · unfold g_X0_turn; rw [if_pos (show z_in n 0 60 from c7), if_pos (show (f 20 3) = (-1) from c21)]; exact z_fm.refl _ _
    · refine z_aload_n dX0_turn_24 rfl rfl ?_
      refine z_getR 20 dX0_turn_25 fl_X0_31_0 (hF.1 16 _ rfl) rfl (hF.2.1 16 4 20 rfl) ?_
      refine z_getI dX0_turn_28 fl_X0_163_1 (hF.1 20 _ rfl) rfl ?_
      refine z_eqi (f 20 2) rfl ?_
      refine z_iload_n dX0_turn_31 rfl rfl ?_
      refine z_iadd dX0_turn_32 ?_
      refine z_sipush (v := 9999) dX0_turn_33 rfl ?_
      refine z_icmp_le 42 dX0_turn_36 (by decide) (fun c36 => ?_) (fun c36 => ?_)
      · refine z_aload_n dX0_turn_42 rfl rfl ?_
        refine z_aload_n dX0_turn_43 rfl rfl ?_
        refine z_getR 20 dX0_turn_44 fl_X0_31_0 (hF.1 16 _ rfl) rfl (hF.2.1 16 4 20 rfl) ?_
        refine z_aload_n dX0_turn_47 rfl rfl ?_
        refine z_getR 20 dX0_turn_48 fl_X0_31_0 (hF.1 16 _ rfl) rfl (hF.2.1 16 4 20 rfl) ?_
        refine z_getI dX0_turn_51 fl_X0_219_1 (hF.1 20 _ rfl) rfl ?_
        refine z_eqi (f 20 3) rfl ?_
        refine z_iload_n dX0_turn_54 rfl rfl ?_
        have hl := hin2 c21
        refine z_eqi (nI (z_c n)) hn.1 ?_
        refine z_vcall vl_X0_231_0 (c_X0_turns_20 hk hb hc hl hh4 hmi hn.2 (by decide)) dX0_turn_55 rfl rfl (hF.1 16 _ rfl) ⟨by decide, by decide⟩ (Nat.le_of_ble_eq_true rfl) (Nat.le_refl _) (Nat.le_refl _) (z_cPV (fun h' hq => ?_)) z_tPV
        obtain ⟨L1, rfl⟩ := hq
        refine z_aload_n dX0_turn_58 rfl rfl ?_
        refine z_getR 20 dX0_turn_59 fl_X0_31_0 (hF.1 16 _ rfl) rfl (hF.2.1 16 4 20 rfl) ?_
        refine z_getI dX0_turn_62 fl_X0_159_1 (hF.1 20 _ rfl) rfl ?_
        refine z_eqi ((a_it h (f 20 3) (f 20 0) (f 20 1) (f 20 2) (z_c n)).1) rfl ?_
        refine z_iret dX0_turn_65 rfl rfl (Nat.le_refl _) (Nat.le_refl _) (z_ask_i ?_ ?_)
        · unfold v_X0_turn; rw [if_pos (show z_in n 0 60 from c7), if_neg (show ¬ ((f 20 3) = (-1)) from c21), if_pos (show ((f 20 2) + n) ≤ 9999 from c36)]
        · unfold g_X0_turn; rw [if_pos (show z_in n 0 60 from c7), if_neg (show ¬ ((f 20 3) = (-1)) from c21), if_pos (show ((f 20 2) + n) ≤ 9999 from c36)]; exact z_fm.tk20
      · refine z_bipush (v := (-3)) dX0_turn_39 rfl ?_
        refine z_iret dX0_turn_41 rfl rfl (Nat.le_refl _) (Nat.le_refl _) (z_ask_i ?_ ?_)
        · unfold v_X0_turn; rw [if_pos (show z_in n 0 60 from c7), if_neg (show ¬ ((f 20 3) = (-1)) from c21), if_neg (show ¬ (((f 20 2) + n) ≤ 9999) from c36)]
        · unfold g_X0_turn; rw [if_pos (show z_in n 0 60 from c7), if_neg (show ¬ ((f 20 3) = (-1)) from c21), if_neg (show ¬ (((f 20 2) + n) ≤ 9999) from c36)]; exact z_fm.refl _ _
  · refine z_bipush (v := (-2)) dX0_turn_10 rfl ?_
    refine z_iret dX0_turn_12 rfl rfl (Nat.le_refl _) (Nat.le_refl _) (z_ask_i ?_ ?_)
    · unfold v_X0_turn; rw [if_neg (show ¬ (z_in n 0 60) from c7)]
    · unfold g_X0_turn; rw [if_neg (show ¬ (z_in n 0 60) from c7)]; exact z_fm.refl _ _
theorem z_gl20 {f : Nat → Nat → Int32} {m hi mi x a b c d : Int32} {L : Nat → Int32} : z_fm z_cn0 (z_u (z_u (z_u (z_u f 20 0 a) 20 1 b) 20 2 c) 20 3 d) (z_u (z_u (z_u (z_u (z_t1 f m hi mi x L) 20 0 a) 20 1 b) 20 2 c) 20 3 d) := by
  intro u k hn
  unfold z_u
  repeat' split
  all_goals first | rfl | exact z_t1_n (fun q => hn (Or.inr (Or.inl q))) (fun q => hn (Or.inl q))
def v_X0_glide (h : z_H) (f : Nat → Nat → Int32) (x p : Int32) : Int32 := if m_X0_isGlide h x p then (if ¬ (f 20 1 - m_X6_falls h (f 20 0) x p < 0) then (if f 20 2 + m_X6_apart h (f 20 0) x * (10 - p) ≤ 9999 then f 20 1 - m_X6_falls h (f 20 0) x p else -3) else -3) else -2
def g_X0_glide (h : z_H) (f : Nat → Nat → Int32) (x p : Int32) : Nat → Nat → Int32 := if m_X0_isGlide h x p then (if ¬ (f 20 1 - m_X6_falls h (f 20 0) x p < 0) then (if f 20 2 + m_X6_apart h (f 20 0) x * (10 - p) ≤ 9999 then z_u (z_u (z_u (z_u f 20 0 x) 20 1 (f 20 1 - m_X6_falls h (f 20 0) x p)) 20 2 (f 20 2 + m_X6_apart h (f 20 0) x * (10 - p))) 20 3 (-1) else f) else f) else f
theorem c_X0_glide {Γ : z_W} {h : z_H} {f : Nat → Nat → Int32} {x p : Int32} (hS : z_S h f) : z_C Γ M_X0_glide (z_rm 5 0 0) [.ref 16, .int x, .int p] (z_cy h f) (z_ask h (g_X0_glide h f x p) (v_X0_glide h f x p)) := by
  obtain ⟨hS3, hS6, hm99, hh4, hmi, hk, hb, hc⟩ := id hS
  obtain ⟨hF, ha, hm, hvs, hws, hho⟩ := id hk
  refine z_C.of (by decide +kernel) rfl [some (.ref 16), some (.int x), some (.int p)] (Nat.le_of_ble_eq_true rfl) rfl ?_
  refine z_meq (z_cy h (z_t1 f (f 21 0) (f 21 1) (f 21 2) (f 21 3) (f 25))) (congrArg (z_cy h) (z_t1_0 f)) ?_
  refine z_iload_n dX0_glide_0 rfl rfl ?_
  refine z_iload_n dX0_glide_1 rfl rfl ?_
  refine z_scall sl_X0_238 (c_X0_isGlide) dX0_glide_2 rfl rfl ⟨by decide, by decide⟩ (Nat.le_of_ble_eq_true rfl) (Nat.le_refl _) (Nat.le_refl _) (z_cI ?_) z_tI
  refine z_bif_ne 11 dX0_glide_5 (by decide) (fun c5 => ?_) (fun c5 => ?_)
  · refine z_aload_n dX0_glide_11 rfl rfl ?_
    refine z_getR 21 dX0_glide_12 fl_X0_35_0 (hF.1 16 _ rfl) rfl (hF.2.1 16 5 21 rfl) ?_
    refine z_aload_n dX0_glide_15 rfl rfl ?_
    refine z_getR 20 dX0_glide_16 fl_X0_31_0 (hF.1 16 _ rfl) rfl (hF.2.1 16 4 20 rfl) ?_
    refine z_vcall vl_X0_242_1 (t_takes hF) dX0_glide_19 rfl rfl (hF.1 21 _ rfl) ⟨by decide, by decide⟩ (Nat.le_of_ble_eq_true rfl) (Nat.le_refl _) (Nat.le_refl _) (z_cV ?_) z_tV
    refine z_aload_n dX0_glide_22 rfl rfl ?_
    refine z_getR 21 dX0_glide_23 fl_X0_35_0 (hF.1 16 _ rfl) rfl (hF.2.1 16 5 21 rfl) ?_
    refine z_iload_n dX0_glide_26 rfl rfl ?_
    refine z_iload_n dX0_glide_27 rfl rfl ?_
    by_cases g28 : ¬ (f 20 1 - m_X6_falls h (f 20 0) x p < 0)
    · refine z_vcall vl_X0_246_1 (t_gl_y hF hm99 c5.1 g28) dX0_glide_28 rfl rfl (hF.1 21 _ rfl) ⟨by decide, by decide⟩ (Nat.le_of_ble_eq_true rfl) (Nat.le_refl _) (Nat.le_refl _) (z_cI ?_) z_tI
      refine z_if_eq 47 dX0_glide_31 (by decide) (fun q => absurd q (by decide)) (fun _ => ?_)
      refine z_aload_n dX0_glide_34 rfl rfl ?_
      refine z_getR 21 dX0_glide_35 fl_X0_35_0 (hF.1 16 _ rfl) rfl (hF.2.1 16 5 21 rfl) ?_
      refine z_getI dX0_glide_38 fl_X0_163_1 (hF.1 21 _ rfl) rfl ?_
      refine z_eqi (f 20 2 + m_X6_apart h (f 20 0) x * (10 - p)) rfl ?_
      refine z_sipush (v := 9999) dX0_glide_41 rfl ?_
      refine z_icmp_le 50 dX0_glide_44 (by decide) (fun c44 => ?_) (fun c44 => ?_)
      · refine z_aload_n dX0_glide_50 rfl rfl ?_
        refine z_getR 20 dX0_glide_51 fl_X0_31_0 (hF.1 16 _ rfl) rfl (hF.2.1 16 4 20 rfl) ?_
        refine z_aload_n dX0_glide_54 rfl rfl ?_
        refine z_getR 21 dX0_glide_55 fl_X0_35_0 (hF.1 16 _ rfl) rfl (hF.2.1 16 5 21 rfl) ?_
        refine z_vcall vl_X0_242_1 (c_X1_takes_20_21 hF) dX0_glide_58 rfl rfl (hF.1 20 _ rfl) ⟨by decide, by decide⟩ (Nat.le_of_ble_eq_true rfl) (Nat.le_refl _) (Nat.le_refl _) (z_cV ?_) z_tV
        refine z_aload_n dX0_glide_61 rfl rfl ?_
        refine z_getR 20 dX0_glide_62 fl_X0_31_0 (hF.1 16 _ rfl) rfl (hF.2.1 16 4 20 rfl) ?_
        refine z_getI dX0_glide_65 fl_X0_159_1 (hF.1 20 _ rfl) rfl ?_
        refine z_eqi (f 20 1 - m_X6_falls h (f 20 0) x p) rfl ?_
        refine z_iret dX0_glide_68 rfl rfl (Nat.le_refl _) (Nat.le_refl _) (z_ask_i ?_ ?_)
        · unfold v_X0_glide; rw [if_pos (show m_X0_isGlide h x p from c5), if_pos (show ¬ (f 20 1 - m_X6_falls h (f 20 0) x p < 0) from g28), if_pos (show (f 20 2 + m_X6_apart h (f 20 0) x * (10 - p)) ≤ 9999 from c44)]
        · unfold g_X0_glide; rw [if_pos (show m_X0_isGlide h x p from c5), if_pos (show ¬ (f 20 1 - m_X6_falls h (f 20 0) x p < 0) from g28), if_pos (show (f 20 2 + m_X6_apart h (f 20 0) x * (10 - p)) ≤ 9999 from c44)]; exact z_gl20
      · refine z_bipush (v := (-3)) dX0_glide_47 rfl ?_
        refine z_iret dX0_glide_49 rfl rfl (Nat.le_refl _) (Nat.le_refl _) (z_ask_i ?_ ?_)
        · unfold v_X0_glide; rw [if_pos (show m_X0_isGlide h x p from c5), if_pos (show ¬ (f 20 1 - m_X6_falls h (f 20 0) x p < 0) from g28), if_neg (show ¬ ((f 20 2 + m_X6_apart h (f 20 0) x * (10 - p)) ≤ 9999) from c44)]
        · unfold g_X0_glide; rw [if_pos (show m_X0_isGlide h x p from c5), if_pos (show ¬ (f 20 1 - m_X6_falls h (f 20 0) x p < 0) from g28), if_neg (show ¬ ((f 20 2 + m_X6_apart h (f 20 0) x * (10 - p)) ≤ 9999) from c44)]; exact (z_fm.refl _ _).t
    · refine z_vcall vl_X0_246_1 (c_X1_glides_21_n hF hm99 c5.1 g28) dX0_glide_28 rfl rfl (hF.1 21 _ rfl) ⟨by decide, by decide⟩ (Nat.le_of_ble_eq_true rfl) (Nat.le_refl _) (Nat.le_refl _) (z_cI ?_) z_tI
      refine z_if_eq 47 dX0_glide_31 (by decide) (fun _ => ?_) (fun q => absurd q (by decide))
      refine z_bipush (v := (-3)) dX0_glide_47 rfl ?_
      refine z_iret dX0_glide_49 rfl rfl (Nat.le_refl _) (Nat.le_refl _) (z_ask_i ?_ ?_)
      · unfold v_X0_glide; rw [if_pos (show m_X0_isGlide h x p from c5), if_neg (show ¬ (¬ (f 20 1 - m_X6_falls h (f 20 0) x p < 0)) from g28)]
      · unfold g_X0_glide; rw [if_pos (show m_X0_isGlide h x p from c5), if_neg (show ¬ (¬ (f 20 1 - m_X6_falls h (f 20 0) x p < 0)) from g28)]; exact (z_fm.refl _ _).t
  · refine z_bipush (v := (-2)) dX0_glide_8 rfl ?_
    refine z_iret dX0_glide_10 rfl rfl (Nat.le_refl _) (Nat.le_refl _) (z_ask_i ?_ ?_)
    · unfold v_X0_glide; rw [if_neg (show ¬ (m_X0_isGlide h x p) from c5)]
    · unfold g_X0_glide; rw [if_neg (show ¬ (m_X0_isGlide h x p) from c5)]; exact (z_fm.refl _ _).t
