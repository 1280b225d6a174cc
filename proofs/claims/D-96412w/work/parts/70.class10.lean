/-! THE CLASS: what is asked (printed by class10.py) -/
set_option maxRecDepth 20000
/-- the class's state beside the reference's, for what is asked -/
def z_S (h : z_H) (f : Nat → Nat → Int32) : Prop := f 16 3 = z_I h 49 0 ∧ f 16 6 = z_I h 49 5 ∧ z_in (f 20 0) 0 99 ∧ z_r (f 20 1) 0 400 ∧ z_cn (f 20 2) 10000 ∧ z_ok h ∧ z_bd h ∧ z_CA h f
theorem z_S.fm {h : z_H} {f f' : Nat → Nat → Int32} (hS : z_S h f) (k : z_fm z_cn0 f f') : z_S h f' := by
  obtain ⟨s1, s2, s3, s4, s5, s6, s7, s8⟩ := hS
  have e : ∀ a, a ≠ 16 → a ≠ 21 → a ≠ 25 → f' a = f a := fun a h1 h2 h3 => funext fun j => k a j (by unfold z_cn0; omega)
  refine ⟨(k 16 3 (by unfold z_cn0; omega)).trans s1, (k 16 6 (by unfold z_cn0; omega)).trans s2, ?_, ?_, ?_, s6, s7, s8.fm (e 18 (by decide) (by decide) (by decide)) (e 19 (by decide) (by decide) (by decide)) (e 23 (by decide) (by decide) (by decide)) (e 24 (by decide) (by decide) (by decide))⟩
  all_goals rw [e 20 (by decide) (by decide) (by decide)]; assumption
/-- an answer; only notes have changed -/
def z_ask (h : z_H) (f : Nat → Nat → Int32) (v : Int32) : Outcome → z_H → Prop := fun o h' => o = .returned (some (.int v)) ∧ ∃ f', h' = z_cy h f' ∧ z_fm z_cn0 f f'
theorem z_ask_i {h : z_H} {f f' : Nat → Nat → Int32} {v w : Int32} (e : w = v) (k : z_fm z_cn0 f f') : z_ask h f v (.returned (some (.int w))) (z_cy h f') := ⟨by rw [e], f', rfl, k⟩
theorem z_fm.tk {f f' : Nat → Nat → Int32} {hi mi : Int32} {L : Nat → Int32} (h : z_fm z_cn0 f f') : z_fm z_cn0 f (z_tk f' 21 hi mi L) := by
  intro a k hn
  unfold z_tk
  rw [if_neg (fun q => hn (Or.inr (Or.inl q))), if_neg (fun q => hn (Or.inl q.1)), if_neg (fun q => hn (Or.inl q.1))]
  exact h a k hn
theorem c_X0_isLift {Γ : z_W} {h : z_H} {f : Nat → Nat → Int32} {x : Int32} (hF : z_F h) (hS3 : f 16 3 = z_I h 49 0) : z_C Γ M_X0_isLift (z_rm 2 0 0) [.ref 16, .int x] (z_cy h f) (z_ri (z_b (m_X6_isLift h x)) (z_cy h f)) := by
  refine z_C.of (by decide +kernel) rfl [some (.ref 16), some (.int x)] (Nat.le_of_ble_eq_true rfl) rfl ?_
  refine z_iload_n dX0_isLift_0 rfl rfl ?_
  refine z_iconst (v := 0) dX0_isLift_1 rfl ?_
  refine z_aload_n dX0_isLift_2 rfl rfl ?_
  refine z_getI dX0_isLift_3 fl_X0_116_0 (hF.1 16 _ rfl) rfl ?_
  refine z_eqi (z_I h 49 0) hS3 ?_
  refine z_iconst (v := 1) dX0_isLift_6 rfl ?_
  refine z_isub dX0_isLift_7 ?_
  refine z_scall sl_X0_5 (c_X0_in) dX0_isLift_8 rfl rfl ⟨by decide, by decide⟩ (Nat.le_of_ble_eq_true rfl) (Nat.le_refl _) (Nat.le_refl _) (z_cI ?_) z_tI
  refine z_iret dX0_isLift_11 rfl (z_bz _) (Nat.le_refl _) (Nat.le_refl _) (z_ri_i ?_ ?_)
  · rfl
  · rfl
def a_upv (h : z_H) (l n m hi mi : Int32) : Int32 := if m_X6_isLift h l then (if z_in n 0 60 then (a_it h l m hi mi (z_c n)).1 else -2) else -1
theorem c_X0_up {Γ : z_W} {h : z_H} {f : Nat → Nat → Int32} {l n : Int32} (hS : z_S h f)  : z_C Γ M_X0_up (z_rm 35 0 0) [.ref 16, .int l, .int n] (z_cy h f) (z_ask h f (a_upv h l n (f 20 0) (f 20 1) (f 20 2))) := by
  obtain ⟨hS3, hS6, hm99, hh4, hmi, hk, hb, hc⟩ := id hS
  obtain ⟨hF, ha, hm, hvs, hws, hho⟩ := id hk
  refine z_C.of (by decide +kernel) rfl [some (.ref 16), some (.int l), some (.int n)] (Nat.le_of_ble_eq_true rfl) rfl ?_
  refine z_aload_n dX0_up_0 rfl rfl ?_
  refine z_iload_n dX0_up_1 rfl rfl ?_
  refine z_vcall vl_X0_193_0 (c_X0_isLift hF hS3) dX0_up_2 rfl rfl (hF.1 16 _ rfl) ⟨by decide, by decide⟩ (Nat.le_of_ble_eq_true rfl) (Nat.le_refl _) (Nat.le_refl _) (z_cI ?_) z_tI
  refine z_bif_ne 10 dX0_up_5 (by decide) (fun c5 => ?_) (fun c5 => ?_)
  · have hl := z_ix hm (by decide) c5
    refine z_iload_n dX0_up_10 rfl rfl ?_
    refine z_iconst (v := 0) dX0_up_11 rfl ?_
    refine z_bipush (v := 60) dX0_up_12 rfl ?_
    refine z_scall sl_X0_5 (c_X0_in) dX0_up_14 rfl rfl ⟨by decide, by decide⟩ (Nat.le_of_ble_eq_true rfl) (Nat.le_refl _) (Nat.le_refl _) (z_cI ?_) z_tI
    refine z_bif_ne 23 dX0_up_17 (by decide) (fun c17 => ?_) (fun c17 => ?_)
    · have hn := z_pl2 (n := 60) rfl (by decide) c17
      refine z_aload_n dX0_up_23 rfl rfl ?_
      refine z_getR 21 dX0_up_24 fl_X0_35_0 (hF.1 16 _ rfl) rfl (hF.2.1 16 5 21 rfl) ?_
      refine z_aload_n dX0_up_27 rfl rfl ?_
      refine z_getR 20 dX0_up_28 fl_X0_31_0 (hF.1 16 _ rfl) rfl (hF.2.1 16 4 20 rfl) ?_
      refine z_vcall vl_X0_242_1 (c_X1_takes_21_20 hF) dX0_up_31 rfl rfl (hF.1 21 _ rfl) ⟨by decide, by decide⟩ (Nat.le_of_ble_eq_true rfl) (Nat.le_refl _) (Nat.le_refl _) (z_cV ?_) z_tV
      refine z_aload_n dX0_up_34 rfl rfl ?_
      refine z_aload_n dX0_up_35 rfl rfl ?_
      refine z_getR 21 dX0_up_36 fl_X0_35_0 (hF.1 16 _ rfl) rfl (hF.2.1 16 5 21 rfl) ?_
      refine z_iload_n dX0_up_39 rfl rfl ?_
      refine z_iload_n dX0_up_40 rfl rfl ?_
      refine z_eqi (nI (z_c n)) hn.1 ?_
      refine z_vcall vl_X0_231_0 (c_X0_turns_21 (f := z_u (z_u (z_u (z_u f 21 0 (f 20 0)) 21 1 (f 20 1)) 21 2 (f 20 2)) 21 3 (f 20 3)) hk hb (hc.fm rfl rfl rfl rfl) hl hh4 hmi hn.2 (by decide)) dX0_up_41 rfl rfl (hF.1 16 _ rfl) ⟨by decide, by decide⟩ (Nat.le_of_ble_eq_true rfl) (Nat.le_refl _) (Nat.le_refl _) (z_cPV (fun h' hq => ?_)) z_tPV
      obtain ⟨L1, rfl⟩ := hq
      refine z_aload_n dX0_up_44 rfl rfl ?_
      refine z_getR 21 dX0_up_45 fl_X0_35_0 (hF.1 16 _ rfl) rfl (hF.2.1 16 5 21 rfl) ?_
      refine z_getI dX0_up_48 fl_X0_159_1 (hF.1 21 _ rfl) rfl ?_
      refine z_eqi ((a_it h l (f 20 0) (f 20 1) (f 20 2) (z_c n)).1) rfl ?_
      refine z_iret dX0_up_51 rfl rfl (Nat.le_refl _) (Nat.le_refl _) (z_ask_i ?_ ?_)
      · unfold a_upv; rw [if_pos (show m_X6_isLift h l from c5), if_pos (show z_in n 0 60 from c17)]
      · exact z_fm.tk ((((z_fm.refl _ _).u (Or.inl rfl)).u (Or.inl rfl)).u (Or.inl rfl) |>.u (Or.inl rfl))
    · refine z_bipush (v := (-2)) dX0_up_20 rfl ?_
      refine z_iret dX0_up_22 rfl rfl (Nat.le_refl _) (Nat.le_refl _) (z_ask_i ?_ ?_)
      · unfold a_upv; rw [if_pos (show m_X6_isLift h l from c5), if_neg (show ¬ (z_in n 0 60) from c17)]
      · exact z_fm.refl _ _
  · refine z_iconst (v := (-1)) dX0_up_8 rfl ?_
    refine z_iret dX0_up_9 rfl rfl (Nat.le_refl _) (Nat.le_refl _) (z_ask_i ?_ ?_)
    · unfold a_upv; rw [if_neg (show ¬ (m_X6_isLift h l) from c5)]
    · exact z_fm.refl _ _
theorem c_X0_arrives {Γ : z_W} {h : z_H} {f : Nat → Nat → Int32} {x p : Int32} (hS : z_S h f)  : z_C Γ M_X0_arrives (z_rm 5 0 0) [.ref 16, .int x, .int p] (z_cy h f) (z_ask h f (m_X6_arrives h x p (f 20 0) (f 20 1) (f 20 2))) := by
  obtain ⟨hS3, hS6, hm99, hh4, hmi, hk, hb, hc⟩ := id hS
  obtain ⟨hF, ha, hm, hvs, hws, hho⟩ := id hk
  refine z_C.of (by decide +kernel) rfl [some (.ref 16), some (.int x), some (.int p)] (Nat.le_of_ble_eq_true rfl) rfl ?_
  refine z_iload_n dX0_arrives_0 rfl rfl ?_
  refine z_iload_n dX0_arrives_1 rfl rfl ?_
  refine z_scall sl_X0_238 (c_X0_isGlide) dX0_arrives_2 rfl rfl ⟨by decide, by decide⟩ (Nat.le_of_ble_eq_true rfl) (Nat.le_refl _) (Nat.le_refl _) (z_cI ?_) z_tI
  refine z_bif_ne 11 dX0_arrives_5 (by decide) (fun c5 => ?_) (fun c5 => ?_)
  · refine z_aload_n dX0_arrives_11 rfl rfl ?_
    refine z_getR 21 dX0_arrives_12 fl_X0_35_0 (hF.1 16 _ rfl) rfl (hF.2.1 16 5 21 rfl) ?_
    refine z_aload_n dX0_arrives_15 rfl rfl ?_
    refine z_getR 20 dX0_arrives_16 fl_X0_31_0 (hF.1 16 _ rfl) rfl (hF.2.1 16 4 20 rfl) ?_
    refine z_vcall vl_X0_242_1 (c_X1_takes_21_20 hF) dX0_arrives_19 rfl rfl (hF.1 21 _ rfl) ⟨by decide, by decide⟩ (Nat.le_of_ble_eq_true rfl) (Nat.le_refl _) (Nat.le_refl _) (z_cV ?_) z_tV
    refine z_aload_n dX0_arrives_22 rfl rfl ?_
    refine z_getR 21 dX0_arrives_23 fl_X0_35_0 (hF.1 16 _ rfl) rfl (hF.2.1 16 5 21 rfl) ?_
    refine z_iload_n dX0_arrives_26 rfl rfl ?_
    refine z_iload_n dX0_arrives_27 rfl rfl ?_
    by_cases g28 : ¬ (f 20 1 - m_X6_falls h (f 20 0) x p < 0)
    · refine z_vcall vl_X0_246_1 (c_X1_glides_21_y (f := z_u (z_u (z_u (z_u f 21 0 (f 20 0)) 21 1 (f 20 1)) 21 2 (f 20 2)) 21 3 (f 20 3)) hF hm99 c5.1 g28) dX0_arrives_28 rfl rfl (hF.1 21 _ rfl) ⟨by decide, by decide⟩ (Nat.le_of_ble_eq_true rfl) (Nat.le_refl _) (Nat.le_refl _) (z_cI ?_) z_tI
      refine z_if_eq 44 dX0_arrives_31 (by decide) (fun q => absurd q (by decide)) (fun _ => ?_)
      refine z_aload_n dX0_arrives_34 rfl rfl ?_
      refine z_getR 21 dX0_arrives_35 fl_X0_35_0 (hF.1 16 _ rfl) rfl (hF.2.1 16 5 21 rfl) ?_
      refine z_getI dX0_arrives_38 fl_X0_159_1 (hF.1 21 _ rfl) rfl ?_
      refine z_eqi (f 20 1 - m_X6_falls h (f 20 0) x p) rfl ?_
      refine z_goto 46 dX0_arrives_41 (by decide) ?_
      refine z_iret dX0_arrives_46 rfl rfl (Nat.le_refl _) (Nat.le_refl _) (z_ask_i ?_ ?_)
      · unfold m_X6_arrives
        rw [if_pos c5.1, if_pos c5.2, if_pos (Int32.not_lt.mp g28)]
      · exact (((((((((z_fm.refl _ _).u (Or.inl rfl)).u (Or.inl rfl)).u (Or.inl rfl)).u (Or.inl rfl)).u (Or.inl rfl)).u (Or.inl rfl)).u (Or.inl rfl)).u (Or.inl rfl))
    · refine z_vcall vl_X0_246_1 (c_X1_glides_21_n (f := z_u (z_u (z_u (z_u f 21 0 (f 20 0)) 21 1 (f 20 1)) 21 2 (f 20 2)) 21 3 (f 20 3)) hF hm99 c5.1 g28) dX0_arrives_28 rfl rfl (hF.1 21 _ rfl) ⟨by decide, by decide⟩ (Nat.le_of_ble_eq_true rfl) (Nat.le_refl _) (Nat.le_refl _) (z_cI ?_) z_tI
      refine z_if_eq 44 dX0_arrives_31 (by decide) (fun _ => ?_) (fun q => absurd q (by decide))
      refine z_bipush (v := (-5)) dX0_arrives_44 rfl ?_
      refine z_iret dX0_arrives_46 rfl rfl (Nat.le_refl _) (Nat.le_refl _) (z_ask_i ?_ ?_)
      · unfold m_X6_arrives
        rw [if_pos c5.1, if_pos c5.2, if_neg (fun q => g28 (Int32.not_lt.mpr q))]
      · exact (((((z_fm.refl _ _).u (Or.inl rfl)).u (Or.inl rfl)).u (Or.inl rfl)).u (Or.inl rfl))
  · refine z_bipush (v := (-2)) dX0_arrives_8 rfl ?_
    refine z_iret dX0_arrives_10 rfl rfl (Nat.le_refl _) (Nat.le_refl _) (z_ask_i ?_ ?_)
    · unfold m_X6_arrives
      by_cases e : m_X6_isMile h x
      · rw [if_pos e, if_neg (fun q => c5 ⟨e, q⟩)]
      · rw [if_neg e]
    · exact (z_fm.refl _ _)
theorem z_min_le (h : z_H) (a b : Int32) : m_J3_min h a b = if a ≤ b then a else b := by
  unfold m_J3_min
  by_cases e : a ≤ b
  · rw [if_pos e, if_neg (Int32.not_lt.mpr e)]
  · rw [if_neg e, if_pos (Int32.not_le.mp e)]
theorem c_X0_outed {Γ : z_W} {h : z_H} {f : Nat → Nat → Int32} {x p : Int32} (hS : z_S h f)  : z_C Γ M_X0_outed (z_rm 4 0 0) [.ref 16, .int x, .int p] (z_cy h f) (z_ask h f (m_X6_outed h x p (f 20 0) (f 20 1) (f 20 2))) := by
  obtain ⟨hS3, hS6, hm99, hh4, hmi, hk, hb, hc⟩ := id hS
  obtain ⟨hF, ha, hm, hvs, hws, hho⟩ := id hk
  refine z_C.of (by decide +kernel) rfl [some (.ref 16), some (.int x), some (.int p)] (Nat.le_of_ble_eq_true rfl) rfl ?_
  refine z_iload_n dX0_outed_0 rfl rfl ?_
  refine z_iload_n dX0_outed_1 rfl rfl ?_
  refine z_scall sl_X0_238 (c_X0_isGlide) dX0_outed_2 rfl rfl ⟨by decide, by decide⟩ (Nat.le_of_ble_eq_true rfl) (Nat.le_refl _) (Nat.le_refl _) (z_cI ?_) z_tI
  refine z_bif_eq 37 dX0_outed_5 (by decide) (fun c5 => ?_) (fun c5 => ?_)
  · refine z_bipush (v := (-2)) dX0_outed_37 rfl ?_
    refine z_iret dX0_outed_39 rfl rfl (Nat.le_refl _) (Nat.le_refl _) (z_ask_i ?_ ?_)
    · unfold m_X6_outed
      by_cases e : m_X6_isMile h x
      · rw [if_pos e, if_neg (fun q => c5 ⟨e, q⟩)]
      · rw [if_neg e]
    · exact (z_fm.refl _ _)
  · refine z_iload_n dX0_outed_8 rfl rfl ?_
    refine z_aload_n dX0_outed_9 rfl rfl ?_
    refine z_getR 20 dX0_outed_10 fl_X0_31_0 (hF.1 16 _ rfl) rfl (hF.2.1 16 4 20 rfl) ?_
    refine z_getI dX0_outed_13 fl_X0_218_1 (hF.1 20 _ rfl) rfl ?_
    refine z_eqi (f 20 0) rfl ?_
    refine z_isub dX0_outed_16 ?_
    refine z_scall sl_X0_249 (c_J3_abs) dX0_outed_17 rfl rfl ⟨by decide, by decide⟩ (Nat.le_of_ble_eq_true rfl) (Nat.le_refl _) (Nat.le_refl _) (z_cI ?_) z_tI
    refine z_eqi (m_X6_apart h (f 20 0) x) (z_abs_a hm99 c5.1) ?_
    refine z_aload_n dX0_outed_20 rfl rfl ?_
    refine z_getR 20 dX0_outed_21 fl_X0_31_0 (hF.1 16 _ rfl) rfl (hF.2.1 16 4 20 rfl) ?_
    refine z_getI dX0_outed_24 fl_X0_159_1 (hF.1 20 _ rfl) rfl ?_
    refine z_eqi (f 20 1) rfl ?_
    refine z_iconst (v := 5) dX0_outed_27 rfl ?_
    refine z_iload_n dX0_outed_28 rfl rfl ?_
    refine z_iadd dX0_outed_29 ?_
    refine z_idiv dX0_outed_30 (z_p5 c5.2) ?_
    refine z_scall sl_X0_166 (c_J3_min) dX0_outed_31 rfl rfl ⟨by decide, by decide⟩ (Nat.le_of_ble_eq_true rfl) (Nat.le_refl _) (Nat.le_refl _) (z_cI ?_) z_tI
    refine z_goto 39 dX0_outed_34 (by decide) ?_
    refine z_iret dX0_outed_39 rfl rfl (Nat.le_refl _) (Nat.le_refl _) (z_ask_i ?_ ?_)
    · unfold m_X6_outed
      rw [if_pos c5.1, if_pos c5.2]
      exact z_min_le _ _ _
    · exact (z_fm.refl _ _)
theorem c_X0_lowest {Γ : z_W} {h : z_H} {f : Nat → Nat → Int32} {l p : Int32} (hS : z_S h f)  : z_C Γ M_X0_lowest (z_rm 3 0 0) [.ref 16, .int l, .int p] (z_cy h f) (z_ask h f (m_X6_lowest h l p (f 20 0) (f 20 1) (f 20 2))) := by
  obtain ⟨hS3, hS6, hm99, hh4, hmi, hk, hb, hc⟩ := id hS
  obtain ⟨hF, ha, hm, hvs, hws, hho⟩ := id hk
  obtain ⟨c1, -, -, a, Cs, c4, c5x, -⟩ := id hc
  refine z_C.of (by decide +kernel) rfl [some (.ref 16), some (.int l), some (.int p), none] (Nat.le_of_ble_eq_true rfl) rfl ?_
  refine z_aload_n dX0_lowest_0 rfl rfl ?_
  refine z_iload_n dX0_lowest_1 rfl rfl ?_
  refine z_vcall vl_X0_193_0 (c_X0_isLift hF hS3) dX0_lowest_2 rfl rfl (hF.1 16 _ rfl) ⟨by decide, by decide⟩ (Nat.le_of_ble_eq_true rfl) (Nat.le_refl _) (Nat.le_refl _) (z_cI ?_) z_tI
  refine z_bif_ne 10 dX0_lowest_5 (by decide) (fun c5 => ?_) (fun c5 => ?_)
  · have hl := z_ix hm (by decide) c5
    have hl6 : l = nI (z_c l) ∧ z_c l < 6 := ⟨hl.1, by have := hl.2; have := hm.2; omega⟩
    obtain ⟨id, k, hid, hlf⟩ := c1 _ hl.2
    obtain ⟨h85, hk6, hkd, hTL, -, hn1, hvL, hmL, h46⟩ := hlf
    refine z_iload_n dX0_lowest_10 rfl rfl ?_
    refine z_scall sl_X0_235 (c_X0_isPace) dX0_lowest_11 rfl rfl ⟨by decide, by decide⟩ (Nat.le_of_ble_eq_true rfl) (Nat.le_refl _) (Nat.le_refl _) (z_cI ?_) z_tI
    refine z_bif_ne 20 dX0_lowest_14 (by decide) (fun c14 => ?_) (fun c14 => ?_)
    · refine z_aload_n dX0_lowest_20 rfl rfl ?_
      refine z_getR 20 dX0_lowest_21 fl_X0_31_0 (hF.1 16 _ rfl) rfl (hF.2.1 16 4 20 rfl) ?_
      refine z_aload_n dX0_lowest_24 rfl rfl ?_
      refine z_getR 17 dX0_lowest_25 fl_X0_17_0 (hF.1 16 _ rfl) rfl (hF.2.1 16 0 17 rfl) ?_
      refine z_iload_n dX0_lowest_28 rfl rfl ?_
      refine z_aald (z_c l) id dX0_lowest_29 (hF.1 17 _ rfl) (by simp [z_at]) hl6.1 hl6.2 (by decide) hid ?_
      refine z_getm rfl hk6 hTL dX0_lowest_30 <| z_eqi (z_I h 52 (z_c l)) (by rw [z_cy_hi h85, hmL]) ?_
      refine z_iload_n dX0_lowest_33 rfl rfl ?_
      refine z_vcall vl_X0_256_1 (c_X1_needs_20 hF hm99 (hws _ hl.2)) dX0_lowest_34 rfl rfl (hF.1 20 _ rfl) ⟨by decide, by decide⟩ (Nat.le_of_ble_eq_true rfl) (Nat.le_refl _) (Nat.le_refl _) (z_cI ?_) z_tI
      refine z_aload_n dX0_lowest_37 rfl rfl ?_
      refine z_getR a dX0_lowest_38 fl_X0_49_0 (hF.1 16 _ rfl) rfl c4 ?_
      refine z_vcall vl_X0_224_2 (c_X2_safely (c5x (f) rfl rfl).1) dX0_lowest_41 rfl rfl (c5x f rfl rfl).1 ⟨by decide, by decide⟩ (Nat.le_of_ble_eq_true rfl) (Nat.le_refl _) (Nat.le_refl _) (z_cI ?_) z_tI
      refine z_eqi (m_X6_safe h) (by rw [(c5x (f) rfl rfl).2.2.1]; rfl) ?_
      refine z_iadd dX0_lowest_44 ?_
      refine z_istore_n dX0_lowest_45 rfl (by decide) rfl ?_
      refine z_iload_n dX0_lowest_46 rfl rfl ?_
      refine z_sipush (v := 400) dX0_lowest_47 rfl ?_
      refine z_icmp_le 58 dX0_lowest_50 (by decide) (fun c50 => ?_) (fun c50 => ?_)
      · refine z_iload_n dX0_lowest_58 rfl rfl ?_
        refine z_iret dX0_lowest_59 rfl rfl (Nat.le_refl _) (Nat.le_refl _) (z_ask_i ?_ ?_)
        · unfold m_X6_lowest; rw [if_pos (show m_X6_isLift h l from c5), if_pos (show m_X0_isPace h p from c14), if_pos (show ((m_X6_falls h (f 20 0) (z_I h 52 (z_c l)) p) + (m_X6_safe h)) ≤ 400 from c50)]
        · exact z_fm.refl _ _
      · refine z_bipush (v := (-5)) dX0_lowest_53 rfl ?_
        refine z_goto 59 dX0_lowest_55 (by decide) ?_
        refine z_iret dX0_lowest_59 rfl rfl (Nat.le_refl _) (Nat.le_refl _) (z_ask_i ?_ ?_)
        · unfold m_X6_lowest; rw [if_pos (show m_X6_isLift h l from c5), if_pos (show m_X0_isPace h p from c14), if_neg (show ¬ (((m_X6_falls h (f 20 0) (z_I h 52 (z_c l)) p) + (m_X6_safe h)) ≤ 400) from c50)]
        · exact z_fm.refl _ _
    · refine z_bipush (v := (-2)) dX0_lowest_17 rfl ?_
      refine z_iret dX0_lowest_19 rfl rfl (Nat.le_refl _) (Nat.le_refl _) (z_ask_i ?_ ?_)
      · unfold m_X6_lowest; rw [if_pos (show m_X6_isLift h l from c5), if_neg (show ¬ (m_X0_isPace h p) from c14)]
      · exact z_fm.refl _ _
  · refine z_iconst (v := (-1)) dX0_lowest_8 rfl ?_
    refine z_iret dX0_lowest_9 rfl rfl (Nat.le_refl _) (Nat.le_refl _) (z_ask_i ?_ ?_)
    · unfold m_X6_lowest; rw [if_neg (show ¬ (m_X6_isLift h l) from c5)]
    · exact z_fm.refl _ _
theorem z_st_of {h : z_H} {p m hi mi : Int32} (hh : z_r hi 0 400) (hm : z_in m 0 99) (hho : z_in (z_I h 49 5) 0 99) (hp : z_in p 1 9) (hb : z_bd h) : m_X6_straightOf h p m hi mi = if ¬ (hi - m_X6_falls h m (z_I h 49 5) p < m_X6_safe h) then m_X6_apart h m (z_I h 49 5) * (10 - p) else -5 := by
  have h1 := z_falls_r (h := h) hm hho hp
  have h2 := z_safe_r hb
  have e1 := z_reach0 hh h1
  have e2 := z_reach_s hh h1 h2
  have e3 : (hi - m_X6_falls h m (z_I h 49 5) p).toInt = hi.toInt - (m_X6_falls h m (z_I h 49 5) p).toInt := by unfold z_r at *; exact z_ts (by omega) (by omega)
  unfold m_X6_straightOf
  by_cases c : hi - m_X6_falls h m (z_I h 49 5) p < m_X6_safe h
  · rw [if_neg (show ¬ ¬ (hi - m_X6_falls h m (z_I h 49 5) p < m_X6_safe h) from fun q => q c)]
    by_cases c0 : hi - m_X6_falls h m (z_I h 49 5) p < 0
    · rw [if_pos c0]
    · rw [if_neg c0, if_neg (Int32.not_le.mpr c)]
  · rw [if_pos c]
    have c0 : ¬ hi - m_X6_falls h m (z_I h 49 5) p < 0 := by
      rw [Int32.lt_iff_toInt_lt, z_i0]
      rw [Int32.lt_iff_toInt_lt] at c
      unfold z_r at h2
      omega
    rw [if_neg c0, if_pos (Int32.not_lt.mp c)]
theorem c_X0_minutesStraight {Γ : z_W} {h : z_H} {f : Nat → Nat → Int32} {p : Int32} (hS : z_S h f) (hp : z_in p 1 9) : z_C Γ M_X0_minutesStraight (z_rm 4 0 0) [.ref 16, .int p] (z_cy h f) (z_ask h f (m_X6_straightOf h p (f 20 0) (f 20 1) (f 20 2))) := by
  obtain ⟨hS3, hS6, hm99, hh4, hmi, hk, hb, hc⟩ := id hS
  obtain ⟨hF, ha, hm, hvs, hws, hho⟩ := id hk
  obtain ⟨c1, -, -, a, Cs, c4, c5x, -⟩ := id hc
  refine z_C.of (by decide +kernel) rfl [some (.ref 16), some (.int p)] (Nat.le_of_ble_eq_true rfl) rfl ?_
  refine z_aload_n dX0_minutesStraight_0 rfl rfl ?_
  refine z_getR 20 dX0_minutesStraight_1 fl_X0_31_0 (hF.1 16 _ rfl) rfl (hF.2.1 16 4 20 rfl) ?_
  refine z_aload_n dX0_minutesStraight_4 rfl rfl ?_
  refine z_getI dX0_minutesStraight_5 fl_X0_38_0 (hF.1 16 _ rfl) rfl ?_
  refine z_eqi (z_I h 49 5) hS6 ?_
  refine z_iload_n dX0_minutesStraight_8 rfl rfl ?_
  refine z_aload_n dX0_minutesStraight_9 rfl rfl ?_
  refine z_getR a dX0_minutesStraight_10 fl_X0_49_0 (hF.1 16 _ rfl) rfl c4 ?_
  refine z_vcall vl_X0_224_2 (c_X2_safely (c5x (f) rfl rfl).1) dX0_minutesStraight_13 rfl rfl (c5x f rfl rfl).1 ⟨by decide, by decide⟩ (Nat.le_of_ble_eq_true rfl) (Nat.le_refl _) (Nat.le_refl _) (z_cI ?_) z_tI
  refine z_eqi (m_X6_safe h) (by rw [(c5x (f) rfl rfl).2.2.1]; rfl) ?_
  refine z_vcall vl_X0_253_1 (c_X1_reaches_20 hF hm99 hho) dX0_minutesStraight_16 rfl rfl (hF.1 20 _ rfl) ⟨by decide, by decide⟩ (Nat.le_of_ble_eq_true rfl) (Nat.le_refl _) (Nat.le_refl _) (z_cI ?_) z_tI
  refine z_bif_eq 45 dX0_minutesStraight_19 (by decide) (fun c19 => ?_) (fun c19 => ?_)
  · refine z_bipush (v := (-5)) dX0_minutesStraight_45 rfl ?_
    refine z_iret dX0_minutesStraight_47 rfl rfl (Nat.le_refl _) (Nat.le_refl _) (z_ask_i ?_ ?_)
    · rw [z_st_of hh4 hm99 hho hp hb, if_neg c19]
    · exact z_fm.refl _ _
  · refine z_aload_n dX0_minutesStraight_22 rfl rfl ?_
    refine z_getI dX0_minutesStraight_23 fl_X0_38_0 (hF.1 16 _ rfl) rfl ?_
    refine z_eqi (z_I h 49 5) hS6 ?_
    refine z_aload_n dX0_minutesStraight_26 rfl rfl ?_
    refine z_getR 20 dX0_minutesStraight_27 fl_X0_31_0 (hF.1 16 _ rfl) rfl (hF.2.1 16 4 20 rfl) ?_
    refine z_getI dX0_minutesStraight_30 fl_X0_218_1 (hF.1 20 _ rfl) rfl ?_
    refine z_eqi (f 20 0) rfl ?_
    refine z_isub dX0_minutesStraight_33 ?_
    refine z_scall sl_X0_249 (c_J3_abs) dX0_minutesStraight_34 rfl rfl ⟨by decide, by decide⟩ (Nat.le_of_ble_eq_true rfl) (Nat.le_refl _) (Nat.le_refl _) (z_cI ?_) z_tI
    refine z_eqi (m_X6_apart h (f 20 0) (z_I h 49 5)) (z_abs_a hm99 hho) ?_
    refine z_bipush (v := 10) dX0_minutesStraight_37 rfl ?_
    refine z_iload_n dX0_minutesStraight_39 rfl rfl ?_
    refine z_isub dX0_minutesStraight_40 ?_
    refine z_imul dX0_minutesStraight_41 ?_
    refine z_goto 47 dX0_minutesStraight_42 (by decide) ?_
    refine z_iret dX0_minutesStraight_47 rfl rfl (Nat.le_refl _) (Nat.le_refl _) (z_ask_i ?_ ?_)
    · rw [z_st_of hh4 hm99 hho hp hb, if_pos c19]
    · exact z_fm.refl _ _
section ZASK
variable {Γ : z_W} {M : z_M} {rm : Room} {Q : Outcome → z_H → Prop} {cs ss pc : Nat} {ls : List (Option Value)} {rest : List Value} {h : z_H} {f : Nat → Nat → Int32} {r : Int32}
theorem z_cA (kk : ∀ f', z_fm z_cn0 f f' → z_G Γ M rm Q cs ss pc ls (.int r :: rest) (z_cy h f')) : ∀ v h', z_ask h f r (.returned v) h' → z_G Γ M rm Q cs ss pc ls (v.toList ++ rest) h' := by
  intro v h' q
  obtain ⟨q1, f', rfl, q2⟩ := q
  cases q1
  exact kk f' q2
theorem z_tA {P : Nat → z_H → Prop} : ∀ x h', z_ask h f r (.threw x) h' → P x h' := fun x h' q => by cases q.1
end ZASK
theorem c_X0_straight {Γ : z_W} {h : z_H} {f : Nat → Nat → Int32} {p : Int32} (hS : z_S h f)  : z_C Γ M_X0_straight (z_rm 5 0 0) [.ref 16, .int p] (z_cy h f) (z_ask h f (m_X6_straight h p (f 20 0) (f 20 1) (f 20 2))) := by
  obtain ⟨hS3, hS6, hm99, hh4, hmi, hk, hb, hc⟩ := id hS
  obtain ⟨hF, ha, hm, hvs, hws, hho⟩ := id hk
  refine z_C.of (by decide +kernel) rfl [some (.ref 16), some (.int p)] (Nat.le_of_ble_eq_true rfl) rfl ?_
  refine z_iload_n dX0_straight_0 rfl rfl ?_
  refine z_scall sl_X0_235 (c_X0_isPace) dX0_straight_1 rfl rfl ⟨by decide, by decide⟩ (Nat.le_of_ble_eq_true rfl) (Nat.le_refl _) (Nat.le_refl _) (z_cI ?_) z_tI
  refine z_bif_eq 15 dX0_straight_4 (by decide) (fun c4 => ?_) (fun c4 => ?_)
  · refine z_bipush (v := (-2)) dX0_straight_15 rfl ?_
    refine z_iret dX0_straight_17 rfl rfl (Nat.le_refl _) (Nat.le_refl _) (z_ask_i ?_ ?_)
    · unfold m_X6_straight; rw [if_neg (show ¬ (m_X0_isPace h p) from c4)]
    · exact z_fm.refl _ _
  · refine z_aload_n dX0_straight_7 rfl rfl ?_
    refine z_iload_n dX0_straight_8 rfl rfl ?_
    refine z_vcall vl_X0_269_0 (c_X0_minutesStraight hS c4) dX0_straight_9 rfl rfl (hF.1 16 _ rfl) ⟨by decide, by decide⟩ (Nat.le_of_ble_eq_true rfl) (Nat.le_refl _) (Nat.le_refl _) (z_cA (fun f1 hf1 => ?_)) z_tA
    refine z_goto 17 dX0_straight_12 (by decide) ?_
    refine z_iret dX0_straight_17 rfl rfl (Nat.le_refl _) (Nat.le_refl _) (z_ask_i ?_ ?_)
    · unfold m_X6_straight; rw [if_pos (show m_X0_isPace h p from c4)]
    · exact hf1
