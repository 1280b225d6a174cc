/-! THE CLASS: setters (printed by class17.py) -/
set_option maxRecDepth 20000
abbrev m_X0_isLift (h : z_H) (x : Int32) : Prop := z_in x 0 (z_I h 16 3 - 1)
theorem c_X0_isLiftP {Γ : z_W} {h : z_H} {x : Int32} (hF : z_F h) : z_C Γ M_X0_isLift (z_rm 2 0 0) [.ref 16, .int x] h (z_ri (z_b (m_X0_isLift h x)) h) := by
  refine z_C.of (by decide +kernel) rfl [some (.ref 16), some (.int x)] (Nat.le_of_ble_eq_true rfl) rfl ?_
  refine z_iload_n dX0_isLift_0 rfl rfl ?_
  refine z_iconst (v := 0) dX0_isLift_1 rfl ?_
  refine z_aload_n dX0_isLift_2 rfl rfl ?_
  refine z_getI dX0_isLift_3 fl_X0_116_0 (hF.1 16 _ rfl) rfl ?_
  refine z_iconst (v := 1) dX0_isLift_6 rfl ?_
  refine z_isub dX0_isLift_7 ?_
  refine z_scall sl_X0_5 (c_X0_in) dX0_isLift_8 rfl rfl ⟨by decide, by decide⟩ (Nat.le_of_ble_eq_true rfl) (Nat.le_refl _) (Nat.le_refl _) (z_cI ?_) z_tI
  refine z_iret dX0_isLift_11 rfl (z_bz _) (Nat.le_refl _) (Nat.le_refl _) (z_ri_i ?_ ?_)
  · rfl
  · rfl
def m_X0_pull (h : z_H) (l : Int32) (n : Int32) : Int32 × z_H :=
  if m_X0_isLift h l then
    if z_in n 0 20 then
      (z_I h 18 (z_c l), z_sI h 18 (z_c l) n)
    else
      ((-2), h)
  else
    ((-1), h)
theorem c_X0_pull {Γ : z_W} {h : z_H} {l : Int32} {n : Int32} (hF : z_F h) (hm : z_cn (z_I h 16 3) 6) : z_C Γ M_X0_pull (z_rm 3 0 0) [.ref 16, .int l, .int n] h (z_ri (m_X0_pull h l n).1 (m_X0_pull h l n).2) := by
  refine z_C.of (by decide +kernel) rfl [some (.ref 16), some (.int l), some (.int n), none] (Nat.le_of_ble_eq_true rfl) rfl ?_
  refine z_aload_n dX0_pull_0 rfl rfl ?_
  refine z_iload_n dX0_pull_1 rfl rfl ?_
  refine z_vcall vl_X0_193_0 (c_X0_isLiftP hF) dX0_pull_2 rfl rfl (hF.1 16 _ rfl) ⟨by decide, by decide⟩ (Nat.le_of_ble_eq_true rfl) (Nat.le_refl _) (Nat.le_refl _) (z_cI ?_) z_tI
  refine z_bif_ne 10 dX0_pull_5 (by decide) (fun c5 => ?_) (fun c5 => ?_)
  · have hl := z_ix hm (by decide) c5
    have hl6 : l = nI (z_c l) ∧ z_c l < 6 := ⟨hl.1, by have := hl.2; have := hm.2; omega⟩
    refine z_iload_n dX0_pull_10 rfl rfl ?_
    refine z_iconst (v := 0) dX0_pull_11 rfl ?_
    refine z_bipush (v := 20) dX0_pull_12 rfl ?_
    refine z_scall sl_X0_5 (c_X0_in) dX0_pull_14 rfl rfl ⟨by decide, by decide⟩ (Nat.le_of_ble_eq_true rfl) (Nat.le_refl _) (Nat.le_refl _) (z_cI ?_) z_tI
    refine z_bif_ne 23 dX0_pull_17 (by decide) (fun c17 => ?_) (fun c17 => ?_)
    · refine z_aload_n dX0_pull_23 rfl rfl ?_
      refine z_getR 18 dX0_pull_24 fl_X0_21_0 (hF.1 16 _ rfl) rfl (hF.2.1 16 1 18 rfl) ?_
      refine z_iload_n dX0_pull_27 rfl rfl ?_
      refine z_iald (z_c l) dX0_pull_28 (hF.1 18 _ rfl) hl6.1 hl6.2 (by decide) ?_
      refine z_istore_n dX0_pull_29 rfl (by decide) rfl ?_
      refine z_aload_n dX0_pull_30 rfl rfl ?_
      refine z_getR 18 dX0_pull_31 fl_X0_21_0 (hF.1 16 _ rfl) rfl (hF.2.1 16 1 18 rfl) ?_
      refine z_iload_n dX0_pull_34 rfl rfl ?_
      refine z_iload_n dX0_pull_35 rfl rfl ?_
      refine z_iast (z_c l) dX0_pull_36 (hF.1 18 _ rfl) (by decide) hl6.1 hl6.2 (by decide) ?_
      refine z_iload_n dX0_pull_37 rfl rfl ?_
      refine z_iret dX0_pull_38 rfl rfl (Nat.le_refl _) (Nat.le_refl _) (z_ri_i ?_ ?_)
      · first | rfl | (unfold m_X0_pull; rw [if_pos (show m_X0_isLift h l from c5), if_pos (show z_in n 0 20 from c17)]; first | done | rfl)
      · first | rfl | (unfold m_X0_pull; rw [if_pos (show m_X0_isLift h l from c5), if_pos (show z_in n 0 20 from c17)]; first | done | rfl)
    · refine z_bipush (v := (-2)) dX0_pull_20 rfl ?_
      refine z_iret dX0_pull_22 rfl rfl (Nat.le_refl _) (Nat.le_refl _) (z_ri_i ?_ ?_)
      · first | rfl | (unfold m_X0_pull; rw [if_pos (show m_X0_isLift h l from c5), if_neg (show ¬ (z_in n 0 20) from c17)]; first | done | rfl)
      · first | rfl | (unfold m_X0_pull; rw [if_pos (show m_X0_isLift h l from c5), if_neg (show ¬ (z_in n 0 20) from c17)]; first | done | rfl)
  · refine z_iconst (v := (-1)) dX0_pull_8 rfl ?_
    refine z_iret dX0_pull_9 rfl rfl (Nat.le_refl _) (Nat.le_refl _) (z_ri_i ?_ ?_)
    · first | rfl | (unfold m_X0_pull; rw [if_neg (show ¬ (m_X0_isLift h l) from c5)]; first | done | rfl)
    · first | rfl | (unfold m_X0_pull; rw [if_neg (show ¬ (m_X0_isLift h l) from c5)]; first | done | rfl)
def m_X0_home (h : z_H) (x : Int32) : Int32 × z_H :=
  if m_X0_isMile h x then
    (z_I h 16 6, z_sI h 16 6 x)
  else
    ((-2), h)
theorem c_X0_home {Γ : z_W} {h : z_H} {x : Int32} (hF : z_F h)  : z_C Γ M_X0_home (z_rm 3 0 0) [.ref 16, .int x] h (z_ri (m_X0_home h x).1 (m_X0_home h x).2) := by
  refine z_C.of (by decide +kernel) rfl [some (.ref 16), some (.int x), none] (Nat.le_of_ble_eq_true rfl) rfl ?_
  refine z_iload_n dX0_home_0 rfl rfl ?_
  refine z_scall sl_X0_142 (c_X0_isMile) dX0_home_1 rfl rfl ⟨by decide, by decide⟩ (Nat.le_of_ble_eq_true rfl) (Nat.le_refl _) (Nat.le_refl _) (z_cI ?_) z_tI
  refine z_bif_ne 10 dX0_home_4 (by decide) (fun c4 => ?_) (fun c4 => ?_)
  · refine z_aload_n dX0_home_10 rfl rfl ?_
    refine z_getI dX0_home_11 fl_X0_38_0 (hF.1 16 _ rfl) rfl ?_
    refine z_istore_n dX0_home_14 rfl (by decide) rfl ?_
    refine z_aload_n dX0_home_15 rfl rfl ?_
    refine z_iload_n dX0_home_16 rfl rfl ?_
    refine z_putI dX0_home_17 (pl_X0_38_0 rfl) (hF.1 16 _ rfl) (by decide) rfl ?_
    refine z_iload_n dX0_home_20 rfl rfl ?_
    refine z_iret dX0_home_21 rfl rfl (Nat.le_refl _) (Nat.le_refl _) (z_ri_i ?_ ?_)
    · first | rfl | (unfold m_X0_home; rw [if_pos (show m_X0_isMile h x from c4)]; first | done | rfl)
    · first | rfl | (unfold m_X0_home; rw [if_pos (show m_X0_isMile h x from c4)]; first | done | rfl)
  · refine z_bipush (v := (-2)) dX0_home_7 rfl ?_
    refine z_iret dX0_home_9 rfl rfl (Nat.le_refl _) (Nat.le_refl _) (z_ri_i ?_ ?_)
    · first | rfl | (unfold m_X0_home; rw [if_neg (show ¬ (m_X0_isMile h x) from c4)]; first | done | rfl)
    · first | rfl | (unfold m_X0_home; rw [if_neg (show ¬ (m_X0_isMile h x) from c4)]; first | done | rfl)
def m_X0_height (h : z_H) (x : Int32) : Int32 × z_H :=
  if z_in x 0 400 then
    (z_I h 20 1, z_sI h 20 1 x)
  else
    ((-2), h)
theorem c_X0_height {Γ : z_W} {h : z_H} {x : Int32} (hF : z_F h)  : z_C Γ M_X0_height (z_rm 2 0 0) [.ref 16, .int x] h (z_ri (m_X0_height h x).1 (m_X0_height h x).2) := by
  refine z_C.of (by decide +kernel) rfl [some (.ref 16), some (.int x), none] (Nat.le_of_ble_eq_true rfl) rfl ?_
  refine z_iload_n dX0_height_0 rfl rfl ?_
  refine z_iconst (v := 0) dX0_height_1 rfl ?_
  refine z_sipush (v := 400) dX0_height_2 rfl ?_
  refine z_scall sl_X0_5 (c_X0_in) dX0_height_5 rfl rfl ⟨by decide, by decide⟩ (Nat.le_of_ble_eq_true rfl) (Nat.le_refl _) (Nat.le_refl _) (z_cI ?_) z_tI
  refine z_bif_ne 14 dX0_height_8 (by decide) (fun c8 => ?_) (fun c8 => ?_)
  · refine z_aload_n dX0_height_14 rfl rfl ?_
    refine z_getR 20 dX0_height_15 fl_X0_31_0 (hF.1 16 _ rfl) rfl (hF.2.1 16 4 20 rfl) ?_
    refine z_getI dX0_height_18 fl_X0_159_1 (hF.1 20 _ rfl) rfl ?_
    refine z_istore_n dX0_height_21 rfl (by decide) rfl ?_
    refine z_aload_n dX0_height_22 rfl rfl ?_
    refine z_getR 20 dX0_height_23 fl_X0_31_0 (hF.1 16 _ rfl) rfl (hF.2.1 16 4 20 rfl) ?_
    refine z_iload_n dX0_height_26 rfl rfl ?_
    refine z_putI dX0_height_27 (pl_X0_159_1 rfl) (hF.1 20 _ rfl) (by decide) rfl ?_
    refine z_iload_n dX0_height_30 rfl rfl ?_
    refine z_iret dX0_height_31 rfl rfl (Nat.le_refl _) (Nat.le_refl _) (z_ri_i ?_ ?_)
    · first | rfl | (unfold m_X0_height; rw [if_pos (show z_in x 0 400 from c8)]; first | done | rfl)
    · first | rfl | (unfold m_X0_height; rw [if_pos (show z_in x 0 400 from c8)]; first | done | rfl)
  · refine z_bipush (v := (-2)) dX0_height_11 rfl ?_
    refine z_iret dX0_height_13 rfl rfl (Nat.le_refl _) (Nat.le_refl _) (z_ri_i ?_ ?_)
    · first | rfl | (unfold m_X0_height; rw [if_neg (show ¬ (z_in x 0 400) from c8)]; first | done | rfl)
    · first | rfl | (unfold m_X0_height; rw [if_neg (show ¬ (z_in x 0 400) from c8)]; first | done | rfl)
def m_X0_feed (h : z_H) (c : Int32) : Int32 × z_H :=
  if z_in c 0 127 then
    if (z_I h 16 8) = 100 then
      ((-4), h)
    else
      ((z_I h 16 8) + 1, z_sI (z_sI h 16 8 ((z_I h 16 8) + 1)) 22 (z_c (z_I h 16 8)) c.toInt8.toInt32.toInt8.toInt32)
  else
    ((-2), h)
theorem c_X0_feed {Γ : z_W} {h : z_H} {c : Int32} (hF : z_F h) (hd : z_cn (z_I h 16 8) 100) : z_C Γ M_X0_feed (z_rm 2 0 0) [.ref 16, .int c] h (z_ri (m_X0_feed h c).1 (m_X0_feed h c).2) := by
  refine z_C.of (by decide +kernel) rfl [some (.ref 16), some (.int c)] (Nat.le_of_ble_eq_true rfl) rfl ?_
  refine z_iload_n dX0_feed_0 rfl rfl ?_
  refine z_iconst (v := 0) dX0_feed_1 rfl ?_
  refine z_bipush (v := 127) dX0_feed_2 rfl ?_
  refine z_scall sl_X0_5 (c_X0_in) dX0_feed_4 rfl rfl ⟨by decide, by decide⟩ (Nat.le_of_ble_eq_true rfl) (Nat.le_refl _) (Nat.le_refl _) (z_cI ?_) z_tI
  refine z_bif_ne 13 dX0_feed_7 (by decide) (fun c7 => ?_) (fun c7 => ?_)
  · refine z_aload_n dX0_feed_13 rfl rfl ?_
    refine z_getI dX0_feed_14 fl_X0_199_0 (hF.1 16 _ rfl) rfl ?_
    refine z_bipush (v := 100) dX0_feed_17 rfl ?_
    refine z_icmp_ne 25 dX0_feed_19 (by decide) (fun c19 => ?_) (fun c19 => ?_)
    · refine z_aload_n dX0_feed_25 rfl rfl ?_
      refine z_getR 22 dX0_feed_26 fl_X0_42_0 (hF.1 16 _ rfl) rfl (hF.2.1 16 7 22 rfl) ?_
      refine z_aload_n dX0_feed_29 rfl rfl ?_
      refine z_dup dX0_feed_30 rfl ?_
      refine z_getI dX0_feed_31 fl_X0_199_0 (hF.1 16 _ rfl) rfl ?_
      refine z_dup_x1 dX0_feed_34 rfl rfl ?_
      refine z_iconst (v := 1) dX0_feed_35 rfl ?_
      refine z_iadd dX0_feed_36 ?_
      refine z_putI dX0_feed_37 (pl_X0_199_0 rfl) (hF.1 16 _ rfl) (by decide) rfl ?_
      refine z_iload_n dX0_feed_40 rfl rfl ?_
      refine z_i2b dX0_feed_41 ?_
      refine z_bast (z_c (z_I h 16 8)) dX0_feed_42 (hF.1 22 _ rfl) (by decide) hd.1 (z_cn_lt hd c19) (by decide) ?_
      refine z_aload_n dX0_feed_43 rfl rfl ?_
      refine z_getI dX0_feed_44 fl_X0_199_0 (hF.1 16 _ rfl) rfl ?_
      refine z_eqi ((z_I h 16 8) + 1) rfl ?_
      refine z_iret dX0_feed_47 rfl rfl (Nat.le_refl _) (Nat.le_refl _) (z_ri_i ?_ ?_)
      · first | rfl | (unfold m_X0_feed; rw [if_pos (show z_in c 0 127 from c7), if_neg (show ¬ ((z_I h 16 8) = 100) from c19)]; first | done | rfl)
      · first | rfl | (unfold m_X0_feed; rw [if_pos (show z_in c 0 127 from c7), if_neg (show ¬ ((z_I h 16 8) = 100) from c19)]; first | done | rfl)
    · refine z_bipush (v := (-4)) dX0_feed_22 rfl ?_
      refine z_iret dX0_feed_24 rfl rfl (Nat.le_refl _) (Nat.le_refl _) (z_ri_i ?_ ?_)
      · first | rfl | (unfold m_X0_feed; rw [if_pos (show z_in c 0 127 from c7), if_pos (show (z_I h 16 8) = 100 from c19)]; first | done | rfl)
      · first | rfl | (unfold m_X0_feed; rw [if_pos (show z_in c 0 127 from c7), if_pos (show (z_I h 16 8) = 100 from c19)]; first | done | rfl)
  · refine z_bipush (v := (-2)) dX0_feed_10 rfl ?_
    refine z_iret dX0_feed_12 rfl rfl (Nat.le_refl _) (Nat.le_refl _) (z_ri_i ?_ ?_)
    · first | rfl | (unfold m_X0_feed; rw [if_neg (show ¬ (z_in c 0 127) from c7)]; first | done | rfl)
    · first | rfl | (unfold m_X0_feed; rw [if_neg (show ¬ (z_in c 0 127) from c7)]; first | done | rfl)
def m_X0_leg (h : z_H) (l : Int32) (n : Int32) : Int32 × z_H :=
  if l = (-1) then
    (0, z_sI h 16 18 0)
  else
    if m_X0_isLift h l then
      if z_in n 0 60 then
        if (z_I h 16 18) = 4 then
          ((-4), h)
        else
          ((z_I h 16 18) + 1, z_sI (z_sI (z_sI h 28 (z_c (z_I h 16 18)) l) 16 18 ((z_I h 16 18) + 1)) 29 (z_c (z_I h 16 18)) n)
      else
        ((-2), h)
    else
      ((-1), h)
theorem c_X0_leg {Γ : z_W} {h : z_H} {l : Int32} {n : Int32} (hF : z_F h) (hd : z_cn (z_I h 16 18) 4) : z_C Γ M_X0_leg (z_rm 3 0 0) [.ref 16, .int l, .int n] h (z_ri (m_X0_leg h l n).1 (m_X0_leg h l n).2) := by
  refine z_C.of (by decide +kernel) rfl [some (.ref 16), some (.int l), some (.int n)] (Nat.le_of_ble_eq_true rfl) rfl ?_
  refine z_iload_n dX0_leg_0 rfl rfl ?_
  refine z_iconst (v := (-1)) dX0_leg_1 rfl ?_
  refine z_icmp_ne 12 dX0_leg_2 (by decide) (fun c2 => ?_) (fun c2 => ?_)
  · refine z_aload_n dX0_leg_12 rfl rfl ?_
    refine z_iload_n dX0_leg_13 rfl rfl ?_
    refine z_vcall vl_X0_193_0 (c_X0_isLiftP hF) dX0_leg_14 rfl rfl (hF.1 16 _ rfl) ⟨by decide, by decide⟩ (Nat.le_of_ble_eq_true rfl) (Nat.le_refl _) (Nat.le_refl _) (z_cI ?_) z_tI
    refine z_bif_ne 22 dX0_leg_17 (by decide) (fun c17 => ?_) (fun c17 => ?_)
    · refine z_iload_n dX0_leg_22 rfl rfl ?_
      refine z_iconst (v := 0) dX0_leg_23 rfl ?_
      refine z_bipush (v := 60) dX0_leg_24 rfl ?_
      refine z_scall sl_X0_5 (c_X0_in) dX0_leg_26 rfl rfl ⟨by decide, by decide⟩ (Nat.le_of_ble_eq_true rfl) (Nat.le_refl _) (Nat.le_refl _) (z_cI ?_) z_tI
      refine z_bif_ne 35 dX0_leg_29 (by decide) (fun c29 => ?_) (fun c29 => ?_)
      · refine z_aload_n dX0_leg_35 rfl rfl ?_
        refine z_getI dX0_leg_36 fl_X0_287_0 (hF.1 16 _ rfl) rfl ?_
        refine z_iconst (v := 4) dX0_leg_39 rfl ?_
        refine z_icmp_ne 46 dX0_leg_40 (by decide) (fun c40 => ?_) (fun c40 => ?_)
        · refine z_aload_n dX0_leg_46 rfl rfl ?_
          refine z_getR 28 dX0_leg_47 fl_X0_67_0 (hF.1 16 _ rfl) rfl (hF.2.1 16 13 28 rfl) ?_
          refine z_aload_n dX0_leg_50 rfl rfl ?_
          refine z_getI dX0_leg_51 fl_X0_287_0 (hF.1 16 _ rfl) rfl ?_
          refine z_iload_n dX0_leg_54 rfl rfl ?_
          refine z_iast (z_c (z_I h 16 18)) dX0_leg_55 (hF.1 28 _ rfl) (by decide) hd.1 (z_cn_lt hd c40) (by decide) ?_
          refine z_aload_n dX0_leg_56 rfl rfl ?_
          refine z_getR 29 dX0_leg_57 fl_X0_70_0 (hF.1 16 _ rfl) rfl (hF.2.1 16 14 29 rfl) ?_
          refine z_aload_n dX0_leg_60 rfl rfl ?_
          refine z_dup dX0_leg_61 rfl ?_
          refine z_getI dX0_leg_62 fl_X0_287_0 (hF.1 16 _ rfl) rfl ?_
          refine z_eqi (z_I h 16 18) rfl ?_
          refine z_dup_x1 dX0_leg_65 rfl rfl ?_
          refine z_iconst (v := 1) dX0_leg_66 rfl ?_
          refine z_iadd dX0_leg_67 ?_
          refine z_putI dX0_leg_68 (pl_X0_287_0 rfl) (hF.1 16 _ rfl) (by decide) rfl ?_
          refine z_iload_n dX0_leg_71 rfl rfl ?_
          refine z_iast (z_c (z_I h 16 18)) dX0_leg_72 (hF.1 29 _ rfl) (by decide) hd.1 (z_cn_lt hd c40) (by decide) ?_
          refine z_aload_n dX0_leg_73 rfl rfl ?_
          refine z_getI dX0_leg_74 fl_X0_287_0 (hF.1 16 _ rfl) rfl ?_
          refine z_eqi ((z_I h 16 18) + 1) rfl ?_
          refine z_iret dX0_leg_77 rfl rfl (Nat.le_refl _) (Nat.le_refl _) (z_ri_i ?_ ?_)
          · first | rfl | (unfold m_X0_leg; rw [if_neg (show ¬ (l = (-1)) from c2), if_pos (show m_X0_isLift h l from c17), if_pos (show z_in n 0 60 from c29), if_neg (show ¬ ((z_I h 16 18) = 4) from c40)]; first | done | rfl)
          · first | rfl | (unfold m_X0_leg; rw [if_neg (show ¬ (l = (-1)) from c2), if_pos (show m_X0_isLift h l from c17), if_pos (show z_in n 0 60 from c29), if_neg (show ¬ ((z_I h 16 18) = 4) from c40)]; first | done | rfl)
        · refine z_bipush (v := (-4)) dX0_leg_43 rfl ?_
          refine z_iret dX0_leg_45 rfl rfl (Nat.le_refl _) (Nat.le_refl _) (z_ri_i ?_ ?_)
          · first | rfl | (unfold m_X0_leg; rw [if_neg (show ¬ (l = (-1)) from c2), if_pos (show m_X0_isLift h l from c17), if_pos (show z_in n 0 60 from c29), if_pos (show (z_I h 16 18) = 4 from c40)]; first | done | rfl)
          · first | rfl | (unfold m_X0_leg; rw [if_neg (show ¬ (l = (-1)) from c2), if_pos (show m_X0_isLift h l from c17), if_pos (show z_in n 0 60 from c29), if_pos (show (z_I h 16 18) = 4 from c40)]; first | done | rfl)
      · refine z_bipush (v := (-2)) dX0_leg_32 rfl ?_
        refine z_iret dX0_leg_34 rfl rfl (Nat.le_refl _) (Nat.le_refl _) (z_ri_i ?_ ?_)
        · first | rfl | (unfold m_X0_leg; rw [if_neg (show ¬ (l = (-1)) from c2), if_pos (show m_X0_isLift h l from c17), if_neg (show ¬ (z_in n 0 60) from c29)]; first | done | rfl)
        · first | rfl | (unfold m_X0_leg; rw [if_neg (show ¬ (l = (-1)) from c2), if_pos (show m_X0_isLift h l from c17), if_neg (show ¬ (z_in n 0 60) from c29)]; first | done | rfl)
    · refine z_iconst (v := (-1)) dX0_leg_20 rfl ?_
      refine z_iret dX0_leg_21 rfl rfl (Nat.le_refl _) (Nat.le_refl _) (z_ri_i ?_ ?_)
      · first | rfl | (unfold m_X0_leg; rw [if_neg (show ¬ (l = (-1)) from c2), if_neg (show ¬ (m_X0_isLift h l) from c17)]; first | done | rfl)
      · first | rfl | (unfold m_X0_leg; rw [if_neg (show ¬ (l = (-1)) from c2), if_neg (show ¬ (m_X0_isLift h l) from c17)]; first | done | rfl)
  · refine z_aload_n dX0_leg_5 rfl rfl ?_
    refine z_iconst (v := 0) dX0_leg_6 rfl ?_
    refine z_putI dX0_leg_7 (pl_X0_287_0 rfl) (hF.1 16 _ rfl) (by decide) rfl ?_
    refine z_iconst (v := 0) dX0_leg_10 rfl ?_
    refine z_iret dX0_leg_11 rfl rfl (Nat.le_refl _) (Nat.le_refl _) (z_ri_i ?_ ?_)
    · first | rfl | (unfold m_X0_leg; rw [if_pos (show l = (-1) from c2)]; first | done | rfl)
    · first | rfl | (unfold m_X0_leg; rw [if_pos (show l = (-1) from c2)]; first | done | rfl)
def m_X0_see (h : z_H) (n : Int32) : Int32 × z_H :=
  if n = (-100) then
    (0, z_sI h 16 19 0)
  else
    if z_in n (-99) 99 then
      if (z_I h 16 19) = 5 then
        ((-4), h)
      else
        ((z_I h 16 19) + 1, z_sI (z_sI h 16 19 ((z_I h 16 19) + 1)) 30 (z_c (z_I h 16 19)) n)
    else
      ((-2), h)
theorem c_X0_see {Γ : z_W} {h : z_H} {n : Int32} (hF : z_F h) (hd : z_cn (z_I h 16 19) 5) : z_C Γ M_X0_see (z_rm 2 0 0) [.ref 16, .int n] h (z_ri (m_X0_see h n).1 (m_X0_see h n).2) := by
  refine z_C.of (by decide +kernel) rfl [some (.ref 16), some (.int n)] (Nat.le_of_ble_eq_true rfl) rfl ?_
  refine z_iload_n dX0_see_0 rfl rfl ?_
  refine z_bipush (v := (-100)) dX0_see_1 rfl ?_
  refine z_icmp_ne 13 dX0_see_3 (by decide) (fun c3 => ?_) (fun c3 => ?_)
  · refine z_iload_n dX0_see_13 rfl rfl ?_
    refine z_bipush (v := (-99)) dX0_see_14 rfl ?_
    refine z_bipush (v := 99) dX0_see_16 rfl ?_
    refine z_scall sl_X0_5 (c_X0_in) dX0_see_18 rfl rfl ⟨by decide, by decide⟩ (Nat.le_of_ble_eq_true rfl) (Nat.le_refl _) (Nat.le_refl _) (z_cI ?_) z_tI
    refine z_bif_ne 27 dX0_see_21 (by decide) (fun c21 => ?_) (fun c21 => ?_)
    · refine z_aload_n dX0_see_27 rfl rfl ?_
      refine z_getI dX0_see_28 fl_X0_293_0 (hF.1 16 _ rfl) rfl ?_
      refine z_iconst (v := 5) dX0_see_31 rfl ?_
      refine z_icmp_ne 38 dX0_see_32 (by decide) (fun c32 => ?_) (fun c32 => ?_)
      · refine z_aload_n dX0_see_38 rfl rfl ?_
        refine z_getR 30 dX0_see_39 fl_X0_73_0 (hF.1 16 _ rfl) rfl (hF.2.1 16 15 30 rfl) ?_
        refine z_aload_n dX0_see_42 rfl rfl ?_
        refine z_dup dX0_see_43 rfl ?_
        refine z_getI dX0_see_44 fl_X0_293_0 (hF.1 16 _ rfl) rfl ?_
        refine z_dup_x1 dX0_see_47 rfl rfl ?_
        refine z_iconst (v := 1) dX0_see_48 rfl ?_
        refine z_iadd dX0_see_49 ?_
        refine z_putI dX0_see_50 (pl_X0_293_0 rfl) (hF.1 16 _ rfl) (by decide) rfl ?_
        refine z_iload_n dX0_see_53 rfl rfl ?_
        refine z_iast (z_c (z_I h 16 19)) dX0_see_54 (hF.1 30 _ rfl) (by decide) hd.1 (z_cn_lt hd c32) (by decide) ?_
        refine z_aload_n dX0_see_55 rfl rfl ?_
        refine z_getI dX0_see_56 fl_X0_293_0 (hF.1 16 _ rfl) rfl ?_
        refine z_eqi ((z_I h 16 19) + 1) rfl ?_
        refine z_iret dX0_see_59 rfl rfl (Nat.le_refl _) (Nat.le_refl _) (z_ri_i ?_ ?_)
        · first | rfl | (unfold m_X0_see; rw [if_neg (show ¬ (n = (-100)) from c3), if_pos (show z_in n (-99) 99 from c21), if_neg (show ¬ ((z_I h 16 19) = 5) from c32)]; first | done | rfl)
        · first | rfl | (unfold m_X0_see; rw [if_neg (show ¬ (n = (-100)) from c3), if_pos (show z_in n (-99) 99 from c21), if_neg (show ¬ ((z_I h 16 19) = 5) from c32)]; first | done | rfl)
      · refine z_bipush (v := (-4)) dX0_see_35 rfl ?_
        refine z_iret dX0_see_37 rfl rfl (Nat.le_refl _) (Nat.le_refl _) (z_ri_i ?_ ?_)
        · first | rfl | (unfold m_X0_see; rw [if_neg (show ¬ (n = (-100)) from c3), if_pos (show z_in n (-99) 99 from c21), if_pos (show (z_I h 16 19) = 5 from c32)]; first | done | rfl)
        · first | rfl | (unfold m_X0_see; rw [if_neg (show ¬ (n = (-100)) from c3), if_pos (show z_in n (-99) 99 from c21), if_pos (show (z_I h 16 19) = 5 from c32)]; first | done | rfl)
    · refine z_bipush (v := (-2)) dX0_see_24 rfl ?_
      refine z_iret dX0_see_26 rfl rfl (Nat.le_refl _) (Nat.le_refl _) (z_ri_i ?_ ?_)
      · first | rfl | (unfold m_X0_see; rw [if_neg (show ¬ (n = (-100)) from c3), if_neg (show ¬ (z_in n (-99) 99) from c21)]; first | done | rfl)
      · first | rfl | (unfold m_X0_see; rw [if_neg (show ¬ (n = (-100)) from c3), if_neg (show ¬ (z_in n (-99) 99) from c21)]; first | done | rfl)
  · refine z_aload_n dX0_see_6 rfl rfl ?_
    refine z_iconst (v := 0) dX0_see_7 rfl ?_
    refine z_putI dX0_see_8 (pl_X0_293_0 rfl) (hF.1 16 _ rfl) (by decide) rfl ?_
    refine z_iconst (v := 0) dX0_see_11 rfl ?_
    refine z_iret dX0_see_12 rfl rfl (Nat.le_refl _) (Nat.le_refl _) (z_ri_i ?_ ?_)
    · first | rfl | (unfold m_X0_see; rw [if_pos (show n = (-100) from c3)]; first | done | rfl)
    · first | rfl | (unfold m_X0_see; rw [if_pos (show n = (-100) from c3)]; first | done | rfl)
def m_X0_book (h : z_H) (l : Int32) (n : Int32) : Int32 × z_H :=
  if l = (-1) then
    (0, z_sI h 16 20 0)
  else
    if m_X0_isLift h l then
      if z_in n (-99) 99 then
        if (z_I h 16 20) = 8 then
          ((-4), h)
        else
          ((z_I h 16 20) + 1, z_sI (z_sI (z_sI h 31 (z_c (z_I h 16 20)) l) 16 20 ((z_I h 16 20) + 1)) 32 (z_c (z_I h 16 20)) n)
      else
        ((-2), h)
    else
      ((-1), h)
theorem c_X0_book {Γ : z_W} {h : z_H} {l : Int32} {n : Int32} (hF : z_F h) (hd : z_cn (z_I h 16 20) 8) : z_C Γ M_X0_book (z_rm 3 0 0) [.ref 16, .int l, .int n] h (z_ri (m_X0_book h l n).1 (m_X0_book h l n).2) := by
  refine z_C.of (by decide +kernel) rfl [some (.ref 16), some (.int l), some (.int n)] (Nat.le_of_ble_eq_true rfl) rfl ?_
  refine z_iload_n dX0_book_0 rfl rfl ?_
  refine z_iconst (v := (-1)) dX0_book_1 rfl ?_
  refine z_icmp_ne 12 dX0_book_2 (by decide) (fun c2 => ?_) (fun c2 => ?_)
  · refine z_aload_n dX0_book_12 rfl rfl ?_
    refine z_iload_n dX0_book_13 rfl rfl ?_
    refine z_vcall vl_X0_193_0 (c_X0_isLiftP hF) dX0_book_14 rfl rfl (hF.1 16 _ rfl) ⟨by decide, by decide⟩ (Nat.le_of_ble_eq_true rfl) (Nat.le_refl _) (Nat.le_refl _) (z_cI ?_) z_tI
    refine z_bif_ne 22 dX0_book_17 (by decide) (fun c17 => ?_) (fun c17 => ?_)
    · refine z_iload_n dX0_book_22 rfl rfl ?_
      refine z_bipush (v := (-99)) dX0_book_23 rfl ?_
      refine z_bipush (v := 99) dX0_book_25 rfl ?_
      refine z_scall sl_X0_5 (c_X0_in) dX0_book_27 rfl rfl ⟨by decide, by decide⟩ (Nat.le_of_ble_eq_true rfl) (Nat.le_refl _) (Nat.le_refl _) (z_cI ?_) z_tI
      refine z_bif_ne 36 dX0_book_30 (by decide) (fun c30 => ?_) (fun c30 => ?_)
      · refine z_aload_n dX0_book_36 rfl rfl ?_
        refine z_getI dX0_book_37 fl_X0_312_0 (hF.1 16 _ rfl) rfl ?_
        refine z_bipush (v := 8) dX0_book_40 rfl ?_
        refine z_icmp_ne 48 dX0_book_42 (by decide) (fun c42 => ?_) (fun c42 => ?_)
        · refine z_aload_n dX0_book_48 rfl rfl ?_
          refine z_getR 31 dX0_book_49 fl_X0_76_0 (hF.1 16 _ rfl) rfl (hF.2.1 16 16 31 rfl) ?_
          refine z_aload_n dX0_book_52 rfl rfl ?_
          refine z_getI dX0_book_53 fl_X0_312_0 (hF.1 16 _ rfl) rfl ?_
          refine z_iload_n dX0_book_56 rfl rfl ?_
          refine z_iast (z_c (z_I h 16 20)) dX0_book_57 (hF.1 31 _ rfl) (by decide) hd.1 (z_cn_lt hd c42) (by decide) ?_
          refine z_aload_n dX0_book_58 rfl rfl ?_
          refine z_getR 32 dX0_book_59 fl_X0_79_0 (hF.1 16 _ rfl) rfl (hF.2.1 16 17 32 rfl) ?_
          refine z_aload_n dX0_book_62 rfl rfl ?_
          refine z_dup dX0_book_63 rfl ?_
          refine z_getI dX0_book_64 fl_X0_312_0 (hF.1 16 _ rfl) rfl ?_
          refine z_eqi (z_I h 16 20) rfl ?_
          refine z_dup_x1 dX0_book_67 rfl rfl ?_
          refine z_iconst (v := 1) dX0_book_68 rfl ?_
          refine z_iadd dX0_book_69 ?_
          refine z_putI dX0_book_70 (pl_X0_312_0 rfl) (hF.1 16 _ rfl) (by decide) rfl ?_
          refine z_iload_n dX0_book_73 rfl rfl ?_
          refine z_iast (z_c (z_I h 16 20)) dX0_book_74 (hF.1 32 _ rfl) (by decide) hd.1 (z_cn_lt hd c42) (by decide) ?_
          refine z_aload_n dX0_book_75 rfl rfl ?_
          refine z_getI dX0_book_76 fl_X0_312_0 (hF.1 16 _ rfl) rfl ?_
          refine z_eqi ((z_I h 16 20) + 1) rfl ?_
          refine z_iret dX0_book_79 rfl rfl (Nat.le_refl _) (Nat.le_refl _) (z_ri_i ?_ ?_)
          · first | rfl | (unfold m_X0_book; rw [if_neg (show ¬ (l = (-1)) from c2), if_pos (show m_X0_isLift h l from c17), if_pos (show z_in n (-99) 99 from c30), if_neg (show ¬ ((z_I h 16 20) = 8) from c42)]; first | done | rfl)
          · first | rfl | (unfold m_X0_book; rw [if_neg (show ¬ (l = (-1)) from c2), if_pos (show m_X0_isLift h l from c17), if_pos (show z_in n (-99) 99 from c30), if_neg (show ¬ ((z_I h 16 20) = 8) from c42)]; first | done | rfl)
        · refine z_bipush (v := (-4)) dX0_book_45 rfl ?_
          refine z_iret dX0_book_47 rfl rfl (Nat.le_refl _) (Nat.le_refl _) (z_ri_i ?_ ?_)
          · first | rfl | (unfold m_X0_book; rw [if_neg (show ¬ (l = (-1)) from c2), if_pos (show m_X0_isLift h l from c17), if_pos (show z_in n (-99) 99 from c30), if_pos (show (z_I h 16 20) = 8 from c42)]; first | done | rfl)
          · first | rfl | (unfold m_X0_book; rw [if_neg (show ¬ (l = (-1)) from c2), if_pos (show m_X0_isLift h l from c17), if_pos (show z_in n (-99) 99 from c30), if_pos (show (z_I h 16 20) = 8 from c42)]; first | done | rfl)
      · refine z_bipush (v := (-2)) dX0_book_33 rfl ?_
        refine z_iret dX0_book_35 rfl rfl (Nat.le_refl _) (Nat.le_refl _) (z_ri_i ?_ ?_)
        · first | rfl | (unfold m_X0_book; rw [if_neg (show ¬ (l = (-1)) from c2), if_pos (show m_X0_isLift h l from c17), if_neg (show ¬ (z_in n (-99) 99) from c30)]; first | done | rfl)
        · first | rfl | (unfold m_X0_book; rw [if_neg (show ¬ (l = (-1)) from c2), if_pos (show m_X0_isLift h l from c17), if_neg (show ¬ (z_in n (-99) 99) from c30)]; first | done | rfl)
    · refine z_iconst (v := (-1)) dX0_book_20 rfl ?_
      refine z_iret dX0_book_21 rfl rfl (Nat.le_refl _) (Nat.le_refl _) (z_ri_i ?_ ?_)
      · first | rfl | (unfold m_X0_book; rw [if_neg (show ¬ (l = (-1)) from c2), if_neg (show ¬ (m_X0_isLift h l) from c17)]; first | done | rfl)
      · first | rfl | (unfold m_X0_book; rw [if_neg (show ¬ (l = (-1)) from c2), if_neg (show ¬ (m_X0_isLift h l) from c17)]; first | done | rfl)
  · refine z_aload_n dX0_book_5 rfl rfl ?_
    refine z_iconst (v := 0) dX0_book_6 rfl ?_
    refine z_putI dX0_book_7 (pl_X0_312_0 rfl) (hF.1 16 _ rfl) (by decide) rfl ?_
    refine z_iconst (v := 0) dX0_book_10 rfl ?_
    refine z_iret dX0_book_11 rfl rfl (Nat.le_refl _) (Nat.le_refl _) (z_ri_i ?_ ?_)
    · first | rfl | (unfold m_X0_book; rw [if_pos (show l = (-1) from c2)]; first | done | rfl)
    · first | rfl | (unfold m_X0_book; rw [if_pos (show l = (-1) from c2)]; first | done | rfl)
def m_X0_count (h : z_H) (w : Int32) : Int32 :=
  if w = 0 then
    z_I h 16 3
  else
    if w = 1 then
      z_I h 16 9
    else
      if w = 2 then
        z_I h 16 18
      else
        if w = 3 then
          z_I h 16 19
        else
          if w = 4 then
            z_I h 16 20
          else
            if w = 5 then
              z_I h 16 8
            else
              if w = 6 then
                z_I h 26 1
              else
                (-2)
theorem c_X0_count {Γ : z_W} {h : z_H} {w : Int32} (hF : z_F h)  : z_C Γ M_X0_count (z_rm 1 0 0) [.ref 16, .int w] h (z_ri (m_X0_count h w) h) := by
  refine z_C.of (by decide +kernel) rfl [some (.ref 16), some (.int w)] (Nat.le_of_ble_eq_true rfl) rfl ?_
  refine z_iload_n dX0_count_0 rfl rfl ?_
  by_cases e1_0 : w = 0
  · refine z_tableIn 0 44 dX0_count_1 e1_0 (by decide) (by decide) rfl (by decide) ?_
    refine z_aload_n dX0_count_44 rfl rfl ?_
    refine z_getI dX0_count_45 fl_X0_116_0 (hF.1 16 _ rfl) rfl ?_
    refine z_iret dX0_count_48 rfl rfl (Nat.le_refl _) (Nat.le_refl _) (z_ri_i ?_ ?_)
    · first | rfl | (unfold m_X0_count; rw [if_pos (show w = 0 from e1_0)]; first | done | rfl)
    · first | rfl | (unfold m_X0_count; rw [if_pos (show w = 0 from e1_0)]; first | done | rfl)
  by_cases e1_1 : w = 1
  · refine z_tableIn 1 49 dX0_count_1 e1_1 (by decide) (by decide) rfl (by decide) ?_
    refine z_aload_n dX0_count_49 rfl rfl ?_
    refine z_getI dX0_count_50 fl_X0_202_0 (hF.1 16 _ rfl) rfl ?_
    refine z_iret dX0_count_53 rfl rfl (Nat.le_refl _) (Nat.le_refl _) (z_ri_i ?_ ?_)
    · first | rfl | (unfold m_X0_count; rw [if_neg (show ¬ (w = 0) from e1_0), if_pos (show w = 1 from e1_1)]; first | done | rfl)
    · first | rfl | (unfold m_X0_count; rw [if_neg (show ¬ (w = 0) from e1_0), if_pos (show w = 1 from e1_1)]; first | done | rfl)
  by_cases e1_2 : w = 2
  · refine z_tableIn 2 54 dX0_count_1 e1_2 (by decide) (by decide) rfl (by decide) ?_
    refine z_aload_n dX0_count_54 rfl rfl ?_
    refine z_getI dX0_count_55 fl_X0_287_0 (hF.1 16 _ rfl) rfl ?_
    refine z_iret dX0_count_58 rfl rfl (Nat.le_refl _) (Nat.le_refl _) (z_ri_i ?_ ?_)
    · first | rfl | (unfold m_X0_count; rw [if_neg (show ¬ (w = 0) from e1_0), if_neg (show ¬ (w = 1) from e1_1), if_pos (show w = 2 from e1_2)]; first | done | rfl)
    · first | rfl | (unfold m_X0_count; rw [if_neg (show ¬ (w = 0) from e1_0), if_neg (show ¬ (w = 1) from e1_1), if_pos (show w = 2 from e1_2)]; first | done | rfl)
  by_cases e1_3 : w = 3
  · refine z_tableIn 3 59 dX0_count_1 e1_3 (by decide) (by decide) rfl (by decide) ?_
    refine z_aload_n dX0_count_59 rfl rfl ?_
    refine z_getI dX0_count_60 fl_X0_293_0 (hF.1 16 _ rfl) rfl ?_
    refine z_iret dX0_count_63 rfl rfl (Nat.le_refl _) (Nat.le_refl _) (z_ri_i ?_ ?_)
    · first | rfl | (unfold m_X0_count; rw [if_neg (show ¬ (w = 0) from e1_0), if_neg (show ¬ (w = 1) from e1_1), if_neg (show ¬ (w = 2) from e1_2), if_pos (show w = 3 from e1_3)]; first | done | rfl)
    · first | rfl | (unfold m_X0_count; rw [if_neg (show ¬ (w = 0) from e1_0), if_neg (show ¬ (w = 1) from e1_1), if_neg (show ¬ (w = 2) from e1_2), if_pos (show w = 3 from e1_3)]; first | done | rfl)
  by_cases e1_4 : w = 4
  · refine z_tableIn 4 64 dX0_count_1 e1_4 (by decide) (by decide) rfl (by decide) ?_
    refine z_aload_n dX0_count_64 rfl rfl ?_
    refine z_getI dX0_count_65 fl_X0_312_0 (hF.1 16 _ rfl) rfl ?_
    refine z_iret dX0_count_68 rfl rfl (Nat.le_refl _) (Nat.le_refl _) (z_ri_i ?_ ?_)
    · first | rfl | (unfold m_X0_count; rw [if_neg (show ¬ (w = 0) from e1_0), if_neg (show ¬ (w = 1) from e1_1), if_neg (show ¬ (w = 2) from e1_2), if_neg (show ¬ (w = 3) from e1_3), if_pos (show w = 4 from e1_4)]; first | done | rfl)
    · first | rfl | (unfold m_X0_count; rw [if_neg (show ¬ (w = 0) from e1_0), if_neg (show ¬ (w = 1) from e1_1), if_neg (show ¬ (w = 2) from e1_2), if_neg (show ¬ (w = 3) from e1_3), if_pos (show w = 4 from e1_4)]; first | done | rfl)
  by_cases e1_5 : w = 5
  · refine z_tableIn 5 69 dX0_count_1 e1_5 (by decide) (by decide) rfl (by decide) ?_
    refine z_aload_n dX0_count_69 rfl rfl ?_
    refine z_getI dX0_count_70 fl_X0_199_0 (hF.1 16 _ rfl) rfl ?_
    refine z_iret dX0_count_73 rfl rfl (Nat.le_refl _) (Nat.le_refl _) (z_ri_i ?_ ?_)
    · first | rfl | (unfold m_X0_count; rw [if_neg (show ¬ (w = 0) from e1_0), if_neg (show ¬ (w = 1) from e1_1), if_neg (show ¬ (w = 2) from e1_2), if_neg (show ¬ (w = 3) from e1_3), if_neg (show ¬ (w = 4) from e1_4), if_pos (show w = 5 from e1_5)]; first | done | rfl)
    · first | rfl | (unfold m_X0_count; rw [if_neg (show ¬ (w = 0) from e1_0), if_neg (show ¬ (w = 1) from e1_1), if_neg (show ¬ (w = 2) from e1_2), if_neg (show ¬ (w = 3) from e1_3), if_neg (show ¬ (w = 4) from e1_4), if_pos (show w = 5 from e1_5)]; first | done | rfl)
  by_cases e1_6 : w = 6
  · refine z_tableIn 6 74 dX0_count_1 e1_6 (by decide) (by decide) rfl (by decide) ?_
    refine z_aload_n dX0_count_74 rfl rfl ?_
    refine z_getR 26 dX0_count_75 fl_X0_63_0 (hF.1 16 _ rfl) rfl (hF.2.1 16 12 26 rfl) ?_
    refine z_getI dX0_count_78 fl_X0_358_4 (hF.1 26 _ rfl) rfl ?_
    refine z_iret dX0_count_81 rfl rfl (Nat.le_refl _) (Nat.le_refl _) (z_ri_i ?_ ?_)
    · first | rfl | (unfold m_X0_count; rw [if_neg (show ¬ (w = 0) from e1_0), if_neg (show ¬ (w = 1) from e1_1), if_neg (show ¬ (w = 2) from e1_2), if_neg (show ¬ (w = 3) from e1_3), if_neg (show ¬ (w = 4) from e1_4), if_neg (show ¬ (w = 5) from e1_5), if_pos (show w = 6 from e1_6)]; first | done | rfl)
    · first | rfl | (unfold m_X0_count; rw [if_neg (show ¬ (w = 0) from e1_0), if_neg (show ¬ (w = 1) from e1_1), if_neg (show ¬ (w = 2) from e1_2), if_neg (show ¬ (w = 3) from e1_3), if_neg (show ¬ (w = 4) from e1_4), if_neg (show ¬ (w = 5) from e1_5), if_pos (show w = 6 from e1_6)]; first | done | rfl)
  refine z_tableOut 82 dX0_count_1 (z_tout7 e1_0 e1_1 e1_2 e1_3 e1_4 e1_5 e1_6) (by decide) ?_
  refine z_bipush (v := (-2)) dX0_count_82 rfl ?_
  refine z_iret dX0_count_84 rfl rfl (Nat.le_refl _) (Nat.le_refl _) (z_ri_i ?_ ?_)
  · first | rfl | (unfold m_X0_count; rw [if_neg (show ¬ (w = 0) from e1_0), if_neg (show ¬ (w = 1) from e1_1), if_neg (show ¬ (w = 2) from e1_2), if_neg (show ¬ (w = 3) from e1_3), if_neg (show ¬ (w = 4) from e1_4), if_neg (show ¬ (w = 5) from e1_5), if_neg (show ¬ (w = 6) from e1_6)]; first | done | rfl)
  · first | rfl | (unfold m_X0_count; rw [if_neg (show ¬ (w = 0) from e1_0), if_neg (show ¬ (w = 1) from e1_1), if_neg (show ¬ (w = 2) from e1_2), if_neg (show ¬ (w = 3) from e1_3), if_neg (show ¬ (w = 4) from e1_4), if_neg (show ¬ (w = 5) from e1_5), if_neg (show ¬ (w = 6) from e1_6)]; first | done | rfl)
theorem z_tri {h : z_H} {n i : Int32} (hi : z_in i 0 (m_J3_min h n 20 - 1)) (hn : ¬ n < 0) : z_in i 0 19 := by
  refine ⟨hi.1, ?_⟩
  have h2 := hi.2
  unfold m_J3_min at h2
  rw [Int32.lt_iff_toInt_lt, z_i0] at hn
  have h1 := hi.1
  rw [Int32.le_iff_toInt_le] at h2 h1 ⊢
  rw [show (19 : Int32).toInt = 19 from rfl]
  split at h2
  · rw [z_ts (by rw [show (20 : Int32).toInt = 20 from rfl]; decide) (by decide)] at h2
    exact h2
  · rename_i c
    rw [Int32.lt_iff_toInt_lt, show (20 : Int32).toInt = 20 from rfl] at c
    rw [z_ts (by rw [show (1 : Int32).toInt = 1 from rfl]; omega) (by rw [show (1 : Int32).toInt = 1 from rfl]; omega), show (1 : Int32).toInt = 1 from rfl] at h2
    omega
def m_X0_trace (h : z_H) (i : Int32) : Int32 :=
  if z_in i 0 ((m_J3_min h (z_I h 26 1) 20) - 1) then
    z_I h 27 (z_c i)
  else
    (-1)
theorem c_X0_trace {Γ : z_W} {h : z_H} {i : Int32} (hF : z_F h) (hn : ¬ z_I h 26 1 < 0) : z_C Γ M_X0_trace (z_rm 2 0 0) [.ref 16, .int i] h (z_ri (m_X0_trace h i) h) := by
  refine z_C.of (by decide +kernel) rfl [some (.ref 16), some (.int i)] (Nat.le_of_ble_eq_true rfl) rfl ?_
  refine z_iload_n dX0_trace_0 rfl rfl ?_
  refine z_iconst (v := 0) dX0_trace_1 rfl ?_
  refine z_aload_n dX0_trace_2 rfl rfl ?_
  refine z_getR 26 dX0_trace_3 fl_X0_63_0 (hF.1 16 _ rfl) rfl (hF.2.1 16 12 26 rfl) ?_
  refine z_getI dX0_trace_6 fl_X0_358_4 (hF.1 26 _ rfl) rfl ?_
  refine z_bipush (v := 20) dX0_trace_9 rfl ?_
  refine z_scall sl_X0_166 (c_J3_min) dX0_trace_11 rfl rfl ⟨by decide, by decide⟩ (Nat.le_of_ble_eq_true rfl) (Nat.le_refl _) (Nat.le_refl _) (z_cI ?_) z_tI
  refine z_iconst (v := 1) dX0_trace_14 rfl ?_
  refine z_isub dX0_trace_15 ?_
  refine z_scall sl_X0_5 (c_X0_in) dX0_trace_16 rfl rfl ⟨by decide, by decide⟩ (Nat.le_of_ble_eq_true rfl) (Nat.le_refl _) (Nat.le_refl _) (z_cI ?_) z_tI
  refine z_bif_eq 34 dX0_trace_19 (by decide) (fun c19 => ?_) (fun c19 => ?_)
  · refine z_iconst (v := (-1)) dX0_trace_34 rfl ?_
    refine z_iret dX0_trace_35 rfl rfl (Nat.le_refl _) (Nat.le_refl _) (z_ri_i ?_ ?_)
    · first | rfl | (unfold m_X0_trace; rw [if_neg (show ¬ (z_in i 0 ((m_J3_min h (z_I h 26 1) 20) - 1)) from c19)]; first | done | rfl)
    · first | rfl | (unfold m_X0_trace; rw [if_neg (show ¬ (z_in i 0 ((m_J3_min h (z_I h 26 1) 20) - 1)) from c19)]; first | done | rfl)
  · have hi2 := z_ixb (l := i) 19 (by decide) (z_tri c19 hn)
    refine z_aload_n dX0_trace_22 rfl rfl ?_
    refine z_getR 26 dX0_trace_23 fl_X0_63_0 (hF.1 16 _ rfl) rfl (hF.2.1 16 12 26 rfl) ?_
    refine z_getR 27 dX0_trace_26 fl_X0_368_4 (hF.1 26 _ rfl) rfl (hF.2.1 26 0 27 rfl) ?_
    refine z_iload_n dX0_trace_29 rfl rfl ?_
    refine z_iald (z_c i) dX0_trace_30 (hF.1 27 _ rfl) hi2.1 (by have := hi2.2; omega) (by decide) ?_
    refine z_goto 35 dX0_trace_31 (by decide) ?_
    refine z_iret dX0_trace_35 rfl rfl (Nat.le_refl _) (Nat.le_refl _) (z_ri_i ?_ ?_)
    · first | rfl | (unfold m_X0_trace; rw [if_pos (show z_in i 0 ((m_J3_min h (z_I h 26 1) 20) - 1) from c19)]; first | done | rfl)
    · first | rfl | (unfold m_X0_trace; rw [if_pos (show z_in i 0 ((m_J3_min h (z_I h 26 1) 20) - 1) from c19)]; first | done | rfl)
def m_X0_row (h : z_H) (l : Int32) (q : Int32) (n : Int32) : Int32 × z_H :=
  if m_X0_isLift h l then
    if z_in q 0 3 then
      if z_in n 0 9 then
        if (z_I h 50 (z_c l)) = 6 then
          (z_I h 19 (4 * z_c l + z_c q), z_sI h 19 (4 * z_c l + z_c q) n)
        else
          ((-3), h)
      else
        ((-2), h)
    else
      ((-1), h)
  else
    ((-1), h)
theorem c_X0_row {Γ : z_W} {h : z_H} {l : Int32} {q : Int32} {n : Int32} (hF : z_F h) (hm : z_cn (z_I h 16 3) 6) (hL : ∀ j, j < z_c (z_I h 16 3) → ∃ id k, z_R h 17 j = some id ∧ z_Lf h id j k) : z_C Γ M_X0_row (z_rm 3 0 0) [.ref 16, .int l, .int q, .int n] h (z_ri (m_X0_row h l q n).1 (m_X0_row h l q n).2) := by
  refine z_C.of (by decide +kernel) rfl [some (.ref 16), some (.int l), some (.int q), some (.int n), none] (Nat.le_of_ble_eq_true rfl) rfl ?_
  refine z_aload_n dX0_row_0 rfl rfl ?_
  refine z_iload_n dX0_row_1 rfl rfl ?_
  refine z_vcall vl_X0_193_0 (c_X0_isLiftP hF) dX0_row_2 rfl rfl (hF.1 16 _ rfl) ⟨by decide, by decide⟩ (Nat.le_of_ble_eq_true rfl) (Nat.le_refl _) (Nat.le_refl _) (z_cI ?_) z_tI
  refine z_bif_eq 17 dX0_row_5 (by decide) (fun c5 => ?_) (fun c5 => ?_)
  · refine z_iconst (v := (-1)) dX0_row_17 rfl ?_
    refine z_iret dX0_row_18 rfl rfl (Nat.le_refl _) (Nat.le_refl _) (z_ri_i ?_ ?_)
    · first | rfl | (unfold m_X0_row; rw [if_neg (show ¬ (m_X0_isLift h l) from c5)]; first | done | rfl)
    · first | rfl | (unfold m_X0_row; rw [if_neg (show ¬ (m_X0_isLift h l) from c5)]; first | done | rfl)
  · have hl := z_ix hm (by decide) c5
    have hl6 : l = nI (z_c l) ∧ z_c l < 6 := ⟨hl.1, by have := hl.2; have := hm.2; omega⟩
    obtain ⟨id, k, hid, hlf⟩ := hL _ hl.2
    obtain ⟨h85, hk6, hkd, hTL, -, hn1, hvL, hmL, h46⟩ := hlf
    refine z_iload_n dX0_row_8 rfl rfl ?_
    refine z_iconst (v := 0) dX0_row_9 rfl ?_
    refine z_iconst (v := 3) dX0_row_10 rfl ?_
    refine z_scall sl_X0_5 (c_X0_in) dX0_row_11 rfl rfl ⟨by decide, by decide⟩ (Nat.le_of_ble_eq_true rfl) (Nat.le_refl _) (Nat.le_refl _) (z_cI ?_) z_tI
    refine z_bif_ne 19 dX0_row_14 (by decide) (fun c14 => ?_) (fun c14 => ?_)
    · have hq := z_ixb (l := q) 3 (by decide) c14
      refine z_iload_n dX0_row_19 rfl rfl ?_
      refine z_iconst (v := 0) dX0_row_20 rfl ?_
      refine z_bipush (v := 9) dX0_row_21 rfl ?_
      refine z_scall sl_X0_5 (c_X0_in) dX0_row_23 rfl rfl ⟨by decide, by decide⟩ (Nat.le_of_ble_eq_true rfl) (Nat.le_refl _) (Nat.le_refl _) (z_cI ?_) z_tI
      refine z_bif_ne 32 dX0_row_26 (by decide) (fun c26 => ?_) (fun c26 => ?_)
      · refine z_aload_n dX0_row_32 rfl rfl ?_
        refine z_getR 17 dX0_row_33 fl_X0_17_0 (hF.1 16 _ rfl) rfl (hF.2.1 16 0 17 rfl) ?_
        refine z_iload_n dX0_row_36 rfl rfl ?_
        refine z_aald (z_c l) id dX0_row_37 (hF.1 17 _ rfl) (by simp [z_at]) hl6.1 hl6.2 (by decide) hid ?_
        refine z_kind rfl hk6 hTL dX0_row_38 (by decide) (Nat.le_of_ble_eq_true rfl) (Nat.le_refl _) (Nat.le_refl _) <| z_eqi (z_I h 50 (z_c l)) hkd.symm ?_
        refine z_bipush (v := 6) dX0_row_41 rfl ?_
        refine z_icmp_eq 49 dX0_row_43 (by decide) (fun c43 => ?_) (fun c43 => ?_)
        · refine z_aload_n dX0_row_49 rfl rfl ?_
          refine z_getR 19 dX0_row_50 fl_X0_25_0 (hF.1 16 _ rfl) rfl (hF.2.1 16 2 19 rfl) ?_
          refine z_iconst (v := 4) dX0_row_53 rfl ?_
          refine z_iload_n dX0_row_54 rfl rfl ?_
          refine z_imul dX0_row_55 ?_
          refine z_iload_n dX0_row_56 rfl rfl ?_
          refine z_iadd dX0_row_57 ?_
          refine z_iald (4 * z_c l + z_c q) dX0_row_58 (hF.1 19 _ rfl) (by rw [← nI_add, ← pk_mul, ← hl.1, ← hq.1]; rfl) (by have := hl.2; have := hm.2; have := hq.2; omega) (by decide) ?_
          refine z_istore dX0_row_59 (by decide) rfl ?_
          refine z_aload_n dX0_row_61 rfl rfl ?_
          refine z_getR 19 dX0_row_62 fl_X0_25_0 (hF.1 16 _ rfl) rfl (hF.2.1 16 2 19 rfl) ?_
          refine z_iconst (v := 4) dX0_row_65 rfl ?_
          refine z_iload_n dX0_row_66 rfl rfl ?_
          refine z_imul dX0_row_67 ?_
          refine z_iload_n dX0_row_68 rfl rfl ?_
          refine z_iadd dX0_row_69 ?_
          refine z_iload_n dX0_row_70 rfl rfl ?_
          refine z_iast (4 * z_c l + z_c q) dX0_row_71 (hF.1 19 _ rfl) (by decide) (by rw [← nI_add, ← pk_mul, ← hl.1, ← hq.1]; rfl) (by have := hl.2; have := hm.2; have := hq.2; omega) (by decide) ?_
          refine z_iload dX0_row_72 rfl ?_
          refine z_iret dX0_row_74 rfl rfl (Nat.le_refl _) (Nat.le_refl _) (z_ri_i ?_ ?_)
          · first | rfl | (unfold m_X0_row; rw [if_pos (show m_X0_isLift h l from c5), if_pos (show z_in q 0 3 from c14), if_pos (show z_in n 0 9 from c26), if_pos (show (z_I h 50 (z_c l)) = 6 from c43)]; first | done | rfl)
          · first | rfl | (unfold m_X0_row; rw [if_pos (show m_X0_isLift h l from c5), if_pos (show z_in q 0 3 from c14), if_pos (show z_in n 0 9 from c26), if_pos (show (z_I h 50 (z_c l)) = 6 from c43)]; first | done | rfl)
        · refine z_bipush (v := (-3)) dX0_row_46 rfl ?_
          refine z_iret dX0_row_48 rfl rfl (Nat.le_refl _) (Nat.le_refl _) (z_ri_i ?_ ?_)
          · first | rfl | (unfold m_X0_row; rw [if_pos (show m_X0_isLift h l from c5), if_pos (show z_in q 0 3 from c14), if_pos (show z_in n 0 9 from c26), if_neg (show ¬ ((z_I h 50 (z_c l)) = 6) from c43)]; first | done | rfl)
          · first | rfl | (unfold m_X0_row; rw [if_pos (show m_X0_isLift h l from c5), if_pos (show z_in q 0 3 from c14), if_pos (show z_in n 0 9 from c26), if_neg (show ¬ ((z_I h 50 (z_c l)) = 6) from c43)]; first | done | rfl)
      · refine z_bipush (v := (-2)) dX0_row_29 rfl ?_
        refine z_iret dX0_row_31 rfl rfl (Nat.le_refl _) (Nat.le_refl _) (z_ri_i ?_ ?_)
        · first | rfl | (unfold m_X0_row; rw [if_pos (show m_X0_isLift h l from c5), if_pos (show z_in q 0 3 from c14), if_neg (show ¬ (z_in n 0 9) from c26)]; first | done | rfl)
        · first | rfl | (unfold m_X0_row; rw [if_pos (show m_X0_isLift h l from c5), if_pos (show z_in q 0 3 from c14), if_neg (show ¬ (z_in n 0 9) from c26)]; first | done | rfl)
    · refine z_iconst (v := (-1)) dX0_row_17 rfl ?_
      refine z_iret dX0_row_18 rfl rfl (Nat.le_refl _) (Nat.le_refl _) (z_ri_i ?_ ?_)
      · first | rfl | (unfold m_X0_row; rw [if_pos (show m_X0_isLift h l from c5), if_neg (show ¬ (z_in q 0 3) from c14)]; first | done | rfl)
      · first | rfl | (unfold m_X0_row; rw [if_pos (show m_X0_isLift h l from c5), if_neg (show ¬ (z_in q 0 3) from c14)]; first | done | rfl)
