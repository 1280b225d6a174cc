/-! THE REFERENCE: more of flights (printed by model6.py) -/
set_option maxRecDepth 20000
theorem z_p5 {p : Int32} (h : z_in p 1 9) : ¬ 5 + p = 0 := by
  obtain ⟨e, hle⟩ := z_ixb (l := p) 9 (by decide) ⟨Int32.le_trans (by decide) h.1, h.2⟩
  rw [e]
  intro q
  have h2 : nI (5 + z_c p) = nI 0 := by rw [← nI_add]; exact q
  have := (nI_eq (by omega) (by decide)).mp h2
  omega
def m_X6_arrives (h : z_H) (x : Int32) (p : Int32) (m hi mi : Int32) : Int32 :=
  if m_X6_isMile h x then
    if m_X6_isPace h p then
      if 0 ≤ (hi - (m_X6_falls h m x p)) then
        hi - (m_X6_falls h m x p)
      else
        (-5)
    else
      (-2)
  else
    (-2)
theorem c_X6_arrives {Γ : z_W} {h : z_H} {s : Nat → Int32} {x p m hi mi : Int32} (hk : z_ok h)  : z_C Γ M_X6_arrives (z_rm 3 0 0) [.ref 49, .int x, .int p] (z_fy (z_sc h s) m hi mi) (z_ri (m_X6_arrives h x p m hi mi) (z_fy (z_sc h s) m hi mi)) := by
  obtain ⟨hF, ha, hm, hvs, hws, hho⟩ := id hk
  refine z_C.of (by decide +kernel) rfl [some (.ref 49), some (.int x), some (.int p), none] (Nat.le_of_ble_eq_true rfl) rfl ?_
  refine z_aload_n dX6_arrives_0 rfl rfl ?_
  refine z_iload_n dX6_arrives_1 rfl rfl ?_
  refine z_vcall vl_X6_231_6 (c_X6_isMile hF) dX6_arrives_2 rfl rfl (hF.1 49 _ rfl) ⟨by decide, by decide⟩ (Nat.le_of_ble_eq_true rfl) (Nat.le_refl _) (Nat.le_refl _) (z_cI ?_) z_tI
  refine z_bif_eq 16 dX6_arrives_5 (by decide) (fun c5 => ?_) (fun c5 => ?_)
  · refine z_bipush (v := (-2)) dX6_arrives_16 rfl ?_
    refine z_iret dX6_arrives_18 rfl rfl (Nat.le_refl _) (Nat.le_refl _) (z_ri_i ?_ ?_)
    · first | rfl | (unfold m_X6_arrives; rw [if_neg (show ¬ (m_X6_isMile h x) from c5)]; first | done | rfl)
    · first | rfl | (unfold m_X6_arrives; rw [if_neg (show ¬ (m_X6_isMile h x) from c5)]; first | done | rfl)
  · refine z_aload_n dX6_arrives_8 rfl rfl ?_
    refine z_iload_n dX6_arrives_9 rfl rfl ?_
    refine z_vcall vl_X6_326_6 (c_X6_isPace hF) dX6_arrives_10 rfl rfl (hF.1 49 _ rfl) ⟨by decide, by decide⟩ (Nat.le_of_ble_eq_true rfl) (Nat.le_refl _) (Nat.le_refl _) (z_cI ?_) z_tI
    refine z_bif_ne 19 dX6_arrives_13 (by decide) (fun c13 => ?_) (fun c13 => ?_)
    · refine z_aload_n dX6_arrives_19 rfl rfl ?_
      refine z_getI dX6_arrives_20 fl_X6_19_6 (hF.1 49 _ rfl) rfl ?_
      refine z_eqi (hi) rfl ?_
      refine z_aload_n dX6_arrives_23 rfl rfl ?_
      refine z_aload_n dX6_arrives_24 rfl rfl ?_
      refine z_getI dX6_arrives_25 fl_X6_16_6 (hF.1 49 _ rfl) rfl ?_
      refine z_eqi (m) rfl ?_
      refine z_iload_n dX6_arrives_28 rfl rfl ?_
      refine z_iload_n dX6_arrives_29 rfl rfl ?_
      refine z_vcall vl_X6_316_6 (c_X6_falls hF) dX6_arrives_30 rfl rfl (hF.1 49 _ rfl) ⟨by decide, by decide⟩ (Nat.le_of_ble_eq_true rfl) (Nat.le_refl _) (Nat.le_refl _) (z_cI ?_) z_tI
      refine z_eqi (m_X6_falls h m x p) rfl ?_
      refine z_isub dX6_arrives_33 ?_
      refine z_istore_n dX6_arrives_34 rfl (by decide) rfl ?_
      refine z_iload_n dX6_arrives_35 rfl rfl ?_
      refine z_if_ge 44 dX6_arrives_36 (by decide) (fun c36 => ?_) (fun c36 => ?_)
      · refine z_iload_n dX6_arrives_44 rfl rfl ?_
        refine z_iret dX6_arrives_45 rfl rfl (Nat.le_refl _) (Nat.le_refl _) (z_ri_i ?_ ?_)
        · first | rfl | (unfold m_X6_arrives; rw [if_pos (show m_X6_isMile h x from c5), if_pos (show m_X6_isPace h p from c13), if_pos (show 0 ≤ (hi - (m_X6_falls h m x p)) from c36)]; first | done | rfl)
        · first | rfl | (unfold m_X6_arrives; rw [if_pos (show m_X6_isMile h x from c5), if_pos (show m_X6_isPace h p from c13), if_pos (show 0 ≤ (hi - (m_X6_falls h m x p)) from c36)]; first | done | rfl)
      · refine z_bipush (v := (-5)) dX6_arrives_39 rfl ?_
        refine z_goto 45 dX6_arrives_41 (by decide) ?_
        refine z_iret dX6_arrives_45 rfl rfl (Nat.le_refl _) (Nat.le_refl _) (z_ri_i ?_ ?_)
        · first | rfl | (unfold m_X6_arrives; rw [if_pos (show m_X6_isMile h x from c5), if_pos (show m_X6_isPace h p from c13), if_neg (show ¬ (0 ≤ (hi - (m_X6_falls h m x p))) from c36)]; first | done | rfl)
        · first | rfl | (unfold m_X6_arrives; rw [if_pos (show m_X6_isMile h x from c5), if_pos (show m_X6_isPace h p from c13), if_neg (show ¬ (0 ≤ (hi - (m_X6_falls h m x p))) from c36)]; first | done | rfl)
    · refine z_bipush (v := (-2)) dX6_arrives_16 rfl ?_
      refine z_iret dX6_arrives_18 rfl rfl (Nat.le_refl _) (Nat.le_refl _) (z_ri_i ?_ ?_)
      · first | rfl | (unfold m_X6_arrives; rw [if_pos (show m_X6_isMile h x from c5), if_neg (show ¬ (m_X6_isPace h p) from c13)]; first | done | rfl)
      · first | rfl | (unfold m_X6_arrives; rw [if_pos (show m_X6_isMile h x from c5), if_neg (show ¬ (m_X6_isPace h p) from c13)]; first | done | rfl)
def m_X6_outed (h : z_H) (x : Int32) (p : Int32) (m hi mi : Int32) : Int32 :=
  if m_X6_isMile h x then
    if m_X6_isPace h p then
      if (m_X6_apart h m x) ≤ (hi / (5 + p)) then
        m_X6_apart h m x
      else
        hi / (5 + p)
    else
      (-2)
  else
    (-2)
theorem c_X6_outed {Γ : z_W} {h : z_H} {s : Nat → Int32} {x p m hi mi : Int32} (hk : z_ok h)  : z_C Γ M_X6_outed (z_rm 3 0 0) [.ref 49, .int x, .int p] (z_fy (z_sc h s) m hi mi) (z_ri (m_X6_outed h x p m hi mi) (z_fy (z_sc h s) m hi mi)) := by
  obtain ⟨hF, ha, hm, hvs, hws, hho⟩ := id hk
  refine z_C.of (by decide +kernel) rfl [some (.ref 49), some (.int x), some (.int p), none] (Nat.le_of_ble_eq_true rfl) rfl ?_
  refine z_aload_n dX6_outed_0 rfl rfl ?_
  refine z_iload_n dX6_outed_1 rfl rfl ?_
  refine z_vcall vl_X6_231_6 (c_X6_isMile hF) dX6_outed_2 rfl rfl (hF.1 49 _ rfl) ⟨by decide, by decide⟩ (Nat.le_of_ble_eq_true rfl) (Nat.le_refl _) (Nat.le_refl _) (z_cI ?_) z_tI
  refine z_bif_eq 16 dX6_outed_5 (by decide) (fun c5 => ?_) (fun c5 => ?_)
  · refine z_bipush (v := (-2)) dX6_outed_16 rfl ?_
    refine z_iret dX6_outed_18 rfl rfl (Nat.le_refl _) (Nat.le_refl _) (z_ri_i ?_ ?_)
    · first | rfl | (unfold m_X6_outed; rw [if_neg (show ¬ (m_X6_isMile h x) from c5)]; first | done | rfl)
    · first | rfl | (unfold m_X6_outed; rw [if_neg (show ¬ (m_X6_isMile h x) from c5)]; first | done | rfl)
  · refine z_aload_n dX6_outed_8 rfl rfl ?_
    refine z_iload_n dX6_outed_9 rfl rfl ?_
    refine z_vcall vl_X6_326_6 (c_X6_isPace hF) dX6_outed_10 rfl rfl (hF.1 49 _ rfl) ⟨by decide, by decide⟩ (Nat.le_of_ble_eq_true rfl) (Nat.le_refl _) (Nat.le_refl _) (z_cI ?_) z_tI
    refine z_bif_ne 19 dX6_outed_13 (by decide) (fun c13 => ?_) (fun c13 => ?_)
    · refine z_aload_n dX6_outed_19 rfl rfl ?_
      refine z_getI dX6_outed_20 fl_X6_19_6 (hF.1 49 _ rfl) rfl ?_
      refine z_eqi (hi) rfl ?_
      refine z_iconst (v := 5) dX6_outed_23 rfl ?_
      refine z_iload_n dX6_outed_24 rfl rfl ?_
      refine z_iadd dX6_outed_25 ?_
      refine z_idiv dX6_outed_26 (z_p5 c13) ?_
      refine z_istore_n dX6_outed_27 rfl (by decide) rfl ?_
      refine z_iload_n dX6_outed_28 rfl rfl ?_
      refine z_aload_n dX6_outed_29 rfl rfl ?_
      refine z_aload_n dX6_outed_30 rfl rfl ?_
      refine z_getI dX6_outed_31 fl_X6_16_6 (hF.1 49 _ rfl) rfl ?_
      refine z_eqi (m) rfl ?_
      refine z_iload_n dX6_outed_34 rfl rfl ?_
      refine z_vcall vl_X6_313_6 (c_X6_apart hF) dX6_outed_35 rfl rfl (hF.1 49 _ rfl) ⟨by decide, by decide⟩ (Nat.le_of_ble_eq_true rfl) (Nat.le_refl _) (Nat.le_refl _) (z_cI ?_) z_tI
      refine z_eqi (m_X6_apart h m x) rfl ?_
      refine z_icmp_ge 45 dX6_outed_38 (by decide) (fun c38 => ?_) (fun c38 => ?_)
      · refine z_aload_n dX6_outed_45 rfl rfl ?_
        refine z_aload_n dX6_outed_46 rfl rfl ?_
        refine z_getI dX6_outed_47 fl_X6_16_6 (hF.1 49 _ rfl) rfl ?_
        refine z_eqi (m) rfl ?_
        refine z_iload_n dX6_outed_50 rfl rfl ?_
        refine z_vcall vl_X6_313_6 (c_X6_apart hF) dX6_outed_51 rfl rfl (hF.1 49 _ rfl) ⟨by decide, by decide⟩ (Nat.le_of_ble_eq_true rfl) (Nat.le_refl _) (Nat.le_refl _) (z_cI ?_) z_tI
        refine z_eqi (m_X6_apart h m x) rfl ?_
        refine z_iret dX6_outed_54 rfl rfl (Nat.le_refl _) (Nat.le_refl _) (z_ri_i ?_ ?_)
        · first | rfl | (unfold m_X6_outed; rw [if_pos (show m_X6_isMile h x from c5), if_pos (show m_X6_isPace h p from c13), if_pos (show (m_X6_apart h m x) ≤ (hi / (5 + p)) from c38)]; first | done | rfl)
        · first | rfl | (unfold m_X6_outed; rw [if_pos (show m_X6_isMile h x from c5), if_pos (show m_X6_isPace h p from c13), if_pos (show (m_X6_apart h m x) ≤ (hi / (5 + p)) from c38)]; first | done | rfl)
      · refine z_iload_n dX6_outed_41 rfl rfl ?_
        refine z_goto 54 dX6_outed_42 (by decide) ?_
        refine z_iret dX6_outed_54 rfl rfl (Nat.le_refl _) (Nat.le_refl _) (z_ri_i ?_ ?_)
        · first | rfl | (unfold m_X6_outed; rw [if_pos (show m_X6_isMile h x from c5), if_pos (show m_X6_isPace h p from c13), if_neg (show ¬ ((m_X6_apart h m x) ≤ (hi / (5 + p))) from c38)]; first | done | rfl)
        · first | rfl | (unfold m_X6_outed; rw [if_pos (show m_X6_isMile h x from c5), if_pos (show m_X6_isPace h p from c13), if_neg (show ¬ ((m_X6_apart h m x) ≤ (hi / (5 + p))) from c38)]; first | done | rfl)
    · refine z_bipush (v := (-2)) dX6_outed_16 rfl ?_
      refine z_iret dX6_outed_18 rfl rfl (Nat.le_refl _) (Nat.le_refl _) (z_ri_i ?_ ?_)
      · first | rfl | (unfold m_X6_outed; rw [if_pos (show m_X6_isMile h x from c5), if_neg (show ¬ (m_X6_isPace h p) from c13)]; first | done | rfl)
      · first | rfl | (unfold m_X6_outed; rw [if_pos (show m_X6_isMile h x from c5), if_neg (show ¬ (m_X6_isPace h p) from c13)]; first | done | rfl)
abbrev m_X6_canReach (h : z_H) (l : Int32) (p : Int32) (m hi mi : Int32) : Prop := ¬ ((hi - (m_X6_falls h m (z_I h 52 (z_c l)) p)) < 0) ∧ (¬ ((hi - (m_X6_falls h m (z_I h 52 (z_c l)) p)) < (m_X6_safe h)))
theorem c_X6_canReach {Γ : z_W} {h : z_H} {s : Nat → Int32} {l p m hi mi : Int32} (hk : z_ok h) (hl : l = nI (z_c l) ∧ z_c l < 6) : z_C Γ M_X6_canReach (z_rm 4 0 0) [.ref 49, .int l, .int p] (z_fy (z_sc h s) m hi mi) (z_ri (z_b (m_X6_canReach h l p m hi mi)) (z_fy (z_sc h s) m hi mi)) := by
  obtain ⟨hF, ha, hm, hvs, hws, hho⟩ := id hk
  refine z_C.of (by decide +kernel) rfl [some (.ref 49), some (.int l), some (.int p), none] (Nat.le_of_ble_eq_true rfl) rfl ?_
  refine z_aload_n dX6_canReach_0 rfl rfl ?_
  refine z_getI dX6_canReach_1 fl_X6_19_6 (hF.1 49 _ rfl) rfl ?_
  refine z_eqi (hi) rfl ?_
  refine z_aload_n dX6_canReach_4 rfl rfl ?_
  refine z_aload_n dX6_canReach_5 rfl rfl ?_
  refine z_getI dX6_canReach_6 fl_X6_16_6 (hF.1 49 _ rfl) rfl ?_
  refine z_eqi (m) rfl ?_
  refine z_aload_n dX6_canReach_9 rfl rfl ?_
  refine z_getR 52 dX6_canReach_10 fl_X6_35_6 (hF.1 49 _ rfl) rfl (hF.2.1 49 8 52 rfl) ?_
  refine z_iload_n dX6_canReach_13 rfl rfl ?_
  refine z_iald (z_c l) dX6_canReach_14 (hF.1 52 _ rfl) (hl).1 (by have := (hl).2; omega) (by decide) ?_
  refine z_eqi (z_I h 52 (z_c l)) rfl ?_
  refine z_iload_n dX6_canReach_15 rfl rfl ?_
  refine z_vcall vl_X6_316_6 (c_X6_falls hF) dX6_canReach_16 rfl rfl (hF.1 49 _ rfl) ⟨by decide, by decide⟩ (Nat.le_of_ble_eq_true rfl) (Nat.le_refl _) (Nat.le_refl _) (z_cI ?_) z_tI
  refine z_eqi (m_X6_falls h m (z_I h 52 (z_c l)) p) rfl ?_
  refine z_isub dX6_canReach_19 ?_
  refine z_istore_n dX6_canReach_20 rfl (by decide) rfl ?_
  refine z_iload_n dX6_canReach_21 rfl rfl ?_
  refine z_if_lt 37 dX6_canReach_22 (by decide) (fun c22 => ?_) (fun c22 => ?_)
  · refine z_iconst (v := 0) dX6_canReach_37 rfl ?_
    refine z_iret dX6_canReach_38 rfl rfl (Nat.le_refl _) (Nat.le_refl _) (z_ri_i ?_ ?_)
    · exact (z_b0 (fun q => q.1 c22)).symm
    · rfl
  · refine z_iload_n dX6_canReach_25 rfl rfl ?_
    refine z_aload_n dX6_canReach_26 rfl rfl ?_
    refine z_vcall vl_X6_310_6 (c_X6_safe (h := z_fy (z_sc h s) m hi mi) hF ha) dX6_canReach_27 rfl rfl (hF.1 49 _ rfl) ⟨by decide, by decide⟩ (Nat.le_of_ble_eq_true rfl) (Nat.le_refl _) (Nat.le_refl _) (z_cI ?_) z_tI
    refine z_eqi (m_X6_safe h) rfl ?_
    refine z_icmp_lt 37 dX6_canReach_30 (by decide) (fun c30 => ?_) (fun c30 => ?_)
    · refine z_iconst (v := 0) dX6_canReach_37 rfl ?_
      refine z_iret dX6_canReach_38 rfl rfl (Nat.le_refl _) (Nat.le_refl _) (z_ri_i ?_ ?_)
      · exact (z_b0 (fun q => (fun q => q c30) q.2)).symm
      · rfl
    · refine z_iconst (v := 1) dX6_canReach_33 rfl ?_
      refine z_goto 38 dX6_canReach_34 (by decide) ?_
      refine z_iret dX6_canReach_38 rfl rfl (Nat.le_refl _) (Nat.le_refl _) (z_ri_i ?_ ?_)
      · exact (z_b1 ⟨c22, c30⟩).symm
      · rfl
def m_X6_lowest (h : z_H) (l : Int32) (p : Int32) (m hi mi : Int32) : Int32 :=
  if m_X6_isLift h l then
    if m_X6_isPace h p then
      if ((m_X6_falls h m (z_I h 52 (z_c l)) p) + (m_X6_safe h)) ≤ 400 then
        (m_X6_falls h m (z_I h 52 (z_c l)) p) + (m_X6_safe h)
      else
        (-5)
    else
      (-2)
  else
    (-1)
theorem c_X6_lowest {Γ : z_W} {h : z_H} {s : Nat → Int32} {l p m hi mi : Int32} (hk : z_ok h)  : z_C Γ M_X6_lowest (z_rm 4 0 0) [.ref 49, .int l, .int p] (z_fy (z_sc h s) m hi mi) (z_ri (m_X6_lowest h l p m hi mi) (z_fy (z_sc h s) m hi mi)) := by
  obtain ⟨hF, ha, hm, hvs, hws, hho⟩ := id hk
  refine z_C.of (by decide +kernel) rfl [some (.ref 49), some (.int l), some (.int p), none] (Nat.le_of_ble_eq_true rfl) rfl ?_
  refine z_aload_n dX6_lowest_0 rfl rfl ?_
  refine z_iload_n dX6_lowest_1 rfl rfl ?_
  refine z_vcall vl_X6_235_6 (c_X6_isLift hF) dX6_lowest_2 rfl rfl (hF.1 49 _ rfl) ⟨by decide, by decide⟩ (Nat.le_of_ble_eq_true rfl) (Nat.le_refl _) (Nat.le_refl _) (z_cI ?_) z_tI
  refine z_bif_ne 10 dX6_lowest_5 (by decide) (fun c5 => ?_) (fun c5 => ?_)
  · have hl := z_ix hm (by decide) c5
    refine z_aload_n dX6_lowest_10 rfl rfl ?_
    refine z_iload_n dX6_lowest_11 rfl rfl ?_
    refine z_vcall vl_X6_326_6 (c_X6_isPace hF) dX6_lowest_12 rfl rfl (hF.1 49 _ rfl) ⟨by decide, by decide⟩ (Nat.le_of_ble_eq_true rfl) (Nat.le_refl _) (Nat.le_refl _) (z_cI ?_) z_tI
    refine z_bif_ne 21 dX6_lowest_15 (by decide) (fun c15 => ?_) (fun c15 => ?_)
    · refine z_aload_n dX6_lowest_21 rfl rfl ?_
      refine z_aload_n dX6_lowest_22 rfl rfl ?_
      refine z_getI dX6_lowest_23 fl_X6_16_6 (hF.1 49 _ rfl) rfl ?_
      refine z_eqi (m) rfl ?_
      refine z_aload_n dX6_lowest_26 rfl rfl ?_
      refine z_getR 52 dX6_lowest_27 fl_X6_35_6 (hF.1 49 _ rfl) rfl (hF.2.1 49 8 52 rfl) ?_
      refine z_iload_n dX6_lowest_30 rfl rfl ?_
      refine z_iald (z_c l) dX6_lowest_31 (hF.1 52 _ rfl) (hl).1 (by have := hl.2; have := hm.2; omega) (by decide) ?_
      refine z_eqi (z_I h 52 (z_c l)) rfl ?_
      refine z_iload_n dX6_lowest_32 rfl rfl ?_
      refine z_vcall vl_X6_316_6 (c_X6_falls hF) dX6_lowest_33 rfl rfl (hF.1 49 _ rfl) ⟨by decide, by decide⟩ (Nat.le_of_ble_eq_true rfl) (Nat.le_refl _) (Nat.le_refl _) (z_cI ?_) z_tI
      refine z_eqi (m_X6_falls h m (z_I h 52 (z_c l)) p) rfl ?_
      refine z_aload_n dX6_lowest_36 rfl rfl ?_
      refine z_vcall vl_X6_310_6 (c_X6_safe (h := z_fy (z_sc h s) m hi mi) hF ha) dX6_lowest_37 rfl rfl (hF.1 49 _ rfl) ⟨by decide, by decide⟩ (Nat.le_of_ble_eq_true rfl) (Nat.le_refl _) (Nat.le_refl _) (z_cI ?_) z_tI
      refine z_eqi (m_X6_safe h) rfl ?_
      refine z_iadd dX6_lowest_40 ?_
      refine z_istore_n dX6_lowest_41 rfl (by decide) rfl ?_
      refine z_iload_n dX6_lowest_42 rfl rfl ?_
      refine z_sipush (v := 400) dX6_lowest_43 rfl ?_
      refine z_icmp_le 54 dX6_lowest_46 (by decide) (fun c46 => ?_) (fun c46 => ?_)
      · refine z_iload_n dX6_lowest_54 rfl rfl ?_
        refine z_iret dX6_lowest_55 rfl rfl (Nat.le_refl _) (Nat.le_refl _) (z_ri_i ?_ ?_)
        · first | rfl | (unfold m_X6_lowest; rw [if_pos (show m_X6_isLift h l from c5), if_pos (show m_X6_isPace h p from c15), if_pos (show ((m_X6_falls h m (z_I h 52 (z_c l)) p) + (m_X6_safe h)) ≤ 400 from c46)]; first | done | rfl)
        · first | rfl | (unfold m_X6_lowest; rw [if_pos (show m_X6_isLift h l from c5), if_pos (show m_X6_isPace h p from c15), if_pos (show ((m_X6_falls h m (z_I h 52 (z_c l)) p) + (m_X6_safe h)) ≤ 400 from c46)]; first | done | rfl)
      · refine z_bipush (v := (-5)) dX6_lowest_49 rfl ?_
        refine z_goto 55 dX6_lowest_51 (by decide) ?_
        refine z_iret dX6_lowest_55 rfl rfl (Nat.le_refl _) (Nat.le_refl _) (z_ri_i ?_ ?_)
        · first | rfl | (unfold m_X6_lowest; rw [if_pos (show m_X6_isLift h l from c5), if_pos (show m_X6_isPace h p from c15), if_neg (show ¬ (((m_X6_falls h m (z_I h 52 (z_c l)) p) + (m_X6_safe h)) ≤ 400) from c46)]; first | done | rfl)
        · first | rfl | (unfold m_X6_lowest; rw [if_pos (show m_X6_isLift h l from c5), if_pos (show m_X6_isPace h p from c15), if_neg (show ¬ (((m_X6_falls h m (z_I h 52 (z_c l)) p) + (m_X6_safe h)) ≤ 400) from c46)]; first | done | rfl)
    · refine z_bipush (v := (-2)) dX6_lowest_18 rfl ?_
      refine z_iret dX6_lowest_20 rfl rfl (Nat.le_refl _) (Nat.le_refl _) (z_ri_i ?_ ?_)
      · first | rfl | (unfold m_X6_lowest; rw [if_pos (show m_X6_isLift h l from c5), if_neg (show ¬ (m_X6_isPace h p) from c15)]; first | done | rfl)
      · first | rfl | (unfold m_X6_lowest; rw [if_pos (show m_X6_isLift h l from c5), if_neg (show ¬ (m_X6_isPace h p) from c15)]; first | done | rfl)
  · refine z_iconst (v := (-1)) dX6_lowest_8 rfl ?_
    refine z_iret dX6_lowest_9 rfl rfl (Nat.le_refl _) (Nat.le_refl _) (z_ri_i ?_ ?_)
    · first | rfl | (unfold m_X6_lowest; rw [if_neg (show ¬ (m_X6_isLift h l) from c5)]; first | done | rfl)
    · first | rfl | (unfold m_X6_lowest; rw [if_neg (show ¬ (m_X6_isLift h l) from c5)]; first | done | rfl)
def m_X6_straightOf (h : z_H) (p : Int32) (m hi mi : Int32) : Int32 :=
  if (hi - (m_X6_falls h m (z_I h 49 5) p)) < 0 then
    (-5)
  else
    if (m_X6_safe h) ≤ (hi - (m_X6_falls h m (z_I h 49 5) p)) then
      (m_X6_apart h m (z_I h 49 5)) * (10 - p)
    else
      (-5)
theorem c_X6_straightOf {Γ : z_W} {h : z_H} {s : Nat → Int32} {p m hi mi : Int32} (hk : z_ok h)  : z_C Γ M_X6_straightOf (z_rm 4 0 0) [.ref 49, .int p] (z_fy (z_sc h s) m hi mi) (z_ri (m_X6_straightOf h p m hi mi) (z_fy (z_sc h s) m hi mi)) := by
  obtain ⟨hF, ha, hm, hvs, hws, hho⟩ := id hk
  refine z_C.of (by decide +kernel) rfl [some (.ref 49), some (.int p), none] (Nat.le_of_ble_eq_true rfl) rfl ?_
  refine z_aload_n dX6_straightOf_0 rfl rfl ?_
  refine z_getI dX6_straightOf_1 fl_X6_19_6 (hF.1 49 _ rfl) rfl ?_
  refine z_eqi (hi) rfl ?_
  refine z_aload_n dX6_straightOf_4 rfl rfl ?_
  refine z_aload_n dX6_straightOf_5 rfl rfl ?_
  refine z_getI dX6_straightOf_6 fl_X6_16_6 (hF.1 49 _ rfl) rfl ?_
  refine z_eqi (m) rfl ?_
  refine z_aload_n dX6_straightOf_9 rfl rfl ?_
  refine z_getI dX6_straightOf_10 fl_X6_25_6 (hF.1 49 _ rfl) rfl ?_
  refine z_eqi (z_I h 49 5) rfl ?_
  refine z_iload_n dX6_straightOf_13 rfl rfl ?_
  refine z_vcall vl_X6_316_6 (c_X6_falls hF) dX6_straightOf_14 rfl rfl (hF.1 49 _ rfl) ⟨by decide, by decide⟩ (Nat.le_of_ble_eq_true rfl) (Nat.le_refl _) (Nat.le_refl _) (z_cI ?_) z_tI
  refine z_eqi (m_X6_falls h m (z_I h 49 5) p) rfl ?_
  refine z_isub dX6_straightOf_17 ?_
  refine z_istore_n dX6_straightOf_18 rfl (by decide) rfl ?_
  refine z_iload_n dX6_straightOf_19 rfl rfl ?_
  refine z_if_lt 31 dX6_straightOf_20 (by decide) (fun c20 => ?_) (fun c20 => ?_)
  · refine z_bipush (v := (-5)) dX6_straightOf_31 rfl ?_
    refine z_goto 53 dX6_straightOf_33 (by decide) ?_
    refine z_iret dX6_straightOf_53 rfl rfl (Nat.le_refl _) (Nat.le_refl _) (z_ri_i ?_ ?_)
    · first | rfl | (unfold m_X6_straightOf; rw [if_pos (show (hi - (m_X6_falls h m (z_I h 49 5) p)) < 0 from c20)]; first | done | rfl)
    · first | rfl | (unfold m_X6_straightOf; rw [if_pos (show (hi - (m_X6_falls h m (z_I h 49 5) p)) < 0 from c20)]; first | done | rfl)
  · refine z_iload_n dX6_straightOf_23 rfl rfl ?_
    refine z_aload_n dX6_straightOf_24 rfl rfl ?_
    refine z_vcall vl_X6_310_6 (c_X6_safe (h := z_fy (z_sc h s) m hi mi) hF ha) dX6_straightOf_25 rfl rfl (hF.1 49 _ rfl) ⟨by decide, by decide⟩ (Nat.le_of_ble_eq_true rfl) (Nat.le_refl _) (Nat.le_refl _) (z_cI ?_) z_tI
    refine z_eqi (m_X6_safe h) rfl ?_
    refine z_icmp_ge 36 dX6_straightOf_28 (by decide) (fun c28 => ?_) (fun c28 => ?_)
    · refine z_aload_n dX6_straightOf_36 rfl rfl ?_
      refine z_aload_n dX6_straightOf_37 rfl rfl ?_
      refine z_getI dX6_straightOf_38 fl_X6_16_6 (hF.1 49 _ rfl) rfl ?_
      refine z_eqi (m) rfl ?_
      refine z_aload_n dX6_straightOf_41 rfl rfl ?_
      refine z_getI dX6_straightOf_42 fl_X6_25_6 (hF.1 49 _ rfl) rfl ?_
      refine z_eqi (z_I h 49 5) rfl ?_
      refine z_vcall vl_X6_313_6 (c_X6_apart hF) dX6_straightOf_45 rfl rfl (hF.1 49 _ rfl) ⟨by decide, by decide⟩ (Nat.le_of_ble_eq_true rfl) (Nat.le_refl _) (Nat.le_refl _) (z_cI ?_) z_tI
      refine z_eqi (m_X6_apart h m (z_I h 49 5)) rfl ?_
      refine z_bipush (v := 10) dX6_straightOf_48 rfl ?_
      refine z_iload_n dX6_straightOf_50 rfl rfl ?_
      refine z_isub dX6_straightOf_51 ?_
      refine z_imul dX6_straightOf_52 ?_
      refine z_iret dX6_straightOf_53 rfl rfl (Nat.le_refl _) (Nat.le_refl _) (z_ri_i ?_ ?_)
      · first | rfl | (unfold m_X6_straightOf; rw [if_neg (show ¬ ((hi - (m_X6_falls h m (z_I h 49 5) p)) < 0) from c20), if_pos (show (m_X6_safe h) ≤ (hi - (m_X6_falls h m (z_I h 49 5) p)) from c28)]; first | done | rfl)
      · first | rfl | (unfold m_X6_straightOf; rw [if_neg (show ¬ ((hi - (m_X6_falls h m (z_I h 49 5) p)) < 0) from c20), if_pos (show (m_X6_safe h) ≤ (hi - (m_X6_falls h m (z_I h 49 5) p)) from c28)]; first | done | rfl)
    · refine z_bipush (v := (-5)) dX6_straightOf_31 rfl ?_
      refine z_goto 53 dX6_straightOf_33 (by decide) ?_
      refine z_iret dX6_straightOf_53 rfl rfl (Nat.le_refl _) (Nat.le_refl _) (z_ri_i ?_ ?_)
      · first | rfl | (unfold m_X6_straightOf; rw [if_neg (show ¬ ((hi - (m_X6_falls h m (z_I h 49 5) p)) < 0) from c20), if_neg (show ¬ ((m_X6_safe h) ≤ (hi - (m_X6_falls h m (z_I h 49 5) p))) from c28)]; first | done | rfl)
      · first | rfl | (unfold m_X6_straightOf; rw [if_neg (show ¬ ((hi - (m_X6_falls h m (z_I h 49 5) p)) < 0) from c20), if_neg (show ¬ ((m_X6_safe h) ≤ (hi - (m_X6_falls h m (z_I h 49 5) p))) from c28)]; first | done | rfl)
def m_X6_straight (h : z_H) (p : Int32) (m hi mi : Int32) : Int32 :=
  if m_X6_isPace h p then
    m_X6_straightOf h p m hi mi
  else
    (-2)
theorem c_X6_straight {Γ : z_W} {h : z_H} {s : Nat → Int32} {p m hi mi : Int32} (hk : z_ok h)  : z_C Γ M_X6_straight (z_rm 5 0 0) [.ref 49, .int p] (z_fy (z_sc h s) m hi mi) (z_ri (m_X6_straight h p m hi mi) (z_fy (z_sc h s) m hi mi)) := by
  obtain ⟨hF, ha, hm, hvs, hws, hho⟩ := id hk
  refine z_C.of (by decide +kernel) rfl [some (.ref 49), some (.int p)] (Nat.le_of_ble_eq_true rfl) rfl ?_
  refine z_aload_n dX6_straight_0 rfl rfl ?_
  refine z_iload_n dX6_straight_1 rfl rfl ?_
  refine z_vcall vl_X6_326_6 (c_X6_isPace hF) dX6_straight_2 rfl rfl (hF.1 49 _ rfl) ⟨by decide, by decide⟩ (Nat.le_of_ble_eq_true rfl) (Nat.le_refl _) (Nat.le_refl _) (z_cI ?_) z_tI
  refine z_bif_eq 16 dX6_straight_5 (by decide) (fun c5 => ?_) (fun c5 => ?_)
  · refine z_bipush (v := (-2)) dX6_straight_16 rfl ?_
    refine z_iret dX6_straight_18 rfl rfl (Nat.le_refl _) (Nat.le_refl _) (z_ri_i ?_ ?_)
    · first | rfl | (unfold m_X6_straight; rw [if_neg (show ¬ (m_X6_isPace h p) from c5)]; first | done | rfl)
    · first | rfl | (unfold m_X6_straight; rw [if_neg (show ¬ (m_X6_isPace h p) from c5)]; first | done | rfl)
  · refine z_aload_n dX6_straight_8 rfl rfl ?_
    refine z_iload_n dX6_straight_9 rfl rfl ?_
    refine z_vcall vl_X6_351_6 (c_X6_straightOf hk) dX6_straight_10 rfl rfl (hF.1 49 _ rfl) ⟨by decide, by decide⟩ (Nat.le_of_ble_eq_true rfl) (Nat.le_refl _) (Nat.le_refl _) (z_cI ?_) z_tI
    refine z_goto 18 dX6_straight_13 (by decide) ?_
    refine z_iret dX6_straight_18 rfl rfl (Nat.le_refl _) (Nat.le_refl _) (z_ri_i ?_ ?_)
    · first | rfl | (unfold m_X6_straight; rw [if_pos (show m_X6_isPace h p from c5)]; first | done | rfl)
    · first | rfl | (unfold m_X6_straight; rw [if_pos (show m_X6_isPace h p from c5)]; first | done | rfl)
