/-! THE CLASS: act (printed by class22.py) -/
set_option maxRecDepth 20000
theorem c_X0_isLiftT {Γ : z_W} {h : z_H} {t : z_Tr} {x : Int32} (hF : z_F h) (hS3 : z_I h 16 3 = z_I h 49 0) : z_C Γ M_X0_isLift (z_rm 2 0 0) [.ref 16, .int x] (z_tc h t) (z_ri (z_b (m_X6_isLift h x)) (z_tc h t)) := by
  have := c_X0_isLiftP (Γ := Γ) (h := z_tc h t) (x := x) hF
  have e : z_b (m_X0_isLift (z_tc h t) x) = z_b (m_X6_isLift h x) := by
    show z_b (z_in x 0 (z_I h 16 3 - 1)) = z_b (z_in x 0 (z_I h 49 0 - 1))
    rw [hS3]
  rw [e] at this
  exact this
theorem c_X0_act {Γ : z_W} {h : z_H} {t : z_Tr} {i a x : Int32} (hF : z_F h) (hS3 : z_I h 16 3 = z_I h 49 0) (hm : z_cn (z_I h 49 0) 6) (hL : ∀ j, j < z_c (z_I h 49 0) → ∃ id k, z_R h 17 j = some id ∧ z_Lf h id j k) : z_C Γ M_X0_act (z_rm 16 0 0) [.ref 16, .int i, .int a, .int x] (z_tc h t) (z_ri (m_X6_act h i a x) (z_tc h (a_pu (0, t.2) (m_X6_act_b h i a)))) := by
  have ht0 : z_cn ((0, t.2) : z_Tr).1 0 := z_cn_of (n := 0) (Nat.le_refl 0) (by decide)
  refine z_C.of (by decide +kernel) rfl [some (.ref 16), some (.int i), some (.int a), some (.int x), none] (Nat.le_of_ble_eq_true rfl) rfl ?_
  refine z_aload_n dX0_act_0 rfl rfl ?_
  refine z_getR 26 dX0_act_1 fl_X0_63_0 (hF.1 16 _ rfl) rfl (hF.2.1 16 12 26 rfl) ?_
  refine z_iconst (v := 0) dX0_act_4 rfl ?_
  refine z_putI dX0_act_5 (pl_X0_358_4 rfl) (hF.1 26 _ rfl) (by decide) rfl ?_
  refine z_meq (z_tc h (0, t.2)) (z_tc_0 _ _ _) ?_
  refine z_aload_n dX0_act_8 rfl rfl ?_
  refine z_iload_n dX0_act_9 rfl rfl ?_
  refine z_vcall vl_X0_193_0 (c_X0_isLiftT hF hS3) dX0_act_10 rfl rfl (hF.1 16 _ rfl) ⟨by decide, by decide⟩ (Nat.le_of_ble_eq_true rfl) (Nat.le_refl _) (Nat.le_refl _) (z_cI ?_) z_tI
  refine z_bif_eq 25 dX0_act_13 (by decide) (fun c13 => ?_) (fun c13 => ?_)
  · refine z_iconst (v := 0) dX0_act_25 rfl ?_
    refine z_iret dX0_act_26 rfl rfl (Nat.le_refl _) (Nat.le_refl _) (z_ri_i ?_ ?_)
    · unfold m_X6_act; rw [if_neg (show ¬ (m_X6_isLift h i) from c13)]
    · unfold m_X6_act_b; rw [if_neg (show ¬ (m_X6_isLift h i) from c13)]; rfl
  · have hl := z_ix hm (by decide) c13
    have hl6 : i = nI (z_c i) ∧ z_c i < 6 := ⟨hl.1, by have := hl.2; have := hm.2; omega⟩
    obtain ⟨id, k, hid, hlf⟩ := hL _ hl.2
    obtain ⟨h85, hk6, hkd, hTL, hR26, hn1, hvL, hmL, h46⟩ := hlf
    refine z_iload_n dX0_act_16 rfl rfl ?_
    refine z_iconst (v := 0) dX0_act_17 rfl ?_
    refine z_iconst (v := 2) dX0_act_18 rfl ?_
    refine z_scall sl_X0_5 (c_X0_in) dX0_act_19 rfl rfl ⟨by decide, by decide⟩ (Nat.le_of_ble_eq_true rfl) (Nat.le_refl _) (Nat.le_refl _) (z_cI ?_) z_tI
    refine z_bif_ne 27 dX0_act_22 (by decide) (fun c22 => ?_) (fun c22 => ?_)
    · refine z_aload_n dX0_act_27 rfl rfl ?_
      refine z_getR 17 dX0_act_28 fl_X0_17_0 (hF.1 16 _ rfl) rfl (hF.2.1 16 0 17 rfl) ?_
      refine z_iload_n dX0_act_31 rfl rfl ?_
      refine z_aald (z_c i) id dX0_act_32 (hF.1 17 _ rfl) (by simp [z_at]) hl6.1 hl6.2 (by decide) hid ?_
      refine z_astore dX0_act_33 (by decide) rfl ?_
      refine z_iload_n dX0_act_35 rfl rfl ?_
      refine z_if_ne 48 dX0_act_36 (by decide) (fun c36 => ?_) (fun c36 => ?_)
      · refine z_iload_n dX0_act_48 rfl rfl ?_
        refine z_iconst (v := 1) dX0_act_49 rfl ?_
        refine z_icmp_ne 62 dX0_act_50 (by decide) (fun c50 => ?_) (fun c50 => ?_)
        · refine z_aload dX0_act_62 rfl ?_
          refine z_iload_n dX0_act_64 rfl rfl ?_
          refine z_s_tells rfl hF hk6 hTL hR26 h85 ht0 (by decide) dX0_act_65 (by decide) (Nat.le_of_ble_eq_true rfl) (Nat.le_refl _) (Nat.le_refl _) <| z_eqi (a_vS (z_I h 50 (z_c i)) (z_I h 51 (z_c i)) i x) (by rw [hkd, hvL, hn1, ← hl6.1]) <| z_meq (z_tc h (a_pu (0, t.2) (a_bS (z_I h 50 (z_c i))))) (by rw [hkd]) ?_
          refine z_iret dX0_act_68 rfl rfl (Nat.le_refl _) (Nat.le_refl _) (z_ri_i ?_ ?_)
          · unfold m_X6_act; rw [if_pos (show m_X6_isLift h i from c13), if_pos (show z_in a 0 2 from c22), if_neg (show ¬ (a = 0) from c36), if_neg (show ¬ (a = 1) from c50)]
          · unfold m_X6_act_b; rw [if_pos (show m_X6_isLift h i from c13), if_pos (show z_in a 0 2 from c22), if_neg (show ¬ (a = 0) from c36), if_neg (show ¬ (a = 1) from c50)]
        · refine z_aload dX0_act_53 rfl ?_
          refine z_iload_n dX0_act_55 rfl rfl ?_
          refine z_s_climbs rfl hF hk6 hTL hR26 h85 ht0 (by decide) dX0_act_56 (by decide) (Nat.le_of_ble_eq_true rfl) (Nat.le_refl _) (Nat.le_refl _) <| z_eqi (a_vC (z_I h 50 (z_c i)) (z_I h 51 (z_c i)) i x) (by rw [hkd, hvL, hn1, ← hl6.1]) <| z_meq (z_tc h (a_pu (0, t.2) (a_bC (z_I h 50 (z_c i))))) (by rw [hkd]) ?_
          refine z_goto 68 dX0_act_59 (by decide) ?_
          refine z_iret dX0_act_68 rfl rfl (Nat.le_refl _) (Nat.le_refl _) (z_ri_i ?_ ?_)
          · unfold m_X6_act; rw [if_pos (show m_X6_isLift h i from c13), if_pos (show z_in a 0 2 from c22), if_neg (show ¬ (a = 0) from c36), if_pos (show a = 1 from c50)]
          · unfold m_X6_act_b; rw [if_pos (show m_X6_isLift h i from c13), if_pos (show z_in a 0 2 from c22), if_neg (show ¬ (a = 0) from c36), if_pos (show a = 1 from c50)]
      · refine z_aload dX0_act_39 rfl ?_
        refine z_iload_n dX0_act_41 rfl rfl ?_
        refine z_s_turns rfl hF hk6 hTL hR26 h85 ht0 (by decide) dX0_act_42 (by decide) (Nat.le_of_ble_eq_true rfl) (Nat.le_refl _) (Nat.le_refl _) <| z_eqi (a_vT (z_I h 50 (z_c i)) (z_I h 51 (z_c i)) i x) (by rw [hkd, hvL, hn1, ← hl6.1]) <| z_meq (z_tc h (a_pu (0, t.2) (a_bT (z_I h 50 (z_c i))))) (by rw [hkd]) ?_
        refine z_goto 68 dX0_act_45 (by decide) ?_
        refine z_iret dX0_act_68 rfl rfl (Nat.le_refl _) (Nat.le_refl _) (z_ri_i ?_ ?_)
        · unfold m_X6_act; rw [if_pos (show m_X6_isLift h i from c13), if_pos (show z_in a 0 2 from c22), if_pos (show a = 0 from c36)]
        · unfold m_X6_act_b; rw [if_pos (show m_X6_isLift h i from c13), if_pos (show z_in a 0 2 from c22), if_pos (show a = 0 from c36)]
    · refine z_iconst (v := 0) dX0_act_25 rfl ?_
      refine z_iret dX0_act_26 rfl rfl (Nat.le_refl _) (Nat.le_refl _) (z_ri_i ?_ ?_)
      · unfold m_X6_act; rw [if_pos (show m_X6_isLift h i from c13), if_neg (show ¬ (z_in a 0 2) from c22)]
      · unfold m_X6_act_b; rw [if_pos (show m_X6_isLift h i from c13), if_neg (show ¬ (z_in a 0 2) from c22)]; rfl
