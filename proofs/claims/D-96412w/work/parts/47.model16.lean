/-! THE REFERENCE: items, judging (printed by model16.py) -/
set_option maxRecDepth 20000
def m_X6_narrow (h : z_H) (s : Int32) (z : Int64) : Int64 :=
  if s = 0 then
    z.toInt32.toInt8.toInt32.toInt64
  else
    if s = 1 then
      z.toInt32.toInt16.toInt32.toInt64
    else
      if s = 2 then
        z.toInt32.toInt64
      else
        if s = 4 then
          if (lg_cmp z 0) = 0 then
            0
          else
            1
        else
          z
theorem c_X6_narrow {Γ : z_W} {h : z_H} {s : Int32} {z : Int64} (hF : z_F h)  : z_C Γ M_X6_narrow (z_rm 1 0 0) [.ref 49, .int s, .long z] h (z_rl (m_X6_narrow h s z) h) := by
  refine z_C.of (by decide +kernel) rfl [some (.ref 49), some (.int s), some (.long z), none] (Nat.le_of_ble_eq_true rfl) rfl ?_
  refine z_iload_n dX6_narrow_0 rfl rfl ?_
  refine z_if_ne 11 dX6_narrow_1 (by decide) (fun c1 => ?_) (fun c1 => ?_)
  · refine z_iload_n dX6_narrow_11 rfl rfl ?_
    refine z_iconst (v := 1) dX6_narrow_12 rfl ?_
    refine z_icmp_ne 23 dX6_narrow_13 (by decide) (fun c13 => ?_) (fun c13 => ?_)
    · refine z_iload_n dX6_narrow_23 rfl rfl ?_
      refine z_iconst (v := 2) dX6_narrow_24 rfl ?_
      refine z_icmp_ne 34 dX6_narrow_25 (by decide) (fun c25 => ?_) (fun c25 => ?_)
      · refine z_iload_n dX6_narrow_34 rfl rfl ?_
        refine z_iconst (v := 4) dX6_narrow_35 rfl ?_
        refine z_icmp_ne 53 dX6_narrow_36 (by decide) (fun c36 => ?_) (fun c36 => ?_)
        · refine z_lload_n dX6_narrow_53 rfl rfl ?_
          refine z_lret dX6_narrow_54 rfl (Nat.le_refl _) (Nat.le_refl _) (z_rl_i ?_ ?_)
          · first | rfl | (unfold m_X6_narrow; rw [if_neg (show ¬ (s = 0) from c1), if_neg (show ¬ (s = 1) from c13), if_neg (show ¬ (s = 2) from c25), if_neg (show ¬ (s = 4) from c36)]; first | done | rfl)
          · first | rfl | (unfold m_X6_narrow; rw [if_neg (show ¬ (s = 0) from c1), if_neg (show ¬ (s = 1) from c13), if_neg (show ¬ (s = 2) from c25), if_neg (show ¬ (s = 4) from c36)]; first | done | rfl)
        · refine z_lload_n dX6_narrow_39 rfl rfl ?_
          refine z_lconst (v := 0) dX6_narrow_40 rfl ?_
          refine z_lcmp dX6_narrow_41 ?_
          refine z_if_eq 49 dX6_narrow_42 (by decide) (fun c42 => ?_) (fun c42 => ?_)
          · refine z_lconst (v := 0) dX6_narrow_49 rfl ?_
            refine z_goto 54 dX6_narrow_50 (by decide) ?_
            refine z_lret dX6_narrow_54 rfl (Nat.le_refl _) (Nat.le_refl _) (z_rl_i ?_ ?_)
            · first | rfl | (unfold m_X6_narrow; rw [if_neg (show ¬ (s = 0) from c1), if_neg (show ¬ (s = 1) from c13), if_neg (show ¬ (s = 2) from c25), if_pos (show s = 4 from c36), if_pos (show (lg_cmp z 0) = 0 from c42)]; first | done | rfl)
            · first | rfl | (unfold m_X6_narrow; rw [if_neg (show ¬ (s = 0) from c1), if_neg (show ¬ (s = 1) from c13), if_neg (show ¬ (s = 2) from c25), if_pos (show s = 4 from c36), if_pos (show (lg_cmp z 0) = 0 from c42)]; first | done | rfl)
          · refine z_lconst (v := 1) dX6_narrow_45 rfl ?_
            refine z_goto 54 dX6_narrow_46 (by decide) ?_
            refine z_lret dX6_narrow_54 rfl (Nat.le_refl _) (Nat.le_refl _) (z_rl_i ?_ ?_)
            · first | rfl | (unfold m_X6_narrow; rw [if_neg (show ¬ (s = 0) from c1), if_neg (show ¬ (s = 1) from c13), if_neg (show ¬ (s = 2) from c25), if_pos (show s = 4 from c36), if_neg (show ¬ ((lg_cmp z 0) = 0) from c42)]; first | done | rfl)
            · first | rfl | (unfold m_X6_narrow; rw [if_neg (show ¬ (s = 0) from c1), if_neg (show ¬ (s = 1) from c13), if_neg (show ¬ (s = 2) from c25), if_pos (show s = 4 from c36), if_neg (show ¬ ((lg_cmp z 0) = 0) from c42)]; first | done | rfl)
      · refine z_lload_n dX6_narrow_28 rfl rfl ?_
        refine z_l2i dX6_narrow_29 ?_
        refine z_i2l dX6_narrow_30 ?_
        refine z_goto 54 dX6_narrow_31 (by decide) ?_
        refine z_lret dX6_narrow_54 rfl (Nat.le_refl _) (Nat.le_refl _) (z_rl_i ?_ ?_)
        · first | rfl | (unfold m_X6_narrow; rw [if_neg (show ¬ (s = 0) from c1), if_neg (show ¬ (s = 1) from c13), if_pos (show s = 2 from c25)]; first | done | rfl)
        · first | rfl | (unfold m_X6_narrow; rw [if_neg (show ¬ (s = 0) from c1), if_neg (show ¬ (s = 1) from c13), if_pos (show s = 2 from c25)]; first | done | rfl)
    · refine z_lload_n dX6_narrow_16 rfl rfl ?_
      refine z_l2i dX6_narrow_17 ?_
      refine z_i2s dX6_narrow_18 ?_
      refine z_i2l dX6_narrow_19 ?_
      refine z_goto 54 dX6_narrow_20 (by decide) ?_
      refine z_lret dX6_narrow_54 rfl (Nat.le_refl _) (Nat.le_refl _) (z_rl_i ?_ ?_)
      · first | rfl | (unfold m_X6_narrow; rw [if_neg (show ¬ (s = 0) from c1), if_pos (show s = 1 from c13)]; first | done | rfl)
      · first | rfl | (unfold m_X6_narrow; rw [if_neg (show ¬ (s = 0) from c1), if_pos (show s = 1 from c13)]; first | done | rfl)
  · refine z_lload_n dX6_narrow_4 rfl rfl ?_
    refine z_l2i dX6_narrow_5 ?_
    refine z_i2b dX6_narrow_6 ?_
    refine z_i2l dX6_narrow_7 ?_
    refine z_goto 54 dX6_narrow_8 (by decide) ?_
    refine z_lret dX6_narrow_54 rfl (Nat.le_refl _) (Nat.le_refl _) (z_rl_i ?_ ?_)
    · first | rfl | (unfold m_X6_narrow; rw [if_pos (show s = 0 from c1)]; first | done | rfl)
    · first | rfl | (unfold m_X6_narrow; rw [if_pos (show s = 0 from c1)]; first | done | rfl)
def m_X6_item (h : z_H) (t i : Int32) : Int32 :=
  if m_X6_isTape h t then
    if 0 ≤ (z_I h 81 (z_c t)) then
      if z_in i 0 ((z_I h 82 (z_c t)) - 1) then
        1
      else
        (-13)
    else
      (-11)
  else
    (-1)
def m_X6_item_g (h : z_H) (g : Nat → Int64) (t i : Int32) (z : Int64) : Nat → Int64 :=
  if m_X6_isTape h t then
    if 0 ≤ (z_I h 81 (z_c t)) then
      if z_in i 0 ((z_I h 82 (z_c t)) - 1) then
        vp_updL g (60 * z_c t + z_c i) (m_X6_narrow h (z_I h 81 (z_c t)) z)
      else
        g
    else
      g
  else
    g
theorem c_X6_item {Γ : z_W} {h : z_H} {g f : Nat → Int64} {t i : Int32} {z : Int64} (hF : z_F h) (htp : z_tp h) : z_C Γ M_X6_item (z_rm 3 0 0) [.ref 49, .int t, .int i, .long z] (z_lo h g f) (z_ri (m_X6_item h t i) (z_lo h (m_X6_item_g h g t i z) f)) := by
  refine z_C.of (by decide +kernel) rfl [some (.ref 49), some (.int t), some (.int i), some (.long z), none] (Nat.le_of_ble_eq_true rfl) rfl ?_
  refine z_aload_n dX6_item_0 rfl rfl ?_
  refine z_iload_n dX6_item_1 rfl rfl ?_
  refine z_vcall vl_X6_373_6 (c_X6_isTape hF) dX6_item_2 rfl rfl (hF.1 49 _ rfl) ⟨by decide, by decide⟩ (Nat.le_of_ble_eq_true rfl) (Nat.le_refl _) (Nat.le_refl _) (z_cI ?_) z_tI
  refine z_bif_ne 10 dX6_item_5 (by decide) (fun c5 => ?_) (fun c5 => ?_)
  · have ht := z_ixb (l := t) 5 (by decide) c5
    obtain ⟨ht1, ht2⟩ := htp (z_c t) (by have := ht.2; omega)
    refine z_aload_n dX6_item_10 rfl rfl ?_
    refine z_getR 81 dX6_item_11 fl_X6_214_6 (hF.1 49 _ rfl) rfl (hF.2.1 49 67 81 rfl) ?_
    refine z_iload_n dX6_item_14 rfl rfl ?_
    refine z_iald (z_c t) dX6_item_15 (hF.1 81 _ rfl) ht.1 (by have := ht.2; omega) (by decide) ?_
    refine z_eqi (z_I h 81 (z_c t)) rfl ?_
    refine z_if_ge 22 dX6_item_16 (by decide) (fun c16 => ?_) (fun c16 => ?_)
    · refine z_aload_n dX6_item_22 rfl rfl ?_
      refine z_iload_n dX6_item_23 rfl rfl ?_
      refine z_iconst (v := 0) dX6_item_24 rfl ?_
      refine z_aload_n dX6_item_25 rfl rfl ?_
      refine z_getR 82 dX6_item_26 fl_X6_217_6 (hF.1 49 _ rfl) rfl (hF.2.1 49 68 82 rfl) ?_
      refine z_iload_n dX6_item_29 rfl rfl ?_
      refine z_iald (z_c t) dX6_item_30 (hF.1 82 _ rfl) ht.1 (by have := ht.2; omega) (by decide) ?_
      refine z_eqi (z_I h 82 (z_c t)) rfl ?_
      refine z_iconst (v := 1) dX6_item_31 rfl ?_
      refine z_isub dX6_item_32 ?_
      refine z_vcall vl_X6_227_6 (c_X6_in hF) dX6_item_33 rfl rfl (hF.1 49 _ rfl) ⟨by decide, by decide⟩ (Nat.le_of_ble_eq_true rfl) (Nat.le_refl _) (Nat.le_refl _) (z_cI ?_) z_tI
      refine z_bif_ne 42 dX6_item_36 (by decide) (fun c36 => ?_) (fun c36 => ?_)
      · refine z_aload_n dX6_item_42 rfl rfl ?_
        refine z_getR 83 dX6_item_43 fl_X6_220_6 (hF.1 49 _ rfl) rfl (hF.2.1 49 69 83 rfl) ?_
        refine z_bipush (v := 60) dX6_item_46 rfl ?_
        refine z_iload_n dX6_item_48 rfl rfl ?_
        refine z_imul dX6_item_49 ?_
        refine z_iload_n dX6_item_50 rfl rfl ?_
        refine z_iadd dX6_item_51 ?_
        refine z_aload_n dX6_item_52 rfl rfl ?_
        refine z_aload_n dX6_item_53 rfl rfl ?_
        refine z_getR 81 dX6_item_54 fl_X6_214_6 (hF.1 49 _ rfl) rfl (hF.2.1 49 67 81 rfl) ?_
        refine z_iload_n dX6_item_57 rfl rfl ?_
        refine z_iald (z_c t) dX6_item_58 (hF.1 81 _ rfl) ht.1 (by have := ht.2; omega) (by decide) ?_
        refine z_eqi (z_I h 81 (z_c t)) rfl ?_
        refine z_lload_n dX6_item_59 rfl rfl ?_
        refine z_vcall vl_X6_400_6 (c_X6_narrow hF) dX6_item_60 rfl rfl (hF.1 49 _ rfl) ⟨by decide, by decide⟩ (Nat.le_of_ble_eq_true rfl) (Nat.le_refl _) (Nat.le_refl _) (z_cL ?_) z_tL
        refine z_last (60 * z_c t + z_c i) dX6_item_63 (hF.1 83 _ rfl) (by decide) (by rw [← nI_add, ← pk_mul, ← ht.1, ← (z_ix ht2 (by decide) c36).1]; rfl) (by have := ht.2; have := (z_ix ht2 (by decide) c36).2; have := ht2.2; omega) (by decide) ?_
        refine z_meq (z_lo h (vp_updL g (60 * z_c t + z_c i) (m_X6_narrow h (z_I h 81 (z_c t)) z)) f) (z_lo_g _ _ _ _ _) ?_
        refine z_iconst (v := 1) dX6_item_64 rfl ?_
        refine z_iret dX6_item_65 rfl rfl (Nat.le_refl _) (Nat.le_refl _) (z_ri_i ?_ ?_)
        · unfold m_X6_item; rw [if_pos (show m_X6_isTape h t from c5), if_pos (show 0 ≤ (z_I h 81 (z_c t)) from c16), if_pos (show z_in i 0 ((z_I h 82 (z_c t)) - 1) from c36)]
        · unfold m_X6_item_g; rw [if_pos (show m_X6_isTape h t from c5), if_pos (show 0 ≤ (z_I h 81 (z_c t)) from c16), if_pos (show z_in i 0 ((z_I h 82 (z_c t)) - 1) from c36)]
      · refine z_bipush (v := (-13)) dX6_item_39 rfl ?_
        refine z_iret dX6_item_41 rfl rfl (Nat.le_refl _) (Nat.le_refl _) (z_ri_i ?_ ?_)
        · unfold m_X6_item; rw [if_pos (show m_X6_isTape h t from c5), if_pos (show 0 ≤ (z_I h 81 (z_c t)) from c16), if_neg (show ¬ (z_in i 0 ((z_I h 82 (z_c t)) - 1)) from c36)]
        · unfold m_X6_item_g; rw [if_pos (show m_X6_isTape h t from c5), if_pos (show 0 ≤ (z_I h 81 (z_c t)) from c16), if_neg (show ¬ (z_in i 0 ((z_I h 82 (z_c t)) - 1)) from c36)]
    · refine z_bipush (v := (-11)) dX6_item_19 rfl ?_
      refine z_iret dX6_item_21 rfl rfl (Nat.le_refl _) (Nat.le_refl _) (z_ri_i ?_ ?_)
      · unfold m_X6_item; rw [if_pos (show m_X6_isTape h t from c5), if_neg (show ¬ (0 ≤ (z_I h 81 (z_c t))) from c16)]
      · unfold m_X6_item_g; rw [if_pos (show m_X6_isTape h t from c5), if_neg (show ¬ (0 ≤ (z_I h 81 (z_c t))) from c16)]
  · refine z_iconst (v := (-1)) dX6_item_8 rfl ?_
    refine z_iret dX6_item_9 rfl rfl (Nat.le_refl _) (Nat.le_refl _) (z_ri_i ?_ ?_)
    · unfold m_X6_item; rw [if_neg (show ¬ (m_X6_isTape h t) from c5)]
    · unfold m_X6_item_g; rw [if_neg (show ¬ (m_X6_isTape h t) from c5)]
def m_X6_read (h : z_H) (g : Nat → Int64) (t i : Int32) : Int64 :=
  if m_X6_isTape h t then
    if (z_I h 81 (z_c t)) < 0 then
      (-9223372036854775808)
    else
      if z_in i 0 ((z_I h 82 (z_c t)) - 1) then
        g (60 * z_c t + z_c i)
      else
        (-9223372036854775808)
  else
    (-9223372036854775808)
theorem c_X6_read {Γ : z_W} {h : z_H} {g f : Nat → Int64} {t i : Int32} (hF : z_F h) (htp : z_tp h) : z_C Γ M_X6_read (z_rm 3 0 0) [.ref 49, .int t, .int i] (z_lo h g f) (z_rl (m_X6_read h g t i) (z_lo h g f)) := by
  refine z_C.of (by decide +kernel) rfl [some (.ref 49), some (.int t), some (.int i)] (Nat.le_of_ble_eq_true rfl) rfl ?_
  refine z_aload_n dX6_read_0 rfl rfl ?_
  refine z_iload_n dX6_read_1 rfl rfl ?_
  refine z_vcall vl_X6_373_6 (c_X6_isTape hF) dX6_read_2 rfl rfl (hF.1 49 _ rfl) ⟨by decide, by decide⟩ (Nat.le_of_ble_eq_true rfl) (Nat.le_refl _) (Nat.le_refl _) (z_cI ?_) z_tI
  refine z_bif_eq 34 dX6_read_5 (by decide) (fun c5 => ?_) (fun c5 => ?_)
  · refine z_ldc2 dX6_read_34 q1942 ?_
    refine z_goto 51 dX6_read_37 (by decide) ?_
    refine z_lret dX6_read_51 rfl (Nat.le_refl _) (Nat.le_refl _) (z_rl_i ?_ ?_)
    · unfold m_X6_read; rw [if_neg (show ¬ (m_X6_isTape h t) from c5)]
    · rfl
  · have ht := z_ixb (l := t) 5 (by decide) c5
    obtain ⟨ht1, ht2⟩ := htp (z_c t) (by have := ht.2; omega)
    refine z_aload_n dX6_read_8 rfl rfl ?_
    refine z_getR 81 dX6_read_9 fl_X6_214_6 (hF.1 49 _ rfl) rfl (hF.2.1 49 67 81 rfl) ?_
    refine z_iload_n dX6_read_12 rfl rfl ?_
    refine z_iald (z_c t) dX6_read_13 (hF.1 81 _ rfl) ht.1 (by have := ht.2; omega) (by decide) ?_
    refine z_eqi (z_I h 81 (z_c t)) rfl ?_
    refine z_if_lt 34 dX6_read_14 (by decide) (fun c14 => ?_) (fun c14 => ?_)
    · refine z_ldc2 dX6_read_34 q1942 ?_
      refine z_goto 51 dX6_read_37 (by decide) ?_
      refine z_lret dX6_read_51 rfl (Nat.le_refl _) (Nat.le_refl _) (z_rl_i ?_ ?_)
      · unfold m_X6_read; rw [if_pos (show m_X6_isTape h t from c5), if_pos (show (z_I h 81 (z_c t)) < 0 from c14)]
      · rfl
    · refine z_aload_n dX6_read_17 rfl rfl ?_
      refine z_iload_n dX6_read_18 rfl rfl ?_
      refine z_iconst (v := 0) dX6_read_19 rfl ?_
      refine z_aload_n dX6_read_20 rfl rfl ?_
      refine z_getR 82 dX6_read_21 fl_X6_217_6 (hF.1 49 _ rfl) rfl (hF.2.1 49 68 82 rfl) ?_
      refine z_iload_n dX6_read_24 rfl rfl ?_
      refine z_iald (z_c t) dX6_read_25 (hF.1 82 _ rfl) ht.1 (by have := ht.2; omega) (by decide) ?_
      refine z_eqi (z_I h 82 (z_c t)) rfl ?_
      refine z_iconst (v := 1) dX6_read_26 rfl ?_
      refine z_isub dX6_read_27 ?_
      refine z_vcall vl_X6_227_6 (c_X6_in hF) dX6_read_28 rfl rfl (hF.1 49 _ rfl) ⟨by decide, by decide⟩ (Nat.le_of_ble_eq_true rfl) (Nat.le_refl _) (Nat.le_refl _) (z_cI ?_) z_tI
      refine z_bif_ne 40 dX6_read_31 (by decide) (fun c31 => ?_) (fun c31 => ?_)
      · refine z_aload_n dX6_read_40 rfl rfl ?_
        refine z_getR 83 dX6_read_41 fl_X6_220_6 (hF.1 49 _ rfl) rfl (hF.2.1 49 69 83 rfl) ?_
        refine z_bipush (v := 60) dX6_read_44 rfl ?_
        refine z_iload_n dX6_read_46 rfl rfl ?_
        refine z_imul dX6_read_47 ?_
        refine z_iload_n dX6_read_48 rfl rfl ?_
        refine z_iadd dX6_read_49 ?_
        refine z_lald (60 * z_c t + z_c i) dX6_read_50 (hF.1 83 _ rfl) (by rw [← nI_add, ← pk_mul, ← ht.1, ← (z_ix ht2 (by decide) c31).1]; rfl) (by have := ht.2; have := (z_ix ht2 (by decide) c31).2; have := ht2.2; omega) (by decide) ?_
        refine z_eql (g (60 * z_c t + z_c i)) rfl ?_
        refine z_lret dX6_read_51 rfl (Nat.le_refl _) (Nat.le_refl _) (z_rl_i ?_ ?_)
        · unfold m_X6_read; rw [if_pos (show m_X6_isTape h t from c5), if_neg (show ¬ ((z_I h 81 (z_c t)) < 0) from c14), if_pos (show z_in i 0 ((z_I h 82 (z_c t)) - 1) from c31)]
        · rfl
      · refine z_ldc2 dX6_read_34 q1942 ?_
        refine z_goto 51 dX6_read_37 (by decide) ?_
        refine z_lret dX6_read_51 rfl (Nat.le_refl _) (Nat.le_refl _) (z_rl_i ?_ ?_)
        · unfold m_X6_read; rw [if_pos (show m_X6_isTape h t from c5), if_neg (show ¬ ((z_I h 81 (z_c t)) < 0) from c14), if_neg (show ¬ (z_in i 0 ((z_I h 82 (z_c t)) - 1)) from c31)]
        · rfl
def a_jd (h : z_H) (g : Nat → Int64) (t i : Int32) : Nat → Nat → Int32
  | 0, _ => -5
  | r + 1, l => if z_I h 81 (z_c t) < 0 then 100 + nI l else if i < 0 then 100 + nI l else if i ≤ z_I h 82 (z_c t) - nI l - 1 then (if lg_cmp (g (60 * z_c t + z_c i + l)) (z_I h 52 l).toInt64 = 0 then a_jd h g t i r (l + 1) else nI l) else 100 + nI l
def m_X6_judge (h : z_H) (g : Nat → Int64) (t i : Int32) : Int32 := if z_in t 0 5 then (if z_I h 81 (z_c t) ≤ 0 then a_jd h g t i (z_c (z_I h 49 0)) 0 else -12) else -1
theorem z_jd {i L : Int32} {l : Nat} (hL : z_cn L 60) (hl : l < 6) (h0 : ¬ i < 0) (h : i ≤ L - nI l - 1) : i = nI (z_c i) ∧ z_c i + l < 60 := by
  have h1 := z_nc i (Int32.not_lt.mp h0)
  have h5 := i.toNatClampNeg_lt
  have h2 := Int32.le_iff_toInt_le.mp h
  have h3 := z_cn_ti hL (by decide)
  have h4 := hL.2
  have e1 : (nI l).toInt = (l : Int) := nI_toInt (by omega)
  have e2 : (L - nI l).toInt = (z_c L : Int) - l := by rw [z_ts (by omega) (by omega), h3, e1]
  have e3 : (L - nI l - 1).toInt = (z_c L : Int) - l - 1 := by rw [z_ts (by rw [e2, show (1 : Int32).toInt = 1 from rfl]; omega) (by rw [e2, show (1 : Int32).toInt = 1 from rfl]; omega), e2]; rfl
  have e4 : i.toInt = (z_c i : Int) := by
    conv => lhs; rw [h1]
    exact nI_toInt (by unfold z_c; omega)
  refine ⟨h1, ?_⟩
  omega
theorem lp_X6_judge {Γ : z_W} {h : z_H} {g f : Nat → Int64} {t i : Int32} (hF : z_F h) (hm : z_cn (z_I h 49 0) 6) (ht : t = nI (z_c t) ∧ z_c t ≤ 5) (ht2 : z_cn (z_I h 82 (z_c t)) 60) : ∀ (r l : Nat), l + r = z_c (z_I h 49 0) → z_G Γ M_X6_judge (z_rm 3 0 0) (z_ri (a_jd h g t i r l) (z_lo h g f)) 0 0 24 [some (.ref 49), some (.int t), some (.int i), some (.int (nI l))] [] (z_lo h g f) := by
  have h6 := hm.2
  intro r
  induction r with
  | zero =>
    intro l hi0
    refine z_iload_n dX6_judge_24 rfl rfl ?_
    refine z_aload_n dX6_judge_25 rfl rfl ?_
    refine z_getI dX6_judge_26 fl_X6_7_6 (hF.1 49 _ rfl) rfl ?_
    refine z_eqi (z_I h 49 0) rfl ?_
    refine z_icmp_ge 96 dX6_judge_29 (by decide) (fun _ => ?_) (fun q => by first | exact absurd (z_lif hm (by omega)) q | exact absurd q (z_lif hm (by omega)))
    refine z_bipush (v := (-5)) dX6_judge_96 rfl ?_
    refine z_iret dX6_judge_98 rfl rfl (Nat.le_refl _) (Nat.le_refl _) (z_ri_i ?_ ?_)
    · rfl
    · rfl
  | succ r ih =>
    intro l hi0
    refine z_iload_n dX6_judge_24 rfl rfl ?_
    refine z_aload_n dX6_judge_25 rfl rfl ?_
    refine z_getI dX6_judge_26 fl_X6_7_6 (hF.1 49 _ rfl) rfl ?_
    refine z_eqi (z_I h 49 0) rfl ?_
    refine z_icmp_ge 96 dX6_judge_29 (by decide) (fun q => by first | exact absurd q (z_lin hm (by omega)) | exact absurd (z_lin hm (by omega)) q) (fun _ => ?_)
    refine z_aload_n dX6_judge_32 rfl rfl ?_
    refine z_getR 81 dX6_judge_33 fl_X6_214_6 (hF.1 49 _ rfl) rfl (hF.2.1 49 67 81 rfl) ?_
    refine z_iload_n dX6_judge_36 rfl rfl ?_
    refine z_iald (z_c t) dX6_judge_37 (hF.1 81 _ rfl) ht.1 (by have := ht.2; omega) (by decide) ?_
    refine z_eqi (z_I h 81 (z_c t)) rfl ?_
    refine z_if_lt 59 dX6_judge_38 (by decide) (fun c38 => ?_) (fun c38 => ?_)
    · refine z_bipush (v := 100) dX6_judge_59 rfl ?_
      refine z_iload_n dX6_judge_61 rfl rfl ?_
      refine z_iadd dX6_judge_62 ?_
      refine z_iret dX6_judge_63 rfl rfl (Nat.le_refl _) (Nat.le_refl _) (z_ri_i ?_ ?_)
      · rw [a_jd, if_pos (show (z_I h 81 (z_c t)) < 0 from c38)]
      · rfl
    · refine z_iload_n dX6_judge_41 rfl rfl ?_
      refine z_if_lt 59 dX6_judge_42 (by decide) (fun c42 => ?_) (fun c42 => ?_)
      · refine z_bipush (v := 100) dX6_judge_59 rfl ?_
        refine z_iload_n dX6_judge_61 rfl rfl ?_
        refine z_iadd dX6_judge_62 ?_
        refine z_iret dX6_judge_63 rfl rfl (Nat.le_refl _) (Nat.le_refl _) (z_ri_i ?_ ?_)
        · rw [a_jd, if_neg (show ¬ ((z_I h 81 (z_c t)) < 0) from c38), if_pos (show i < 0 from c42)]
        · rfl
      · refine z_iload_n dX6_judge_45 rfl rfl ?_
        refine z_aload_n dX6_judge_46 rfl rfl ?_
        refine z_getR 82 dX6_judge_47 fl_X6_217_6 (hF.1 49 _ rfl) rfl (hF.2.1 49 68 82 rfl) ?_
        refine z_iload_n dX6_judge_50 rfl rfl ?_
        refine z_iald (z_c t) dX6_judge_51 (hF.1 82 _ rfl) ht.1 (by have := ht.2; omega) (by decide) ?_
        refine z_eqi (z_I h 82 (z_c t)) rfl ?_
        refine z_iload_n dX6_judge_52 rfl rfl ?_
        refine z_isub dX6_judge_53 ?_
        refine z_iconst (v := 1) dX6_judge_54 rfl ?_
        refine z_isub dX6_judge_55 ?_
        refine z_icmp_le 64 dX6_judge_56 (by decide) (fun c56 => ?_) (fun c56 => ?_)
        · have hj := z_jd ht2 (by omega) c42 c56
          refine z_aload_n dX6_judge_64 rfl rfl ?_
          refine z_getR 83 dX6_judge_65 fl_X6_220_6 (hF.1 49 _ rfl) rfl (hF.2.1 49 69 83 rfl) ?_
          refine z_bipush (v := 60) dX6_judge_68 rfl ?_
          refine z_iload_n dX6_judge_70 rfl rfl ?_
          refine z_imul dX6_judge_71 ?_
          refine z_iload_n dX6_judge_72 rfl rfl ?_
          refine z_iadd dX6_judge_73 ?_
          refine z_iload_n dX6_judge_74 rfl rfl ?_
          refine z_iadd dX6_judge_75 ?_
          refine z_lald (60 * z_c t + z_c i + l) dX6_judge_76 (hF.1 83 _ rfl) (by rw [← nI_add, ← nI_add, ← pk_mul, ← ht.1, ← hj.1]; rfl) (by have := ht.2; have := hj.2; omega) (by decide) ?_
          refine z_eql (g (60 * z_c t + z_c i + l)) rfl ?_
          refine z_aload_n dX6_judge_77 rfl rfl ?_
          refine z_getR 52 dX6_judge_78 fl_X6_35_6 (hF.1 49 _ rfl) rfl (hF.2.1 49 8 52 rfl) ?_
          refine z_iload_n dX6_judge_81 rfl rfl ?_
          refine z_iald l dX6_judge_82 (hF.1 52 _ rfl) rfl (by omega) (by decide) ?_
          refine z_eqi (z_I h 52 l) rfl ?_
          refine z_i2l dX6_judge_83 ?_
          refine z_lcmp dX6_judge_84 ?_
          refine z_if_eq 90 dX6_judge_85 (by decide) (fun c85 => ?_) (fun c85 => ?_)
          · refine z_iinc (v := nI (l + 1)) dX6_judge_90 rfl (nI_succ _).symm (by decide) rfl ?_
            refine z_goto 24 dX6_judge_93 (by decide) ?_
            rw [a_jd, if_neg (show ¬ ((z_I h 81 (z_c t)) < 0) from c38), if_neg (show ¬ (i < 0) from c42), if_pos (show i ≤ (((z_I h 82 (z_c t)) - (nI l)) - 1) from c56), if_pos (show (lg_cmp (g (60 * z_c t + z_c i + l)) ((z_I h 52 l).toInt64)) = 0 from c85)]
            exact ih (l + 1) (by omega)
          · refine z_iload_n dX6_judge_88 rfl rfl ?_
            refine z_iret dX6_judge_89 rfl rfl (Nat.le_refl _) (Nat.le_refl _) (z_ri_i ?_ ?_)
            · rw [a_jd, if_neg (show ¬ ((z_I h 81 (z_c t)) < 0) from c38), if_neg (show ¬ (i < 0) from c42), if_pos (show i ≤ (((z_I h 82 (z_c t)) - (nI l)) - 1) from c56), if_neg (show ¬ ((lg_cmp (g (60 * z_c t + z_c i + l)) ((z_I h 52 l).toInt64)) = 0) from c85)]
            · rfl
        · refine z_bipush (v := 100) dX6_judge_59 rfl ?_
          refine z_iload_n dX6_judge_61 rfl rfl ?_
          refine z_iadd dX6_judge_62 ?_
          refine z_iret dX6_judge_63 rfl rfl (Nat.le_refl _) (Nat.le_refl _) (z_ri_i ?_ ?_)
          · rw [a_jd, if_neg (show ¬ ((z_I h 81 (z_c t)) < 0) from c38), if_neg (show ¬ (i < 0) from c42), if_neg (show ¬ (i ≤ (((z_I h 82 (z_c t)) - (nI l)) - 1)) from c56)]
          · rfl
theorem c_X6_judge {Γ : z_W} {h : z_H} {g f : Nat → Int64} {t i : Int32} (hF : z_F h) (hm : z_cn (z_I h 49 0) 6) (htp : z_tp h) : z_C Γ M_X6_judge (z_rm 3 0 0) [.ref 49, .int t, .int i] (z_lo h g f) (z_ri (m_X6_judge h g t i) (z_lo h g f)) := by
  refine z_C.of (by decide +kernel) rfl [some (.ref 49), some (.int t), some (.int i), none] (Nat.le_of_ble_eq_true rfl) rfl ?_
  refine z_aload_n dX6_judge_0 rfl rfl ?_
  refine z_iload_n dX6_judge_1 rfl rfl ?_
  refine z_vcall vl_X6_373_6 (c_X6_isTape hF) dX6_judge_2 rfl rfl (hF.1 49 _ rfl) ⟨by decide, by decide⟩ (Nat.le_of_ble_eq_true rfl) (Nat.le_refl _) (Nat.le_refl _) (z_cI ?_) z_tI
  refine z_bif_ne 10 dX6_judge_5 (by decide) (fun c5 => ?_) (fun c5 => ?_)
  · have ht := z_ixb (l := t) 5 (by decide) c5
    obtain ⟨ht1, ht2⟩ := htp (z_c t) (by have := ht.2; omega)
    refine z_aload_n dX6_judge_10 rfl rfl ?_
    refine z_getR 81 dX6_judge_11 fl_X6_214_6 (hF.1 49 _ rfl) rfl (hF.2.1 49 67 81 rfl) ?_
    refine z_iload_n dX6_judge_14 rfl rfl ?_
    refine z_iald (z_c t) dX6_judge_15 (hF.1 81 _ rfl) ht.1 (by have := ht.2; omega) (by decide) ?_
    refine z_eqi (z_I h 81 (z_c t)) rfl ?_
    refine z_if_le 22 dX6_judge_16 (by decide) (fun c16 => ?_) (fun c16 => ?_)
    · refine z_iconst (v := 0) dX6_judge_22 rfl ?_
      refine z_istore_n dX6_judge_23 rfl (by decide) rfl ?_
      have fin := lp_X6_judge (Γ := Γ) (g := g) (f := f) (i := i) hF hm ht ht2 _ 0 (Nat.zero_add _)
      unfold m_X6_judge
      rw [if_pos (show m_X6_isTape h t from c5), if_pos (show (z_I h 81 (z_c t)) ≤ 0 from c16)]
      exact fin
    · refine z_bipush (v := (-12)) dX6_judge_19 rfl ?_
      refine z_iret dX6_judge_21 rfl rfl (Nat.le_refl _) (Nat.le_refl _) (z_ri_i ?_ ?_)
      · unfold m_X6_judge; rw [if_pos (show m_X6_isTape h t from c5), if_neg (show ¬ ((z_I h 81 (z_c t)) ≤ 0) from c16)]
      · rfl
  · refine z_iconst (v := (-1)) dX6_judge_8 rfl ?_
    refine z_iret dX6_judge_9 rfl rfl (Nat.le_refl _) (Nat.le_refl _) (z_ri_i ?_ ?_)
    · unfold m_X6_judge; rw [if_neg (show ¬ (m_X6_isTape h t) from c5)]
    · rfl
def a_cy (g : Nat → Int64) (s d n : Nat) : Nat → Int64 := fun k => if d ≤ k ∧ k < d + n then g (s + (k - d)) else g k
theorem a_cy_s {g : Nat → Int64} {s d n : Nat} {v : Int64} (hv : v = g (s + n)) : vp_updL (a_cy g s d n) (d + n) v = a_cy g s d (n + 1) := by
  funext k
  by_cases e : k = d + n
  · subst e; rw [pk_uLs, hv]; unfold a_cy; rw [if_pos ⟨by omega, by omega⟩, Nat.add_sub_cancel_left]
  · rw [pk_uLn e]; unfold a_cy
    by_cases c : d ≤ k ∧ k < d + n
    · rw [if_pos c, if_pos ⟨c.1, by omega⟩]
    · rw [if_neg c, if_neg (fun q => c ⟨q.1, by omega⟩)]
def z_qt (h : z_H) (g : Nat → Int64) (r : Int32) : Outcome → z_H → Prop := fun o h' => ∃ f, o = .returned (some (.int r)) ∧ h' = z_lo h g f
theorem lp2_X6_shift {Γ : z_W} {h : z_H} {g f : Nat → Int64} {t i o j : Int32} (hF : z_F h) (ht : t = nI (z_c t) ∧ z_c t ≤ 5) (ho : o = nI (z_c o) ∧ z_c o ≤ 5) (hi : i = nI (z_c i)) (hj : j = nI (z_c j)) {N : Nat} (h1 : z_c i + N ≤ 60) (h2 : z_c j + N ≤ 60) (hf : ∀ k, k < N → f k = g (60 * z_c t + z_c i + k)) : ∀ (r k : Nat), k + r = N → z_G Γ M_X6_shift (z_rm 3 0 0) (z_qt h (a_cy g (60 * z_c t + z_c i) (60 * z_c o + z_c j) N) (nI N)) 0 0 141 [some (.ref 49), some (.int t), some (.int i), some (.int o), some (.int j), some (.int (nI N)), some (.int (nI k))] [] (z_lo h (a_cy g (60 * z_c t + z_c i) (60 * z_c o + z_c j) k) (f)) := by
  intro r
  induction r with
  | zero =>
    intro k hi0
    have hi1 : k = N := by omega
    subst hi1
    refine z_iload dX6_shift_141 rfl ?_
    refine z_iload dX6_shift_143 rfl ?_
    refine z_icmp_ge 176 dX6_shift_145 (by decide) (fun _ => ?_) (fun q => by first | exact absurd (Int32.le_refl _) q | exact absurd q (Int32.le_refl _))
    refine z_iload dX6_shift_176 rfl ?_
    exact z_iret dX6_shift_178 rfl rfl (Nat.le_refl _) (Nat.le_refl _) ⟨_, rfl, rfl⟩
  | succ r ih =>
    intro k hi0
    refine z_iload dX6_shift_141 rfl ?_
    refine z_iload dX6_shift_143 rfl ?_
    refine z_icmp_ge 176 dX6_shift_145 (by decide) (fun q => by first | exact absurd q (nI_ge (show k < N by omega) (by omega)) | exact absurd (nI_ge (show k < N by omega) (by omega)) q) (fun _ => ?_)
    refine z_aload_n dX6_shift_148 rfl rfl ?_
    refine z_getR 83 dX6_shift_149 fl_X6_220_6 (hF.1 49 _ rfl) rfl (hF.2.1 49 69 83 rfl) ?_
    refine z_bipush (v := 60) dX6_shift_152 rfl ?_
    refine z_iload_n dX6_shift_154 rfl rfl ?_
    refine z_imul dX6_shift_155 ?_
    refine z_iload dX6_shift_156 rfl ?_
    refine z_iadd dX6_shift_158 ?_
    refine z_iload dX6_shift_159 rfl ?_
    refine z_iadd dX6_shift_161 ?_
    refine z_aload_n dX6_shift_162 rfl rfl ?_
    refine z_getR 84 dX6_shift_163 fl_X6_224_6 (hF.1 49 _ rfl) rfl (hF.2.1 49 70 84 rfl) ?_
    refine z_iload dX6_shift_166 rfl ?_
    refine z_lald k dX6_shift_168 (hF.1 84 _ rfl) rfl (by omega) (by decide) ?_
    refine z_eql (f k) rfl ?_
    refine z_last (60 * z_c o + z_c j + k) dX6_shift_169 (hF.1 83 _ rfl) (by decide) (by rw [← nI_add, ← nI_add, ← pk_mul, ← ho.1, ← hj]; rfl) (by have := ho.2; omega) (by decide) ?_
    refine z_meq (z_lo h (a_cy g (60 * z_c t + z_c i) (60 * z_c o + z_c j) (k + 1)) f) ((z_lo_g _ _ _ _ _).trans (by rw [a_cy_s (hf k (by omega))])) ?_
    refine z_iinc (v := nI (k + 1)) dX6_shift_170 rfl (nI_succ _).symm (by decide) rfl ?_
    refine z_goto 141 dX6_shift_173 (by decide) ?_
    exact ih (k + 1) (by omega)
theorem lp1_X6_shift {Γ : z_W} {h : z_H} {g : Nat → Int64} {t i o j : Int32} (hF : z_F h) (ht : t = nI (z_c t) ∧ z_c t ≤ 5) (ho : o = nI (z_c o) ∧ z_c o ≤ 5) (hi : i = nI (z_c i)) (hj : j = nI (z_c j)) {N : Nat} (h1 : z_c i + N ≤ 60) (h2 : z_c j + N ≤ 60) : ∀ (r k : Nat) (f : Nat → Int64), k + r = N → (∀ q, q < k → f q = g (60 * z_c t + z_c i + q)) → z_G Γ M_X6_shift (z_rm 3 0 0) (z_qt h (a_cy g (60 * z_c t + z_c i) (60 * z_c o + z_c j) N) (nI N)) 0 0 104 [some (.ref 49), some (.int t), some (.int i), some (.int o), some (.int j), some (.int (nI N)), some (.int (nI k))] [] (z_lo h (g) (f)) := by
  intro r
  induction r with
  | zero =>
    intro k f hi0 hf
    have hi1 : k = N := by omega
    subst hi1
    refine z_iload dX6_shift_104 rfl ?_
    refine z_iload dX6_shift_106 rfl ?_
    refine z_icmp_ge 138 dX6_shift_108 (by decide) (fun _ => ?_) (fun q => by first | exact absurd (Int32.le_refl _) q | exact absurd q (Int32.le_refl _))
    refine z_iconst (v := 0) dX6_shift_138 rfl ?_
    refine z_istore dX6_shift_139 (by decide) rfl ?_
    have fin := lp2_X6_shift (Γ := Γ) hF ht ho hi hj h1 h2 hf k 0 (Nat.zero_add _)
    rw [show a_cy g (60 * z_c t + z_c i) (60 * z_c o + z_c j) 0 = g from funext fun k => if_neg (by omega)] at fin
    exact fin
  | succ r ih =>
    intro k f hi0 hf
    refine z_iload dX6_shift_104 rfl ?_
    refine z_iload dX6_shift_106 rfl ?_
    refine z_icmp_ge 138 dX6_shift_108 (by decide) (fun q => by first | exact absurd q (nI_ge (show k < N by omega) (by omega)) | exact absurd (nI_ge (show k < N by omega) (by omega)) q) (fun _ => ?_)
    refine z_aload_n dX6_shift_111 rfl rfl ?_
    refine z_getR 84 dX6_shift_112 fl_X6_224_6 (hF.1 49 _ rfl) rfl (hF.2.1 49 70 84 rfl) ?_
    refine z_iload dX6_shift_115 rfl ?_
    refine z_aload_n dX6_shift_117 rfl rfl ?_
    refine z_getR 83 dX6_shift_118 fl_X6_220_6 (hF.1 49 _ rfl) rfl (hF.2.1 49 69 83 rfl) ?_
    refine z_bipush (v := 60) dX6_shift_121 rfl ?_
    refine z_iload_n dX6_shift_123 rfl rfl ?_
    refine z_imul dX6_shift_124 ?_
    refine z_iload_n dX6_shift_125 rfl rfl ?_
    refine z_iadd dX6_shift_126 ?_
    refine z_iload dX6_shift_127 rfl ?_
    refine z_iadd dX6_shift_129 ?_
    refine z_lald (60 * z_c t + z_c i + k) dX6_shift_130 (hF.1 83 _ rfl) (by rw [← nI_add, ← nI_add, ← pk_mul, ← ht.1, ← hi]; rfl) (by have := ht.2; omega) (by decide) ?_
    refine z_eql (g (60 * z_c t + z_c i + k)) rfl ?_
    refine z_last k dX6_shift_131 (hF.1 84 _ rfl) (by decide) rfl (by omega) (by decide) ?_
    refine z_meq (z_lo h g (vp_updL f k (g (60 * z_c t + z_c i + k)))) (z_lo_f _ _ _ _ _) ?_
    refine z_iinc (v := nI (k + 1)) dX6_shift_132 rfl (nI_succ _).symm (by decide) rfl ?_
    refine z_goto 104 dX6_shift_135 (by decide) ?_
    exact ih (k + 1) _ (by omega) (fun q hq => by
      by_cases e : q = k
      · subst e; rw [pk_uLs]
      · rw [pk_uLn e]; exact hf q (by omega))
theorem z_shn {i L n : Int32} (hL : z_cn L 60) (hi : ¬ i < 0) (hn : ¬ n < 0) (h : i ≤ L - n) : i = nI (z_c i) ∧ n = nI (z_c n) ∧ z_c i + z_c n ≤ 60 := by
  have h1 := z_nc i (Int32.not_lt.mp hi)
  have h2 := z_nc n (Int32.not_lt.mp hn)
  have h5 := i.toNatClampNeg_lt
  have h6 := n.toNatClampNeg_lt
  have h3 := z_cn_ti hL (by decide)
  have h4 := hL.2
  have e4 : i.toInt = (z_c i : Int) := by
    conv => lhs; rw [h1]
    exact nI_toInt (by unfold z_c; omega)
  have e5 : n.toInt = (z_c n : Int) := by
    conv => lhs; rw [h2]
    exact nI_toInt (by unfold z_c; omega)
  have e6 := Int32.le_iff_toInt_le.mp h
  have e7 : n.toInt < 2147483648 := n.toInt_lt
  rw [z_ts (by omega) (by omega)] at e6
  refine ⟨h1, h2, ?_⟩
  omega
def m_X6_shift (h : z_H) (t i o j n : Int32) : Int32 :=
  if m_X6_isTape h t then
    if m_X6_isTape h o then
      if (z_I h 81 (z_c t)) < 0 then
        (-11)
      else
        if 0 ≤ (z_I h 81 (z_c o)) then
          if (z_I h 81 (z_c t)) = (z_I h 81 (z_c o)) then
            if n < 0 then
              (-13)
            else
              if i < 0 then
                (-13)
              else
                if j < 0 then
                  (-13)
                else
                  if ((z_I h 82 (z_c t)) - n) < i then
                    (-13)
                  else
                    if j ≤ ((z_I h 82 (z_c o)) - n) then
                      n
                    else
                      (-13)
          else
            (-12)
        else
          (-11)
    else
      (-1)
  else
    (-1)
def m_X6_shift_g (h : z_H) (g : Nat → Int64) (t i o j n : Int32) : Nat → Int64 :=
  if m_X6_isTape h t then
    if m_X6_isTape h o then
      if (z_I h 81 (z_c t)) < 0 then
        g
      else
        if 0 ≤ (z_I h 81 (z_c o)) then
          if (z_I h 81 (z_c t)) = (z_I h 81 (z_c o)) then
            if n < 0 then
              g
            else
              if i < 0 then
                g
              else
                if j < 0 then
                  g
                else
                  if ((z_I h 82 (z_c t)) - n) < i then
                    g
                  else
                    if j ≤ ((z_I h 82 (z_c o)) - n) then
                      a_cy g (60 * z_c t + z_c i) (60 * z_c o + z_c j) (z_c n)
                    else
                      g
          else
            g
        else
          g
    else
      g
  else
    g
theorem c_X6_shift {Γ : z_W} {h : z_H} {g f : Nat → Int64} {t i o j n : Int32} (hF : z_F h) (htp : z_tp h) : z_C Γ M_X6_shift (z_rm 3 0 0) [.ref 49, .int t, .int i, .int o, .int j, .int n] (z_lo h g f) (z_qt h (m_X6_shift_g h g t i o j n) (m_X6_shift h t i o j n)) := by
  refine z_C.of (by decide +kernel) rfl [some (.ref 49), some (.int t), some (.int i), some (.int o), some (.int j), some (.int n), none] (Nat.le_of_ble_eq_true rfl) rfl ?_
  refine z_aload_n dX6_shift_0 rfl rfl ?_
  refine z_iload_n dX6_shift_1 rfl rfl ?_
  refine z_vcall vl_X6_373_6 (c_X6_isTape hF) dX6_shift_2 rfl rfl (hF.1 49 _ rfl) ⟨by decide, by decide⟩ (Nat.le_of_ble_eq_true rfl) (Nat.le_refl _) (Nat.le_refl _) (z_cI ?_) z_tI
  refine z_bif_eq 16 dX6_shift_5 (by decide) (fun c5 => ?_) (fun c5 => ?_)
  · refine z_iconst (v := (-1)) dX6_shift_16 rfl ?_
    refine z_iret dX6_shift_17 rfl rfl (Nat.le_refl _) (Nat.le_refl _) ⟨f, ?_, ?_⟩
    · unfold m_X6_shift; rw [if_neg (show ¬ (m_X6_isTape h t) from c5)]
    · unfold m_X6_shift_g; rw [if_neg (show ¬ (m_X6_isTape h t) from c5)]
  · have ht := z_ixb (l := t) 5 (by decide) c5
    obtain ⟨ht1, ht2⟩ := htp (z_c t) (by have := ht.2; omega)
    refine z_aload_n dX6_shift_8 rfl rfl ?_
    refine z_iload_n dX6_shift_9 rfl rfl ?_
    refine z_vcall vl_X6_373_6 (c_X6_isTape hF) dX6_shift_10 rfl rfl (hF.1 49 _ rfl) ⟨by decide, by decide⟩ (Nat.le_of_ble_eq_true rfl) (Nat.le_refl _) (Nat.le_refl _) (z_cI ?_) z_tI
    refine z_bif_ne 18 dX6_shift_13 (by decide) (fun c13 => ?_) (fun c13 => ?_)
    · have ho := z_ixb (l := o) 5 (by decide) c13
      obtain ⟨ho1, ho2⟩ := htp (z_c o) (by have := ho.2; omega)
      refine z_aload_n dX6_shift_18 rfl rfl ?_
      refine z_getR 81 dX6_shift_19 fl_X6_214_6 (hF.1 49 _ rfl) rfl (hF.2.1 49 67 81 rfl) ?_
      refine z_iload_n dX6_shift_22 rfl rfl ?_
      refine z_iald (z_c t) dX6_shift_23 (hF.1 81 _ rfl) ht.1 (by have := ht.2; omega) (by decide) ?_
      refine z_eqi (z_I h 81 (z_c t)) rfl ?_
      refine z_if_lt 36 dX6_shift_24 (by decide) (fun c24 => ?_) (fun c24 => ?_)
      · refine z_bipush (v := (-11)) dX6_shift_36 rfl ?_
        refine z_iret dX6_shift_38 rfl rfl (Nat.le_refl _) (Nat.le_refl _) ⟨f, ?_, ?_⟩
        · unfold m_X6_shift; rw [if_pos (show m_X6_isTape h t from c5), if_pos (show m_X6_isTape h o from c13), if_pos (show (z_I h 81 (z_c t)) < 0 from c24)]
        · unfold m_X6_shift_g; rw [if_pos (show m_X6_isTape h t from c5), if_pos (show m_X6_isTape h o from c13), if_pos (show (z_I h 81 (z_c t)) < 0 from c24)]
      · refine z_aload_n dX6_shift_27 rfl rfl ?_
        refine z_getR 81 dX6_shift_28 fl_X6_214_6 (hF.1 49 _ rfl) rfl (hF.2.1 49 67 81 rfl) ?_
        refine z_iload_n dX6_shift_31 rfl rfl ?_
        refine z_iald (z_c o) dX6_shift_32 (hF.1 81 _ rfl) ho.1 (by have := ho.2; omega) (by decide) ?_
        refine z_eqi (z_I h 81 (z_c o)) rfl ?_
        refine z_if_ge 39 dX6_shift_33 (by decide) (fun c33 => ?_) (fun c33 => ?_)
        · refine z_aload_n dX6_shift_39 rfl rfl ?_
          refine z_getR 81 dX6_shift_40 fl_X6_214_6 (hF.1 49 _ rfl) rfl (hF.2.1 49 67 81 rfl) ?_
          refine z_iload_n dX6_shift_43 rfl rfl ?_
          refine z_iald (z_c t) dX6_shift_44 (hF.1 81 _ rfl) ht.1 (by have := ht.2; omega) (by decide) ?_
          refine z_eqi (z_I h 81 (z_c t)) rfl ?_
          refine z_aload_n dX6_shift_45 rfl rfl ?_
          refine z_getR 81 dX6_shift_46 fl_X6_214_6 (hF.1 49 _ rfl) rfl (hF.2.1 49 67 81 rfl) ?_
          refine z_iload_n dX6_shift_49 rfl rfl ?_
          refine z_iald (z_c o) dX6_shift_50 (hF.1 81 _ rfl) ho.1 (by have := ho.2; omega) (by decide) ?_
          refine z_eqi (z_I h 81 (z_c o)) rfl ?_
          refine z_icmp_eq 57 dX6_shift_51 (by decide) (fun c51 => ?_) (fun c51 => ?_)
          · refine z_iload dX6_shift_57 rfl ?_
            refine z_if_lt 98 dX6_shift_59 (by decide) (fun c59 => ?_) (fun c59 => ?_)
            · refine z_bipush (v := (-13)) dX6_shift_98 rfl ?_
              refine z_iret dX6_shift_100 rfl rfl (Nat.le_refl _) (Nat.le_refl _) ⟨f, ?_, ?_⟩
              · unfold m_X6_shift; rw [if_pos (show m_X6_isTape h t from c5), if_pos (show m_X6_isTape h o from c13), if_neg (show ¬ ((z_I h 81 (z_c t)) < 0) from c24), if_pos (show 0 ≤ (z_I h 81 (z_c o)) from c33), if_pos (show (z_I h 81 (z_c t)) = (z_I h 81 (z_c o)) from c51), if_pos (show n < 0 from c59)]
              · unfold m_X6_shift_g; rw [if_pos (show m_X6_isTape h t from c5), if_pos (show m_X6_isTape h o from c13), if_neg (show ¬ ((z_I h 81 (z_c t)) < 0) from c24), if_pos (show 0 ≤ (z_I h 81 (z_c o)) from c33), if_pos (show (z_I h 81 (z_c t)) = (z_I h 81 (z_c o)) from c51), if_pos (show n < 0 from c59)]
            · refine z_iload_n dX6_shift_62 rfl rfl ?_
              refine z_if_lt 98 dX6_shift_63 (by decide) (fun c63 => ?_) (fun c63 => ?_)
              · refine z_bipush (v := (-13)) dX6_shift_98 rfl ?_
                refine z_iret dX6_shift_100 rfl rfl (Nat.le_refl _) (Nat.le_refl _) ⟨f, ?_, ?_⟩
                · unfold m_X6_shift; rw [if_pos (show m_X6_isTape h t from c5), if_pos (show m_X6_isTape h o from c13), if_neg (show ¬ ((z_I h 81 (z_c t)) < 0) from c24), if_pos (show 0 ≤ (z_I h 81 (z_c o)) from c33), if_pos (show (z_I h 81 (z_c t)) = (z_I h 81 (z_c o)) from c51), if_neg (show ¬ (n < 0) from c59), if_pos (show i < 0 from c63)]
                · unfold m_X6_shift_g; rw [if_pos (show m_X6_isTape h t from c5), if_pos (show m_X6_isTape h o from c13), if_neg (show ¬ ((z_I h 81 (z_c t)) < 0) from c24), if_pos (show 0 ≤ (z_I h 81 (z_c o)) from c33), if_pos (show (z_I h 81 (z_c t)) = (z_I h 81 (z_c o)) from c51), if_neg (show ¬ (n < 0) from c59), if_pos (show i < 0 from c63)]
              · refine z_iload dX6_shift_66 rfl ?_
                refine z_if_lt 98 dX6_shift_68 (by decide) (fun c68 => ?_) (fun c68 => ?_)
                · refine z_bipush (v := (-13)) dX6_shift_98 rfl ?_
                  refine z_iret dX6_shift_100 rfl rfl (Nat.le_refl _) (Nat.le_refl _) ⟨f, ?_, ?_⟩
                  · unfold m_X6_shift; rw [if_pos (show m_X6_isTape h t from c5), if_pos (show m_X6_isTape h o from c13), if_neg (show ¬ ((z_I h 81 (z_c t)) < 0) from c24), if_pos (show 0 ≤ (z_I h 81 (z_c o)) from c33), if_pos (show (z_I h 81 (z_c t)) = (z_I h 81 (z_c o)) from c51), if_neg (show ¬ (n < 0) from c59), if_neg (show ¬ (i < 0) from c63), if_pos (show j < 0 from c68)]
                  · unfold m_X6_shift_g; rw [if_pos (show m_X6_isTape h t from c5), if_pos (show m_X6_isTape h o from c13), if_neg (show ¬ ((z_I h 81 (z_c t)) < 0) from c24), if_pos (show 0 ≤ (z_I h 81 (z_c o)) from c33), if_pos (show (z_I h 81 (z_c t)) = (z_I h 81 (z_c o)) from c51), if_neg (show ¬ (n < 0) from c59), if_neg (show ¬ (i < 0) from c63), if_pos (show j < 0 from c68)]
                · refine z_iload_n dX6_shift_71 rfl rfl ?_
                  refine z_aload_n dX6_shift_72 rfl rfl ?_
                  refine z_getR 82 dX6_shift_73 fl_X6_217_6 (hF.1 49 _ rfl) rfl (hF.2.1 49 68 82 rfl) ?_
                  refine z_iload_n dX6_shift_76 rfl rfl ?_
                  refine z_iald (z_c t) dX6_shift_77 (hF.1 82 _ rfl) ht.1 (by have := ht.2; omega) (by decide) ?_
                  refine z_eqi (z_I h 82 (z_c t)) rfl ?_
                  refine z_iload dX6_shift_78 rfl ?_
                  refine z_isub dX6_shift_80 ?_
                  refine z_icmp_gt 98 dX6_shift_81 (by decide) (fun c81 => ?_) (fun c81 => ?_)
                  · refine z_bipush (v := (-13)) dX6_shift_98 rfl ?_
                    refine z_iret dX6_shift_100 rfl rfl (Nat.le_refl _) (Nat.le_refl _) ⟨f, ?_, ?_⟩
                    · unfold m_X6_shift; rw [if_pos (show m_X6_isTape h t from c5), if_pos (show m_X6_isTape h o from c13), if_neg (show ¬ ((z_I h 81 (z_c t)) < 0) from c24), if_pos (show 0 ≤ (z_I h 81 (z_c o)) from c33), if_pos (show (z_I h 81 (z_c t)) = (z_I h 81 (z_c o)) from c51), if_neg (show ¬ (n < 0) from c59), if_neg (show ¬ (i < 0) from c63), if_neg (show ¬ (j < 0) from c68), if_pos (show ((z_I h 82 (z_c t)) - n) < i from c81)]
                    · unfold m_X6_shift_g; rw [if_pos (show m_X6_isTape h t from c5), if_pos (show m_X6_isTape h o from c13), if_neg (show ¬ ((z_I h 81 (z_c t)) < 0) from c24), if_pos (show 0 ≤ (z_I h 81 (z_c o)) from c33), if_pos (show (z_I h 81 (z_c t)) = (z_I h 81 (z_c o)) from c51), if_neg (show ¬ (n < 0) from c59), if_neg (show ¬ (i < 0) from c63), if_neg (show ¬ (j < 0) from c68), if_pos (show ((z_I h 82 (z_c t)) - n) < i from c81)]
                  · refine z_iload dX6_shift_84 rfl ?_
                    refine z_aload_n dX6_shift_86 rfl rfl ?_
                    refine z_getR 82 dX6_shift_87 fl_X6_217_6 (hF.1 49 _ rfl) rfl (hF.2.1 49 68 82 rfl) ?_
                    refine z_iload_n dX6_shift_90 rfl rfl ?_
                    refine z_iald (z_c o) dX6_shift_91 (hF.1 82 _ rfl) ho.1 (by have := ho.2; omega) (by decide) ?_
                    refine z_eqi (z_I h 82 (z_c o)) rfl ?_
                    refine z_iload dX6_shift_92 rfl ?_
                    refine z_isub dX6_shift_94 ?_
                    refine z_icmp_le 101 dX6_shift_95 (by decide) (fun c95 => ?_) (fun c95 => ?_)
                    · refine z_iconst (v := 0) dX6_shift_101 rfl ?_
                      refine z_istore dX6_shift_102 (by decide) rfl ?_
                      obtain ⟨hi1, hn1, hs1⟩ := z_shn ht2 c63 c59 (Int32.not_lt.mp c81)
                      obtain ⟨hj1, -, hs2⟩ := z_shn ho2 c68 c59 c95
                      have fin := lp1_X6_shift (Γ := Γ) (g := g) hF ht ho hi1 hj1 hs1 hs2 (z_c n) 0 f (Nat.zero_add _) (fun q hq => absurd hq (by omega))
                      rw [← hn1] at fin
                      unfold m_X6_shift m_X6_shift_g
                      simp only [if_pos (show m_X6_isTape h t from c5), if_pos (show m_X6_isTape h o from c13), if_neg (show ¬ ((z_I h 81 (z_c t)) < 0) from c24), if_pos (show 0 ≤ (z_I h 81 (z_c o)) from c33), if_pos (show (z_I h 81 (z_c t)) = (z_I h 81 (z_c o)) from c51), if_neg (show ¬ (n < 0) from c59), if_neg (show ¬ (i < 0) from c63), if_neg (show ¬ (j < 0) from c68), if_neg (show ¬ (((z_I h 82 (z_c t)) - n) < i) from c81), if_pos (show j ≤ ((z_I h 82 (z_c o)) - n) from c95)]
                      exact fin
                    · refine z_bipush (v := (-13)) dX6_shift_98 rfl ?_
                      refine z_iret dX6_shift_100 rfl rfl (Nat.le_refl _) (Nat.le_refl _) ⟨f, ?_, ?_⟩
                      · unfold m_X6_shift; rw [if_pos (show m_X6_isTape h t from c5), if_pos (show m_X6_isTape h o from c13), if_neg (show ¬ ((z_I h 81 (z_c t)) < 0) from c24), if_pos (show 0 ≤ (z_I h 81 (z_c o)) from c33), if_pos (show (z_I h 81 (z_c t)) = (z_I h 81 (z_c o)) from c51), if_neg (show ¬ (n < 0) from c59), if_neg (show ¬ (i < 0) from c63), if_neg (show ¬ (j < 0) from c68), if_neg (show ¬ (((z_I h 82 (z_c t)) - n) < i) from c81), if_neg (show ¬ (j ≤ ((z_I h 82 (z_c o)) - n)) from c95)]
                      · unfold m_X6_shift_g; rw [if_pos (show m_X6_isTape h t from c5), if_pos (show m_X6_isTape h o from c13), if_neg (show ¬ ((z_I h 81 (z_c t)) < 0) from c24), if_pos (show 0 ≤ (z_I h 81 (z_c o)) from c33), if_pos (show (z_I h 81 (z_c t)) = (z_I h 81 (z_c o)) from c51), if_neg (show ¬ (n < 0) from c59), if_neg (show ¬ (i < 0) from c63), if_neg (show ¬ (j < 0) from c68), if_neg (show ¬ (((z_I h 82 (z_c t)) - n) < i) from c81), if_neg (show ¬ (j ≤ ((z_I h 82 (z_c o)) - n)) from c95)]
          · refine z_bipush (v := (-12)) dX6_shift_54 rfl ?_
            refine z_iret dX6_shift_56 rfl rfl (Nat.le_refl _) (Nat.le_refl _) ⟨f, ?_, ?_⟩
            · unfold m_X6_shift; rw [if_pos (show m_X6_isTape h t from c5), if_pos (show m_X6_isTape h o from c13), if_neg (show ¬ ((z_I h 81 (z_c t)) < 0) from c24), if_pos (show 0 ≤ (z_I h 81 (z_c o)) from c33), if_neg (show ¬ ((z_I h 81 (z_c t)) = (z_I h 81 (z_c o))) from c51)]
            · unfold m_X6_shift_g; rw [if_pos (show m_X6_isTape h t from c5), if_pos (show m_X6_isTape h o from c13), if_neg (show ¬ ((z_I h 81 (z_c t)) < 0) from c24), if_pos (show 0 ≤ (z_I h 81 (z_c o)) from c33), if_neg (show ¬ ((z_I h 81 (z_c t)) = (z_I h 81 (z_c o))) from c51)]
        · refine z_bipush (v := (-11)) dX6_shift_36 rfl ?_
          refine z_iret dX6_shift_38 rfl rfl (Nat.le_refl _) (Nat.le_refl _) ⟨f, ?_, ?_⟩
          · unfold m_X6_shift; rw [if_pos (show m_X6_isTape h t from c5), if_pos (show m_X6_isTape h o from c13), if_neg (show ¬ ((z_I h 81 (z_c t)) < 0) from c24), if_neg (show ¬ (0 ≤ (z_I h 81 (z_c o))) from c33)]
          · unfold m_X6_shift_g; rw [if_pos (show m_X6_isTape h t from c5), if_pos (show m_X6_isTape h o from c13), if_neg (show ¬ ((z_I h 81 (z_c t)) < 0) from c24), if_neg (show ¬ (0 ≤ (z_I h 81 (z_c o))) from c33)]
    · refine z_iconst (v := (-1)) dX6_shift_16 rfl ?_
      refine z_iret dX6_shift_17 rfl rfl (Nat.le_refl _) (Nat.le_refl _) ⟨f, ?_, ?_⟩
      · unfold m_X6_shift; rw [if_pos (show m_X6_isTape h t from c5), if_neg (show ¬ (m_X6_isTape h o) from c13)]
      · unfold m_X6_shift_g; rw [if_pos (show m_X6_isTape h t from c5), if_neg (show ¬ (m_X6_isTape h o) from c13)]
