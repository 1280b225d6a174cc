/-! THE REFERENCE: looked, told, of, enter, glide, row, lift, feed (printed by model13.py) -/
set_option maxRecDepth 20000
def a_lk (h : z_H) (m hi mi : Int32) : Nat → Nat → Int32
  | 0, _ => -5
  | r + 1, k => if a_cl h (z_I h 68 k) m hi mi = z_I h 69 k then a_lk h m hi mi r (k + 1) else nI k
def m_X6_looked (h : z_H) (m hi mi : Int32) : Int32 := a_lk h m hi mi (z_c (z_I h 49 41)) 0
theorem lp_X6_looked {Γ : z_W} {h : z_H} {s : Nat → Int32} {m hi mi : Int32} (hk : z_ok h) (hg : z_lg h) {B : Nat} (hmi : z_cn mi B) (hB : B < 2 ^ 31) : ∀ (r i : Nat), i + r = z_c (z_I h 49 41) → z_G Γ M_X6_looked (z_rm 5 0 0) (z_ri (a_lk h m hi mi r i) (z_fy (z_sc h s) m hi mi)) 0 0 2 [some (.ref 49), some (.int (nI i))] [] (z_fy (z_sc h s) m hi mi) := by
  obtain ⟨hF, ha, hm, hvs, hws, hho⟩ := id hk
  obtain ⟨-, -, -, hb8, hbl⟩ := hg
  have h8 := hb8.2
  intro r
  induction r with
  | zero =>
    intro i hi0
    refine z_iload_n dX6_looked_2 rfl rfl ?_
    refine z_aload_n dX6_looked_3 rfl rfl ?_
    refine z_getI dX6_looked_4 fl_X6_135_6 (hF.1 49 _ rfl) rfl ?_
    refine z_eqi (z_I h 49 41) rfl ?_
    refine z_icmp_ge 37 dX6_looked_7 (by decide) (fun _ => ?_) (fun q => by first | exact absurd (show z_I h 49 41 ≤ nI i by rw [hb8.1]; exact nI_le (by omega) (by have := hb8.2; omega)) q | exact absurd q (show z_I h 49 41 ≤ nI i by rw [hb8.1]; exact nI_le (by omega) (by have := hb8.2; omega)))
    refine z_bipush (v := (-5)) dX6_looked_37 rfl ?_
    refine z_iret dX6_looked_39 rfl rfl (Nat.le_refl _) (Nat.le_refl _) (z_ri_i ?_ ?_)
    · rfl
    · rfl
  | succ r ih =>
    intro i hi0
    have hl := hbl i (by omega)
    have hv := hvs _ hl.2
    have hl : z_I h 68 i = nI (z_c (z_I h 68 i)) ∧ z_c (z_I h 68 i) < 6 := ⟨hl.1, by have := hl.2; have := hm.2; omega⟩
    refine z_iload_n dX6_looked_2 rfl rfl ?_
    refine z_aload_n dX6_looked_3 rfl rfl ?_
    refine z_getI dX6_looked_4 fl_X6_135_6 (hF.1 49 _ rfl) rfl ?_
    refine z_eqi (z_I h 49 41) rfl ?_
    refine z_icmp_ge 37 dX6_looked_7 (by decide) (fun q => by first | exact absurd q (show ¬ z_I h 49 41 ≤ nI i by rw [hb8.1]; exact nI_ge (by omega) (by have := hb8.2; omega)) | exact absurd (show ¬ z_I h 49 41 ≤ nI i by rw [hb8.1]; exact nI_ge (by omega) (by have := hb8.2; omega)) q) (fun _ => ?_)
    refine z_aload_n dX6_looked_10 rfl rfl ?_
    refine z_aload_n dX6_looked_11 rfl rfl ?_
    refine z_getR 68 dX6_looked_12 fl_X6_138_6 (hF.1 49 _ rfl) rfl (hF.2.1 49 42 68 rfl) ?_
    refine z_iload_n dX6_looked_15 rfl rfl ?_
    refine z_iald i dX6_looked_16 (hF.1 68 _ rfl) rfl (by omega) (by decide) ?_
    refine z_eqi (z_I h 68 i) rfl ?_
    refine z_vcall vl_X6_304_6 (c_X6_climb (h := z_sc h s) hF ha hl hv hmi hB) dX6_looked_17 rfl rfl (hF.1 49 _ rfl) ⟨by decide, by decide⟩ (Nat.le_of_ble_eq_true rfl) (Nat.le_refl _) (Nat.le_refl _) (z_cI ?_) z_tI
    refine z_eqi (a_cl h (z_I h 68 i) m hi mi) rfl ?_
    refine z_aload_n dX6_looked_20 rfl rfl ?_
    refine z_getR 69 dX6_looked_21 fl_X6_141_6 (hF.1 49 _ rfl) rfl (hF.2.1 49 43 69 rfl) ?_
    refine z_iload_n dX6_looked_24 rfl rfl ?_
    refine z_iald i dX6_looked_25 (hF.1 69 _ rfl) rfl (by omega) (by decide) ?_
    refine z_eqi (z_I h 69 i) rfl ?_
    refine z_icmp_eq 31 dX6_looked_26 (by decide) (fun c26 => ?_) (fun c26 => ?_)
    · refine z_iinc (v := nI (i + 1)) dX6_looked_31 rfl (nI_succ _).symm (by decide) rfl ?_
      refine z_goto 2 dX6_looked_34 (by decide) ?_
      rw [a_lk, if_pos c26]
      exact ih (i + 1) (by omega)
    · refine z_iload_n dX6_looked_29 rfl rfl ?_
      refine z_iret dX6_looked_30 rfl rfl (Nat.le_refl _) (Nat.le_refl _) (z_ri_i ?_ ?_)
      · rw [a_lk, if_neg c26]
      · rfl
theorem c_X6_looked {Γ : z_W} {h : z_H} {s : Nat → Int32} {m hi mi : Int32} (hk : z_ok h) (hg : z_lg h) {B : Nat} (hmi : z_cn mi B) (hB : B < 2 ^ 31) : z_C Γ M_X6_looked (z_rm 5 0 0) [.ref 49] (z_fy (z_sc h s) m hi mi) (z_ri (m_X6_looked h m hi mi) (z_fy (z_sc h s) m hi mi)) := by
  refine z_C.of (by decide +kernel) rfl [some (.ref 49), none] (Nat.le_of_ble_eq_true rfl) rfl ?_
  refine z_iconst (v := 0) dX6_looked_0 rfl ?_
  refine z_istore_n dX6_looked_1 rfl (by decide) rfl ?_
  exact lp_X6_looked hk hg hmi hB _ 0 (Nat.zero_add _)
def m_X6_told (h : z_H) (w : Int32) (m hi mi : Int32) : Int32 :=
  if w = 0 then
    mi
  else
    if w = 1 then
      m
    else
      if w = 2 then
        hi
      else
        if w = 3 then
          if 0 ≤ (z_I h 49 4) then
            z_I h 49 4
          else
            (-5)
        else
          if w = 4 then
            z_I h 49 5
          else
            if w = 5 then
              m_X6_base h
            else
              if w = 6 then
                m_X6_safe h
              else
                (-1)
theorem c_X6_told {Γ : z_W} {h : z_H} {s : Nat → Int32} {w m hi mi : Int32} (hk : z_ok h)  : z_C Γ M_X6_told (z_rm 4 0 0) [.ref 49, .int w] (z_fy (z_sc h s) m hi mi) (z_ri (m_X6_told h w m hi mi) (z_fy (z_sc h s) m hi mi)) := by
  obtain ⟨hF, ha, hm, hvs, hws, hho⟩ := id hk
  refine z_C.of (by decide +kernel) rfl [some (.ref 49), some (.int w)] (Nat.le_of_ble_eq_true rfl) rfl ?_
  refine z_iload_n dX6_told_0 rfl rfl ?_
  by_cases e1_0 : w = 0
  · refine z_tableIn 0 44 dX6_told_1 e1_0 (by decide) (by decide) rfl (by decide) ?_
    refine z_aload_n dX6_told_44 rfl rfl ?_
    refine z_getI dX6_told_45 fl_X6_13_6 (hF.1 49 _ rfl) rfl ?_
    refine z_eqi (mi) rfl ?_
    refine z_iret dX6_told_48 rfl rfl (Nat.le_refl _) (Nat.le_refl _) (z_ri_i ?_ ?_)
    · first | rfl | (unfold m_X6_told; rw [if_pos (show w = 0 from e1_0)]; first | done | rfl)
    · first | rfl | (unfold m_X6_told; rw [if_pos (show w = 0 from e1_0)]; first | done | rfl)
  by_cases e1_1 : w = 1
  · refine z_tableIn 1 49 dX6_told_1 e1_1 (by decide) (by decide) rfl (by decide) ?_
    refine z_aload_n dX6_told_49 rfl rfl ?_
    refine z_getI dX6_told_50 fl_X6_16_6 (hF.1 49 _ rfl) rfl ?_
    refine z_eqi (m) rfl ?_
    refine z_iret dX6_told_53 rfl rfl (Nat.le_refl _) (Nat.le_refl _) (z_ri_i ?_ ?_)
    · first | rfl | (unfold m_X6_told; rw [if_neg (show ¬ (w = 0) from e1_0), if_pos (show w = 1 from e1_1)]; first | done | rfl)
    · first | rfl | (unfold m_X6_told; rw [if_neg (show ¬ (w = 0) from e1_0), if_pos (show w = 1 from e1_1)]; first | done | rfl)
  by_cases e1_2 : w = 2
  · refine z_tableIn 2 54 dX6_told_1 e1_2 (by decide) (by decide) rfl (by decide) ?_
    refine z_aload_n dX6_told_54 rfl rfl ?_
    refine z_getI dX6_told_55 fl_X6_19_6 (hF.1 49 _ rfl) rfl ?_
    refine z_eqi (hi) rfl ?_
    refine z_iret dX6_told_58 rfl rfl (Nat.le_refl _) (Nat.le_refl _) (z_ri_i ?_ ?_)
    · first | rfl | (unfold m_X6_told; rw [if_neg (show ¬ (w = 0) from e1_0), if_neg (show ¬ (w = 1) from e1_1), if_pos (show w = 2 from e1_2)]; first | done | rfl)
    · first | rfl | (unfold m_X6_told; rw [if_neg (show ¬ (w = 0) from e1_0), if_neg (show ¬ (w = 1) from e1_1), if_pos (show w = 2 from e1_2)]; first | done | rfl)
  by_cases e1_3 : w = 3
  · refine z_tableIn 3 59 dX6_told_1 e1_3 (by decide) (by decide) rfl (by decide) ?_
    refine z_aload_n dX6_told_59 rfl rfl ?_
    refine z_getI dX6_told_60 fl_X6_22_6 (hF.1 49 _ rfl) rfl ?_
    refine z_eqi (z_I h 49 4) rfl ?_
    refine z_if_ge 71 dX6_told_63 (by decide) (fun c63 => ?_) (fun c63 => ?_)
    · refine z_aload_n dX6_told_71 rfl rfl ?_
      refine z_getI dX6_told_72 fl_X6_22_6 (hF.1 49 _ rfl) rfl ?_
      refine z_eqi (z_I h 49 4) rfl ?_
      refine z_iret dX6_told_75 rfl rfl (Nat.le_refl _) (Nat.le_refl _) (z_ri_i ?_ ?_)
      · first | rfl | (unfold m_X6_told; rw [if_neg (show ¬ (w = 0) from e1_0), if_neg (show ¬ (w = 1) from e1_1), if_neg (show ¬ (w = 2) from e1_2), if_pos (show w = 3 from e1_3), if_pos (show 0 ≤ (z_I h 49 4) from c63)]; first | done | rfl)
      · first | rfl | (unfold m_X6_told; rw [if_neg (show ¬ (w = 0) from e1_0), if_neg (show ¬ (w = 1) from e1_1), if_neg (show ¬ (w = 2) from e1_2), if_pos (show w = 3 from e1_3), if_pos (show 0 ≤ (z_I h 49 4) from c63)]; first | done | rfl)
    · refine z_bipush (v := (-5)) dX6_told_66 rfl ?_
      refine z_goto 75 dX6_told_68 (by decide) ?_
      refine z_iret dX6_told_75 rfl rfl (Nat.le_refl _) (Nat.le_refl _) (z_ri_i ?_ ?_)
      · first | rfl | (unfold m_X6_told; rw [if_neg (show ¬ (w = 0) from e1_0), if_neg (show ¬ (w = 1) from e1_1), if_neg (show ¬ (w = 2) from e1_2), if_pos (show w = 3 from e1_3), if_neg (show ¬ (0 ≤ (z_I h 49 4)) from c63)]; first | done | rfl)
      · first | rfl | (unfold m_X6_told; rw [if_neg (show ¬ (w = 0) from e1_0), if_neg (show ¬ (w = 1) from e1_1), if_neg (show ¬ (w = 2) from e1_2), if_pos (show w = 3 from e1_3), if_neg (show ¬ (0 ≤ (z_I h 49 4)) from c63)]; first | done | rfl)
  by_cases e1_4 : w = 4
  · refine z_tableIn 4 76 dX6_told_1 e1_4 (by decide) (by decide) rfl (by decide) ?_
    refine z_aload_n dX6_told_76 rfl rfl ?_
    refine z_getI dX6_told_77 fl_X6_25_6 (hF.1 49 _ rfl) rfl ?_
    refine z_eqi (z_I h 49 5) rfl ?_
    refine z_iret dX6_told_80 rfl rfl (Nat.le_refl _) (Nat.le_refl _) (z_ri_i ?_ ?_)
    · first | rfl | (unfold m_X6_told; rw [if_neg (show ¬ (w = 0) from e1_0), if_neg (show ¬ (w = 1) from e1_1), if_neg (show ¬ (w = 2) from e1_2), if_neg (show ¬ (w = 3) from e1_3), if_pos (show w = 4 from e1_4)]; first | done | rfl)
    · first | rfl | (unfold m_X6_told; rw [if_neg (show ¬ (w = 0) from e1_0), if_neg (show ¬ (w = 1) from e1_1), if_neg (show ¬ (w = 2) from e1_2), if_neg (show ¬ (w = 3) from e1_3), if_pos (show w = 4 from e1_4)]; first | done | rfl)
  by_cases e1_5 : w = 5
  · refine z_tableIn 5 81 dX6_told_1 e1_5 (by decide) (by decide) rfl (by decide) ?_
    refine z_aload_n dX6_told_81 rfl rfl ?_
    refine z_vcall vl_X6_307_6 (c_X6_base (h := z_fy (z_sc h s) m hi mi) hF ha) dX6_told_82 rfl rfl (hF.1 49 _ rfl) ⟨by decide, by decide⟩ (Nat.le_of_ble_eq_true rfl) (Nat.le_refl _) (Nat.le_refl _) (z_cI ?_) z_tI
    refine z_eqi (m_X6_base h) rfl ?_
    refine z_iret dX6_told_85 rfl rfl (Nat.le_refl _) (Nat.le_refl _) (z_ri_i ?_ ?_)
    · first | rfl | (unfold m_X6_told; rw [if_neg (show ¬ (w = 0) from e1_0), if_neg (show ¬ (w = 1) from e1_1), if_neg (show ¬ (w = 2) from e1_2), if_neg (show ¬ (w = 3) from e1_3), if_neg (show ¬ (w = 4) from e1_4), if_pos (show w = 5 from e1_5)]; first | done | rfl)
    · first | rfl | (unfold m_X6_told; rw [if_neg (show ¬ (w = 0) from e1_0), if_neg (show ¬ (w = 1) from e1_1), if_neg (show ¬ (w = 2) from e1_2), if_neg (show ¬ (w = 3) from e1_3), if_neg (show ¬ (w = 4) from e1_4), if_pos (show w = 5 from e1_5)]; first | done | rfl)
  by_cases e1_6 : w = 6
  · refine z_tableIn 6 86 dX6_told_1 e1_6 (by decide) (by decide) rfl (by decide) ?_
    refine z_aload_n dX6_told_86 rfl rfl ?_
    refine z_vcall vl_X6_310_6 (c_X6_safe (h := z_fy (z_sc h s) m hi mi) hF ha) dX6_told_87 rfl rfl (hF.1 49 _ rfl) ⟨by decide, by decide⟩ (Nat.le_of_ble_eq_true rfl) (Nat.le_refl _) (Nat.le_refl _) (z_cI ?_) z_tI
    refine z_eqi (m_X6_safe h) rfl ?_
    refine z_iret dX6_told_90 rfl rfl (Nat.le_refl _) (Nat.le_refl _) (z_ri_i ?_ ?_)
    · first | rfl | (unfold m_X6_told; rw [if_neg (show ¬ (w = 0) from e1_0), if_neg (show ¬ (w = 1) from e1_1), if_neg (show ¬ (w = 2) from e1_2), if_neg (show ¬ (w = 3) from e1_3), if_neg (show ¬ (w = 4) from e1_4), if_neg (show ¬ (w = 5) from e1_5), if_pos (show w = 6 from e1_6)]; first | done | rfl)
    · first | rfl | (unfold m_X6_told; rw [if_neg (show ¬ (w = 0) from e1_0), if_neg (show ¬ (w = 1) from e1_1), if_neg (show ¬ (w = 2) from e1_2), if_neg (show ¬ (w = 3) from e1_3), if_neg (show ¬ (w = 4) from e1_4), if_neg (show ¬ (w = 5) from e1_5), if_pos (show w = 6 from e1_6)]; first | done | rfl)
  refine z_tableOut 91 dX6_told_1 (z_tout7 e1_0 e1_1 e1_2 e1_3 e1_4 e1_5 e1_6) (by decide) ?_
  refine z_iconst (v := (-1)) dX6_told_91 rfl ?_
  refine z_iret dX6_told_92 rfl rfl (Nat.le_refl _) (Nat.le_refl _) (z_ri_i ?_ ?_)
  · first | rfl | (unfold m_X6_told; rw [if_neg (show ¬ (w = 0) from e1_0), if_neg (show ¬ (w = 1) from e1_1), if_neg (show ¬ (w = 2) from e1_2), if_neg (show ¬ (w = 3) from e1_3), if_neg (show ¬ (w = 4) from e1_4), if_neg (show ¬ (w = 5) from e1_5), if_neg (show ¬ (w = 6) from e1_6)]; first | done | rfl)
  · first | rfl | (unfold m_X6_told; rw [if_neg (show ¬ (w = 0) from e1_0), if_neg (show ¬ (w = 1) from e1_1), if_neg (show ¬ (w = 2) from e1_2), if_neg (show ¬ (w = 3) from e1_3), if_neg (show ¬ (w = 4) from e1_4), if_neg (show ¬ (w = 5) from e1_5), if_neg (show ¬ (w = 6) from e1_6)]; first | done | rfl)
def m_X6_of (h : z_H) (l : Int32) (w : Int32) (m hi mi : Int32) : Int32 :=
  if m_X6_isLift h l then
    if w = 0 then
      z_I h 50 (z_c l)
    else
      if w = 1 then
        z_I h 51 (z_c l)
      else
        if w = 2 then
          z_I h 52 (z_c l)
        else
          if w = 3 then
            z_I h 53 (z_c l)
          else
            if w = 4 then
              m_X6_gain (z_fy h m hi mi) l
            else
              if w = 5 then
                a_cl h l m hi mi
              else
                (-1001)
  else
    (-1001)
theorem c_X6_of {Γ : z_W} {h : z_H} {s : Nat → Int32} {l w m hi mi : Int32} (hk : z_ok h) {B : Nat} (hmi : z_cn mi B) (hB : B < 2 ^ 31) : z_C Γ M_X6_of (z_rm 5 0 0) [.ref 49, .int l, .int w] (z_fy (z_sc h s) m hi mi) (z_ri (m_X6_of h l w m hi mi) (z_fy (z_sc h s) m hi mi)) := by
  obtain ⟨hF, ha, hm, hvs, hws, hho⟩ := id hk
  refine z_C.of (by decide +kernel) rfl [some (.ref 49), some (.int l), some (.int w)] (Nat.le_of_ble_eq_true rfl) rfl ?_
  refine z_aload_n dX6_of_0 rfl rfl ?_
  refine z_iload_n dX6_of_1 rfl rfl ?_
  refine z_vcall vl_X6_235_6 (c_X6_isLift hF) dX6_of_2 rfl rfl (hF.1 49 _ rfl) ⟨by decide, by decide⟩ (Nat.le_of_ble_eq_true rfl) (Nat.le_refl _) (Nat.le_refl _) (z_cI ?_) z_tI
  refine z_bif_ne 12 dX6_of_5 (by decide) (fun c5 => ?_) (fun c5 => ?_)
  · have hl := z_ix hm (by decide) c5
    have hl6 : l = nI (z_c l) ∧ z_c l < 6 := ⟨hl.1, by have := hl.2; have := hm.2; omega⟩
    refine z_iload_n dX6_of_12 rfl rfl ?_
    by_cases e13_0 : w = 0
    · refine z_tableIn 0 52 dX6_of_13 e13_0 (by decide) (by decide) rfl (by decide) ?_
      refine z_aload_n dX6_of_52 rfl rfl ?_
      refine z_getR 50 dX6_of_53 fl_X6_28_6 (hF.1 49 _ rfl) rfl (hF.2.1 49 6 50 rfl) ?_
      refine z_iload_n dX6_of_56 rfl rfl ?_
      refine z_iald (z_c l) dX6_of_57 (hF.1 50 _ rfl) hl6.1 hl6.2 (by decide) ?_
      refine z_eqi (z_I h 50 (z_c l)) rfl ?_
      refine z_iret dX6_of_58 rfl rfl (Nat.le_refl _) (Nat.le_refl _) (z_ri_i ?_ ?_)
      · first | rfl | (unfold m_X6_of; rw [if_pos (show m_X6_isLift h l from c5), if_pos (show w = 0 from e13_0)]; first | done | rfl)
      · first | rfl | (unfold m_X6_of; rw [if_pos (show m_X6_isLift h l from c5), if_pos (show w = 0 from e13_0)]; first | done | rfl)
    by_cases e13_1 : w = 1
    · refine z_tableIn 1 59 dX6_of_13 e13_1 (by decide) (by decide) rfl (by decide) ?_
      refine z_aload_n dX6_of_59 rfl rfl ?_
      refine z_getR 51 dX6_of_60 fl_X6_32_6 (hF.1 49 _ rfl) rfl (hF.2.1 49 7 51 rfl) ?_
      refine z_iload_n dX6_of_63 rfl rfl ?_
      refine z_iald (z_c l) dX6_of_64 (hF.1 51 _ rfl) hl6.1 hl6.2 (by decide) ?_
      refine z_eqi (z_I h 51 (z_c l)) rfl ?_
      refine z_iret dX6_of_65 rfl rfl (Nat.le_refl _) (Nat.le_refl _) (z_ri_i ?_ ?_)
      · first | rfl | (unfold m_X6_of; rw [if_pos (show m_X6_isLift h l from c5), if_neg (show ¬ (w = 0) from e13_0), if_pos (show w = 1 from e13_1)]; first | done | rfl)
      · first | rfl | (unfold m_X6_of; rw [if_pos (show m_X6_isLift h l from c5), if_neg (show ¬ (w = 0) from e13_0), if_pos (show w = 1 from e13_1)]; first | done | rfl)
    by_cases e13_2 : w = 2
    · refine z_tableIn 2 66 dX6_of_13 e13_2 (by decide) (by decide) rfl (by decide) ?_
      refine z_aload_n dX6_of_66 rfl rfl ?_
      refine z_getR 52 dX6_of_67 fl_X6_35_6 (hF.1 49 _ rfl) rfl (hF.2.1 49 8 52 rfl) ?_
      refine z_iload_n dX6_of_70 rfl rfl ?_
      refine z_iald (z_c l) dX6_of_71 (hF.1 52 _ rfl) hl6.1 hl6.2 (by decide) ?_
      refine z_eqi (z_I h 52 (z_c l)) rfl ?_
      refine z_iret dX6_of_72 rfl rfl (Nat.le_refl _) (Nat.le_refl _) (z_ri_i ?_ ?_)
      · first | rfl | (unfold m_X6_of; rw [if_pos (show m_X6_isLift h l from c5), if_neg (show ¬ (w = 0) from e13_0), if_neg (show ¬ (w = 1) from e13_1), if_pos (show w = 2 from e13_2)]; first | done | rfl)
      · first | rfl | (unfold m_X6_of; rw [if_pos (show m_X6_isLift h l from c5), if_neg (show ¬ (w = 0) from e13_0), if_neg (show ¬ (w = 1) from e13_1), if_pos (show w = 2 from e13_2)]; first | done | rfl)
    by_cases e13_3 : w = 3
    · refine z_tableIn 3 73 dX6_of_13 e13_3 (by decide) (by decide) rfl (by decide) ?_
      refine z_aload_n dX6_of_73 rfl rfl ?_
      refine z_getR 53 dX6_of_74 fl_X6_38_6 (hF.1 49 _ rfl) rfl (hF.2.1 49 9 53 rfl) ?_
      refine z_iload_n dX6_of_77 rfl rfl ?_
      refine z_iald (z_c l) dX6_of_78 (hF.1 53 _ rfl) hl6.1 hl6.2 (by decide) ?_
      refine z_eqi (z_I h 53 (z_c l)) rfl ?_
      refine z_iret dX6_of_79 rfl rfl (Nat.le_refl _) (Nat.le_refl _) (z_ri_i ?_ ?_)
      · first | rfl | (unfold m_X6_of; rw [if_pos (show m_X6_isLift h l from c5), if_neg (show ¬ (w = 0) from e13_0), if_neg (show ¬ (w = 1) from e13_1), if_neg (show ¬ (w = 2) from e13_2), if_pos (show w = 3 from e13_3)]; first | done | rfl)
      · first | rfl | (unfold m_X6_of; rw [if_pos (show m_X6_isLift h l from c5), if_neg (show ¬ (w = 0) from e13_0), if_neg (show ¬ (w = 1) from e13_1), if_neg (show ¬ (w = 2) from e13_2), if_pos (show w = 3 from e13_3)]; first | done | rfl)
    by_cases e13_4 : w = 4
    · refine z_tableIn 4 80 dX6_of_13 e13_4 (by decide) (by decide) rfl (by decide) ?_
      refine z_aload_n dX6_of_80 rfl rfl ?_
      refine z_iload_n dX6_of_81 rfl rfl ?_
      refine z_vcall vl_X6_301_6 (c_X6_gain (h := z_fy (z_sc h s) m hi mi) hF ha hl6) dX6_of_82 rfl rfl (hF.1 49 _ rfl) ⟨by decide, by decide⟩ (Nat.le_of_ble_eq_true rfl) (Nat.le_refl _) (Nat.le_refl _) (z_cI ?_) z_tI
      refine z_eqi (m_X6_gain (z_fy h m hi mi) l) rfl ?_
      refine z_iret dX6_of_85 rfl rfl (Nat.le_refl _) (Nat.le_refl _) (z_ri_i ?_ ?_)
      · first | rfl | (unfold m_X6_of; rw [if_pos (show m_X6_isLift h l from c5), if_neg (show ¬ (w = 0) from e13_0), if_neg (show ¬ (w = 1) from e13_1), if_neg (show ¬ (w = 2) from e13_2), if_neg (show ¬ (w = 3) from e13_3), if_pos (show w = 4 from e13_4)]; first | done | rfl)
      · first | rfl | (unfold m_X6_of; rw [if_pos (show m_X6_isLift h l from c5), if_neg (show ¬ (w = 0) from e13_0), if_neg (show ¬ (w = 1) from e13_1), if_neg (show ¬ (w = 2) from e13_2), if_neg (show ¬ (w = 3) from e13_3), if_pos (show w = 4 from e13_4)]; first | done | rfl)
    by_cases e13_5 : w = 5
    · refine z_tableIn 5 86 dX6_of_13 e13_5 (by decide) (by decide) rfl (by decide) ?_
      refine z_aload_n dX6_of_86 rfl rfl ?_
      refine z_iload_n dX6_of_87 rfl rfl ?_
      refine z_vcall vl_X6_304_6 (c_X6_climb (h := z_sc h s) hF ha hl6 (hvs _ hl.2) hmi hB) dX6_of_88 rfl rfl (hF.1 49 _ rfl) ⟨by decide, by decide⟩ (Nat.le_of_ble_eq_true rfl) (Nat.le_refl _) (Nat.le_refl _) (z_cI ?_) z_tI
      refine z_eqi (a_cl h l m hi mi) rfl ?_
      refine z_iret dX6_of_91 rfl rfl (Nat.le_refl _) (Nat.le_refl _) (z_ri_i ?_ ?_)
      · first | rfl | (unfold m_X6_of; rw [if_pos (show m_X6_isLift h l from c5), if_neg (show ¬ (w = 0) from e13_0), if_neg (show ¬ (w = 1) from e13_1), if_neg (show ¬ (w = 2) from e13_2), if_neg (show ¬ (w = 3) from e13_3), if_neg (show ¬ (w = 4) from e13_4), if_pos (show w = 5 from e13_5)]; first | done | rfl)
      · first | rfl | (unfold m_X6_of; rw [if_pos (show m_X6_isLift h l from c5), if_neg (show ¬ (w = 0) from e13_0), if_neg (show ¬ (w = 1) from e13_1), if_neg (show ¬ (w = 2) from e13_2), if_neg (show ¬ (w = 3) from e13_3), if_neg (show ¬ (w = 4) from e13_4), if_pos (show w = 5 from e13_5)]; first | done | rfl)
    refine z_tableOut 92 dX6_of_13 (z_tout6 e13_0 e13_1 e13_2 e13_3 e13_4 e13_5) (by decide) ?_
    refine z_sipush (v := (-1001)) dX6_of_92 rfl ?_
    refine z_iret dX6_of_95 rfl rfl (Nat.le_refl _) (Nat.le_refl _) (z_ri_i ?_ ?_)
    · first | rfl | (unfold m_X6_of; rw [if_pos (show m_X6_isLift h l from c5), if_neg (show ¬ (w = 0) from e13_0), if_neg (show ¬ (w = 1) from e13_1), if_neg (show ¬ (w = 2) from e13_2), if_neg (show ¬ (w = 3) from e13_3), if_neg (show ¬ (w = 4) from e13_4), if_neg (show ¬ (w = 5) from e13_5)]; first | done | rfl)
    · first | rfl | (unfold m_X6_of; rw [if_pos (show m_X6_isLift h l from c5), if_neg (show ¬ (w = 0) from e13_0), if_neg (show ¬ (w = 1) from e13_1), if_neg (show ¬ (w = 2) from e13_2), if_neg (show ¬ (w = 3) from e13_3), if_neg (show ¬ (w = 4) from e13_4), if_neg (show ¬ (w = 5) from e13_5)]; first | done | rfl)
  · refine z_sipush (v := (-1001)) dX6_of_8 rfl ?_
    refine z_iret dX6_of_11 rfl rfl (Nat.le_refl _) (Nat.le_refl _) (z_ri_i ?_ ?_)
    · first | rfl | (unfold m_X6_of; rw [if_neg (show ¬ (m_X6_isLift h l) from c5)]; first | done | rfl)
    · first | rfl | (unfold m_X6_of; rw [if_neg (show ¬ (m_X6_isLift h l) from c5)]; first | done | rfl)
def m_X6_enter (h : z_H) (s : Nat → Int32) (l : Int32) (m hi mi : Int32) : Int32 × z_H :=
  if m_X6_isLift h l then
    if (z_I h 52 (z_c l)) = m then
      (a_cl h l m hi mi, z_fy (z_sI (z_sc h s) 49 4 l) m hi mi)
    else
      ((-1002), z_fy (z_sc h s) m hi mi)
  else
    ((-1001), z_fy (z_sc h s) m hi mi)
theorem c_X6_enter {Γ : z_W} {h : z_H} {s : Nat → Int32} {l m hi mi : Int32} (hk : z_ok h) {B : Nat} (hmi : z_cn mi B) (hB : B < 2 ^ 31) : z_C Γ M_X6_enter (z_rm 5 0 0) [.ref 49, .int l] (z_fy (z_sc h s) m hi mi) (z_ri (m_X6_enter h s l m hi mi).1 (m_X6_enter h s l m hi mi).2) := by
  obtain ⟨hF, ha, hm, hvs, hws, hho⟩ := id hk
  refine z_C.of (by decide +kernel) rfl [some (.ref 49), some (.int l)] (Nat.le_of_ble_eq_true rfl) rfl ?_
  refine z_aload_n dX6_enter_0 rfl rfl ?_
  refine z_iload_n dX6_enter_1 rfl rfl ?_
  refine z_vcall vl_X6_235_6 (c_X6_isLift hF) dX6_enter_2 rfl rfl (hF.1 49 _ rfl) ⟨by decide, by decide⟩ (Nat.le_of_ble_eq_true rfl) (Nat.le_refl _) (Nat.le_refl _) (z_cI ?_) z_tI
  refine z_bif_ne 12 dX6_enter_5 (by decide) (fun c5 => ?_) (fun c5 => ?_)
  · have hl := z_ix hm (by decide) c5
    have hl6 : l = nI (z_c l) ∧ z_c l < 6 := ⟨hl.1, by have := hl.2; have := hm.2; omega⟩
    refine z_aload_n dX6_enter_12 rfl rfl ?_
    refine z_getR 52 dX6_enter_13 fl_X6_35_6 (hF.1 49 _ rfl) rfl (hF.2.1 49 8 52 rfl) ?_
    refine z_iload_n dX6_enter_16 rfl rfl ?_
    refine z_iald (z_c l) dX6_enter_17 (hF.1 52 _ rfl) hl6.1 hl6.2 (by decide) ?_
    refine z_eqi (z_I h 52 (z_c l)) rfl ?_
    refine z_aload_n dX6_enter_18 rfl rfl ?_
    refine z_getI dX6_enter_19 fl_X6_16_6 (hF.1 49 _ rfl) rfl ?_
    refine z_eqi (m) rfl ?_
    refine z_icmp_eq 29 dX6_enter_22 (by decide) (fun c22 => ?_) (fun c22 => ?_)
    · refine z_aload_n dX6_enter_29 rfl rfl ?_
      refine z_iload_n dX6_enter_30 rfl rfl ?_
      refine z_putI dX6_enter_31 (pl_X6_22_6 rfl) (hF.1 49 _ rfl) (by decide) rfl ?_
      refine z_meq (z_fy (z_sI (z_sc h s) 49 4 l) m hi mi) (z_fy_sI (by decide)) ?_
      refine z_aload_n dX6_enter_34 rfl rfl ?_
      refine z_iload_n dX6_enter_35 rfl rfl ?_
      refine z_vcall vl_X6_304_6 (c_X6_climb (h := z_sI (z_sc h s) 49 4 l) hF ha hl6 (hvs _ hl.2) hmi hB) dX6_enter_36 rfl rfl (hF.1 49 _ rfl) ⟨by decide, by decide⟩ (Nat.le_of_ble_eq_true rfl) (Nat.le_refl _) (Nat.le_refl _) (z_cI ?_) z_tI
      refine z_eqi (a_cl h l m hi mi) rfl ?_
      refine z_iret dX6_enter_39 rfl rfl (Nat.le_refl _) (Nat.le_refl _) (z_ri_i ?_ ?_)
      · first | rfl | (unfold m_X6_enter; rw [if_pos (show m_X6_isLift h l from c5), if_pos (show (z_I h 52 (z_c l)) = m from c22)]; first | done | rfl)
      · first | rfl | (unfold m_X6_enter; rw [if_pos (show m_X6_isLift h l from c5), if_pos (show (z_I h 52 (z_c l)) = m from c22)]; first | done | rfl)
    · refine z_sipush (v := (-1002)) dX6_enter_25 rfl ?_
      refine z_iret dX6_enter_28 rfl rfl (Nat.le_refl _) (Nat.le_refl _) (z_ri_i ?_ ?_)
      · first | rfl | (unfold m_X6_enter; rw [if_pos (show m_X6_isLift h l from c5), if_neg (show ¬ ((z_I h 52 (z_c l)) = m) from c22)]; first | done | rfl)
      · first | rfl | (unfold m_X6_enter; rw [if_pos (show m_X6_isLift h l from c5), if_neg (show ¬ ((z_I h 52 (z_c l)) = m) from c22)]; first | done | rfl)
  · refine z_sipush (v := (-1001)) dX6_enter_8 rfl ?_
    refine z_iret dX6_enter_11 rfl rfl (Nat.le_refl _) (Nat.le_refl _) (z_ri_i ?_ ?_)
    · first | rfl | (unfold m_X6_enter; rw [if_neg (show ¬ (m_X6_isLift h l) from c5)]; first | done | rfl)
    · first | rfl | (unfold m_X6_enter; rw [if_neg (show ¬ (m_X6_isLift h l) from c5)]; first | done | rfl)
def m_X6_glide (h : z_H) (s : Nat → Int32) (x : Int32) (p : Int32) (m hi mi : Int32) : Int32 × z_H :=
  if m_X6_isMile h x then
    if m_X6_isPace h p then
      if 9999 < (mi + ((m_X6_apart h m x) * (10 - p))) then
        ((-3), z_fy (z_sc h s) m hi mi)
      else
        if m_X6_falls h m x p ≤ hi then
          (hi - m_X6_falls h m x p, z_fy (z_sI (z_sc h s) 49 4 (-1)) x (hi - m_X6_falls h m x p) (mi + m_X6_apart h m x * (10 - p)))
        else
          ((-3), z_fy (z_sc h s) m hi mi)
    else
      ((-2), z_fy (z_sc h s) m hi mi)
  else
    ((-2), z_fy (z_sc h s) m hi mi)
theorem c_X6_glide {Γ : z_W} {h : z_H} {s : Nat → Int32} {x p m hi mi : Int32} (hk : z_ok h)  : z_C Γ M_X6_glide (z_rm 4 0 0) [.ref 49, .int x, .int p] (z_fy (z_sc h s) m hi mi) (z_ri (m_X6_glide h s x p m hi mi).1 (m_X6_glide h s x p m hi mi).2) := by
  obtain ⟨hF, ha, hm, hvs, hws, hho⟩ := id hk
  refine z_C.of (by decide +kernel) rfl [some (.ref 49), some (.int x), some (.int p)] (Nat.le_of_ble_eq_true rfl) rfl ?_
  refine z_aload_n dX6_glide_0 rfl rfl ?_
  refine z_iload_n dX6_glide_1 rfl rfl ?_
  refine z_vcall vl_X6_231_6 (c_X6_isMile hF) dX6_glide_2 rfl rfl (hF.1 49 _ rfl) ⟨by decide, by decide⟩ (Nat.le_of_ble_eq_true rfl) (Nat.le_refl _) (Nat.le_refl _) (z_cI ?_) z_tI
  refine z_bif_eq 16 dX6_glide_5 (by decide) (fun c5 => ?_) (fun c5 => ?_)
  · refine z_bipush (v := (-2)) dX6_glide_16 rfl ?_
    refine z_iret dX6_glide_18 rfl rfl (Nat.le_refl _) (Nat.le_refl _) (z_ri_i ?_ ?_)
    · first | rfl | (unfold m_X6_glide; rw [if_neg (show ¬ (m_X6_isMile h x) from c5)]; first | done | rfl)
    · first | rfl | (unfold m_X6_glide; rw [if_neg (show ¬ (m_X6_isMile h x) from c5)]; first | done | rfl)
  · refine z_aload_n dX6_glide_8 rfl rfl ?_
    refine z_iload_n dX6_glide_9 rfl rfl ?_
    refine z_vcall vl_X6_326_6 (c_X6_isPace hF) dX6_glide_10 rfl rfl (hF.1 49 _ rfl) ⟨by decide, by decide⟩ (Nat.le_of_ble_eq_true rfl) (Nat.le_refl _) (Nat.le_refl _) (z_cI ?_) z_tI
    refine z_bif_ne 19 dX6_glide_13 (by decide) (fun c13 => ?_) (fun c13 => ?_)
    · refine z_aload_n dX6_glide_19 rfl rfl ?_
      refine z_getI dX6_glide_20 fl_X6_13_6 (hF.1 49 _ rfl) rfl ?_
      refine z_eqi (mi) rfl ?_
      refine z_aload_n dX6_glide_23 rfl rfl ?_
      refine z_aload_n dX6_glide_24 rfl rfl ?_
      refine z_getI dX6_glide_25 fl_X6_16_6 (hF.1 49 _ rfl) rfl ?_
      refine z_eqi (m) rfl ?_
      refine z_iload_n dX6_glide_28 rfl rfl ?_
      refine z_vcall vl_X6_313_6 (c_X6_apart hF) dX6_glide_29 rfl rfl (hF.1 49 _ rfl) ⟨by decide, by decide⟩ (Nat.le_of_ble_eq_true rfl) (Nat.le_refl _) (Nat.le_refl _) (z_cI ?_) z_tI
      refine z_eqi (m_X6_apart h m x) rfl ?_
      refine z_bipush (v := 10) dX6_glide_32 rfl ?_
      refine z_iload_n dX6_glide_34 rfl rfl ?_
      refine z_isub dX6_glide_35 ?_
      refine z_imul dX6_glide_36 ?_
      refine z_iadd dX6_glide_37 ?_
      refine z_sipush (v := 9999) dX6_glide_38 rfl ?_
      refine z_icmp_gt 53 dX6_glide_41 (by decide) (fun c41 => ?_) (fun c41 => ?_)
      · refine z_bipush (v := (-3)) dX6_glide_53 rfl ?_
        refine z_iret dX6_glide_55 rfl rfl (Nat.le_refl _) (Nat.le_refl _) (z_ri_i ?_ ?_)
        · first | rfl | (unfold m_X6_glide; rw [if_pos (show m_X6_isMile h x from c5), if_pos (show m_X6_isPace h p from c13), if_pos (show 9999 < (mi + ((m_X6_apart h m x) * (10 - p))) from c41)]; first | done | rfl)
        · first | rfl | (unfold m_X6_glide; rw [if_pos (show m_X6_isMile h x from c5), if_pos (show m_X6_isPace h p from c13), if_pos (show 9999 < (mi + ((m_X6_apart h m x) * (10 - p))) from c41)]; first | done | rfl)
      · refine z_aload_n dX6_glide_44 rfl rfl ?_
        refine z_iload_n dX6_glide_45 rfl rfl ?_
        refine z_iload_n dX6_glide_46 rfl rfl ?_
        by_cases g47 : m_X6_falls h m x p ≤ hi
        · refine z_vcall vl_X6_329_6 (c_X6_goGlide_y (h := z_sc h s) hF g47) dX6_glide_47 rfl rfl (hF.1 49 _ rfl) ⟨by decide, by decide⟩ (Nat.le_of_ble_eq_true rfl) (Nat.le_refl _) (Nat.le_refl _) (z_cI ?_) z_tI
          refine z_meq (z_fy (z_sc h s) x (hi - m_X6_falls h m x p) (mi + m_X6_apart h m x * (10 - p))) rfl ?_
          refine z_if_ne 56 dX6_glide_50 (by decide) (fun _ => ?_) (fun q => absurd q (by decide))
          refine z_aload_n dX6_glide_56 rfl rfl ?_
          refine z_iconst (v := (-1)) dX6_glide_57 rfl ?_
          refine z_putI dX6_glide_58 (pl_X6_22_6 rfl) (hF.1 49 _ rfl) (by decide) rfl ?_
          refine z_meq (z_fy (z_sI (z_sc h s) 49 4 (-1)) x (hi - m_X6_falls h m x p) (mi + m_X6_apart h m x * (10 - p))) (z_fy_sI (by decide)) ?_
          refine z_aload_n dX6_glide_61 rfl rfl ?_
          refine z_getI dX6_glide_62 fl_X6_19_6 (hF.1 49 _ rfl) rfl ?_
          refine z_eqi (hi - m_X6_falls h m x p) rfl ?_
          refine z_iret dX6_glide_65 rfl rfl (Nat.le_refl _) (Nat.le_refl _) (z_ri_i ?_ ?_)
          · first | rfl | (unfold m_X6_glide; rw [if_pos (show m_X6_isMile h x from c5), if_pos (show m_X6_isPace h p from c13), if_neg (show ¬ (9999 < (mi + ((m_X6_apart h m x) * (10 - p)))) from c41), if_pos (show m_X6_falls h m x p ≤ hi from g47)]; first | done | rfl)
          · first | rfl | (unfold m_X6_glide; rw [if_pos (show m_X6_isMile h x from c5), if_pos (show m_X6_isPace h p from c13), if_neg (show ¬ (9999 < (mi + ((m_X6_apart h m x) * (10 - p)))) from c41), if_pos (show m_X6_falls h m x p ≤ hi from g47)]; first | done | rfl)
        · refine z_vcall vl_X6_329_6 (c_X6_goGlide_n (h := z_sc h s) hF g47) dX6_glide_47 rfl rfl (hF.1 49 _ rfl) ⟨by decide, by decide⟩ (Nat.le_of_ble_eq_true rfl) (Nat.le_refl _) (Nat.le_refl _) (z_cI ?_) z_tI
          refine z_meq (z_fy (z_sc h s) m hi mi) rfl ?_
          refine z_if_ne 56 dX6_glide_50 (by decide) (fun q => absurd q (by decide)) (fun _ => ?_)
          refine z_bipush (v := (-3)) dX6_glide_53 rfl ?_
          refine z_iret dX6_glide_55 rfl rfl (Nat.le_refl _) (Nat.le_refl _) (z_ri_i ?_ ?_)
          · first | rfl | (unfold m_X6_glide; rw [if_pos (show m_X6_isMile h x from c5), if_pos (show m_X6_isPace h p from c13), if_neg (show ¬ (9999 < (mi + ((m_X6_apart h m x) * (10 - p)))) from c41), if_neg (show ¬ (m_X6_falls h m x p ≤ hi) from g47)]; first | done | rfl)
          · first | rfl | (unfold m_X6_glide; rw [if_pos (show m_X6_isMile h x from c5), if_pos (show m_X6_isPace h p from c13), if_neg (show ¬ (9999 < (mi + ((m_X6_apart h m x) * (10 - p)))) from c41), if_neg (show ¬ (m_X6_falls h m x p ≤ hi) from g47)]; first | done | rfl)
    · refine z_bipush (v := (-2)) dX6_glide_16 rfl ?_
      refine z_iret dX6_glide_18 rfl rfl (Nat.le_refl _) (Nat.le_refl _) (z_ri_i ?_ ?_)
      · first | rfl | (unfold m_X6_glide; rw [if_pos (show m_X6_isMile h x from c5), if_neg (show ¬ (m_X6_isPace h p) from c13)]; first | done | rfl)
      · first | rfl | (unfold m_X6_glide; rw [if_pos (show m_X6_isMile h x from c5), if_neg (show ¬ (m_X6_isPace h p) from c13)]; first | done | rfl)
def m_X6_row (h : z_H) (l : Int32) (q : Int32) (n : Int32) : Int32 × z_H :=
  if m_X6_isLift h l then
    if z_in q 0 3 then
      if z_in n 0 9 then
        if (z_I h 50 (z_c l)) = 6 then
          (z_I h 54 (4 * z_c l + z_c q), z_sI h 54 (4 * z_c l + z_c q) n)
        else
          ((-3), h)
      else
        ((-2), h)
    else
      ((-1), h)
  else
    ((-1), h)
theorem c_X6_row {Γ : z_W} {h : z_H} {l : Int32} {q : Int32} {n : Int32} (hF : z_F h) (hm : z_cn (z_I h 49 0) 6) : z_C Γ M_X6_row (z_rm 3 0 0) [.ref 49, .int l, .int q, .int n] h (z_ri (m_X6_row h l q n).1 (m_X6_row h l q n).2) := by
  refine z_C.of (by decide +kernel) rfl [some (.ref 49), some (.int l), some (.int q), some (.int n), none] (Nat.le_of_ble_eq_true rfl) rfl ?_
  refine z_aload_n dX6_row_0 rfl rfl ?_
  refine z_iload_n dX6_row_1 rfl rfl ?_
  refine z_vcall vl_X6_235_6 (c_X6_isLift hF) dX6_row_2 rfl rfl (hF.1 49 _ rfl) ⟨by decide, by decide⟩ (Nat.le_of_ble_eq_true rfl) (Nat.le_refl _) (Nat.le_refl _) (z_cI ?_) z_tI
  refine z_bif_eq 18 dX6_row_5 (by decide) (fun c5 => ?_) (fun c5 => ?_)
  · refine z_iconst (v := (-1)) dX6_row_18 rfl ?_
    refine z_iret dX6_row_19 rfl rfl (Nat.le_refl _) (Nat.le_refl _) (z_ri_i ?_ ?_)
    · first | rfl | (unfold m_X6_row; rw [if_neg (show ¬ (m_X6_isLift h l) from c5)]; first | done | rfl)
    · first | rfl | (unfold m_X6_row; rw [if_neg (show ¬ (m_X6_isLift h l) from c5)]; first | done | rfl)
  · have hl := z_ix hm (by decide) c5
    refine z_aload_n dX6_row_8 rfl rfl ?_
    refine z_iload_n dX6_row_9 rfl rfl ?_
    refine z_iconst (v := 0) dX6_row_10 rfl ?_
    refine z_iconst (v := 3) dX6_row_11 rfl ?_
    refine z_vcall vl_X6_227_6 (c_X6_in hF) dX6_row_12 rfl rfl (hF.1 49 _ rfl) ⟨by decide, by decide⟩ (Nat.le_of_ble_eq_true rfl) (Nat.le_refl _) (Nat.le_refl _) (z_cI ?_) z_tI
    refine z_bif_ne 20 dX6_row_15 (by decide) (fun c15 => ?_) (fun c15 => ?_)
    · have hq := z_ixb (l := q) 3 (by decide) c15
      refine z_aload_n dX6_row_20 rfl rfl ?_
      refine z_iload_n dX6_row_21 rfl rfl ?_
      refine z_iconst (v := 0) dX6_row_22 rfl ?_
      refine z_bipush (v := 9) dX6_row_23 rfl ?_
      refine z_vcall vl_X6_227_6 (c_X6_in hF) dX6_row_25 rfl rfl (hF.1 49 _ rfl) ⟨by decide, by decide⟩ (Nat.le_of_ble_eq_true rfl) (Nat.le_refl _) (Nat.le_refl _) (z_cI ?_) z_tI
      refine z_bif_ne 34 dX6_row_28 (by decide) (fun c28 => ?_) (fun c28 => ?_)
      · refine z_aload_n dX6_row_34 rfl rfl ?_
        refine z_getR 50 dX6_row_35 fl_X6_28_6 (hF.1 49 _ rfl) rfl (hF.2.1 49 6 50 rfl) ?_
        refine z_iload_n dX6_row_38 rfl rfl ?_
        refine z_iald (z_c l) dX6_row_39 (hF.1 50 _ rfl) (hl).1 (by have := hl.2; have := hm.2; omega) (by decide) ?_
        refine z_bipush (v := 6) dX6_row_40 rfl ?_
        refine z_icmp_eq 48 dX6_row_42 (by decide) (fun c42 => ?_) (fun c42 => ?_)
        · refine z_aload_n dX6_row_48 rfl rfl ?_
          refine z_getR 54 dX6_row_49 fl_X6_41_6 (hF.1 49 _ rfl) rfl (hF.2.1 49 10 54 rfl) ?_
          refine z_iconst (v := 4) dX6_row_52 rfl ?_
          refine z_iload_n dX6_row_53 rfl rfl ?_
          refine z_imul dX6_row_54 ?_
          refine z_iload_n dX6_row_55 rfl rfl ?_
          refine z_iadd dX6_row_56 ?_
          refine z_iald (4 * z_c l + z_c q) dX6_row_57 (hF.1 54 _ rfl) (by rw [← nI_add, ← pk_mul, ← hl.1, ← hq.1]; rfl) (by have := hl.2; have := hm.2; have := hq.2; omega) (by decide) ?_
          refine z_istore dX6_row_58 (by decide) rfl ?_
          refine z_aload_n dX6_row_60 rfl rfl ?_
          refine z_getR 54 dX6_row_61 fl_X6_41_6 (hF.1 49 _ rfl) rfl (hF.2.1 49 10 54 rfl) ?_
          refine z_iconst (v := 4) dX6_row_64 rfl ?_
          refine z_iload_n dX6_row_65 rfl rfl ?_
          refine z_imul dX6_row_66 ?_
          refine z_iload_n dX6_row_67 rfl rfl ?_
          refine z_iadd dX6_row_68 ?_
          refine z_iload_n dX6_row_69 rfl rfl ?_
          refine z_iast (4 * z_c l + z_c q) dX6_row_70 (hF.1 54 _ rfl) (by decide) (by rw [← nI_add, ← pk_mul, ← hl.1, ← hq.1]; rfl) (by have := hl.2; have := hm.2; have := hq.2; omega) (by decide) ?_
          refine z_iload dX6_row_71 rfl ?_
          refine z_iret dX6_row_73 rfl rfl (Nat.le_refl _) (Nat.le_refl _) (z_ri_i ?_ ?_)
          · first | rfl | (unfold m_X6_row; rw [if_pos (show m_X6_isLift h l from c5), if_pos (show z_in q 0 3 from c15), if_pos (show z_in n 0 9 from c28), if_pos (show (z_I h 50 (z_c l)) = 6 from c42)]; first | done | rfl)
          · first | rfl | (unfold m_X6_row; rw [if_pos (show m_X6_isLift h l from c5), if_pos (show z_in q 0 3 from c15), if_pos (show z_in n 0 9 from c28), if_pos (show (z_I h 50 (z_c l)) = 6 from c42)]; first | done | rfl)
        · refine z_bipush (v := (-3)) dX6_row_45 rfl ?_
          refine z_iret dX6_row_47 rfl rfl (Nat.le_refl _) (Nat.le_refl _) (z_ri_i ?_ ?_)
          · first | rfl | (unfold m_X6_row; rw [if_pos (show m_X6_isLift h l from c5), if_pos (show z_in q 0 3 from c15), if_pos (show z_in n 0 9 from c28), if_neg (show ¬ ((z_I h 50 (z_c l)) = 6) from c42)]; first | done | rfl)
          · first | rfl | (unfold m_X6_row; rw [if_pos (show m_X6_isLift h l from c5), if_pos (show z_in q 0 3 from c15), if_pos (show z_in n 0 9 from c28), if_neg (show ¬ ((z_I h 50 (z_c l)) = 6) from c42)]; first | done | rfl)
      · refine z_bipush (v := (-2)) dX6_row_31 rfl ?_
        refine z_iret dX6_row_33 rfl rfl (Nat.le_refl _) (Nat.le_refl _) (z_ri_i ?_ ?_)
        · first | rfl | (unfold m_X6_row; rw [if_pos (show m_X6_isLift h l from c5), if_pos (show z_in q 0 3 from c15), if_neg (show ¬ (z_in n 0 9) from c28)]; first | done | rfl)
        · first | rfl | (unfold m_X6_row; rw [if_pos (show m_X6_isLift h l from c5), if_pos (show z_in q 0 3 from c15), if_neg (show ¬ (z_in n 0 9) from c28)]; first | done | rfl)
    · refine z_iconst (v := (-1)) dX6_row_18 rfl ?_
      refine z_iret dX6_row_19 rfl rfl (Nat.le_refl _) (Nat.le_refl _) (z_ri_i ?_ ?_)
      · first | rfl | (unfold m_X6_row; rw [if_pos (show m_X6_isLift h l from c5), if_neg (show ¬ (z_in q 0 3) from c15)]; first | done | rfl)
      · first | rfl | (unfold m_X6_row; rw [if_pos (show m_X6_isLift h l from c5), if_neg (show ¬ (z_in q 0 3) from c15)]; first | done | rfl)
def m_X6_lift (h : z_H) (k : Int32) (n : Int32) (m : Int32) (p : Int32) : Int32 × z_H :=
  if z_in k 0 6 then
    if z_in n 0 9 then
      if m_X6_isMile h m then
        if z_in p 0 20 then
          if (z_I h 49 0) = 6 then
            ((-4), h)
          else
            (((z_I h 49 0) + 1) - 1, z_sI (z_sI (z_sI (z_sI (z_sI (z_sI (z_sI (z_sI (z_sI h 50 (z_c (z_I h 49 0)) k) 51 (z_c (z_I h 49 0)) n) 52 (z_c (z_I h 49 0)) m) 53 (z_c (z_I h 49 0)) p) 54 (4 * z_c (z_I h 49 0) + 0) 0) 54 (4 * z_c (z_I h 49 0) + 1) 0) 54 (4 * z_c (z_I h 49 0) + 2) 0) 54 (4 * z_c (z_I h 49 0) + 3) 0) 49 0 ((z_I h 49 0) + 1))
        else
          ((-2), h)
      else
        ((-2), h)
    else
      ((-2), h)
  else
    ((-1), h)
theorem c_X6_lift {Γ : z_W} {h : z_H} {k : Int32} {n : Int32} {m : Int32} {p : Int32} (hF : z_F h) (hm : z_cn (z_I h 49 0) 6) : z_C Γ M_X6_lift (z_rm 3 0 0) [.ref 49, .int k, .int n, .int m, .int p] h (z_ri (m_X6_lift h k n m p).1 (m_X6_lift h k n m p).2) := by
  refine z_C.of (by decide +kernel) rfl [some (.ref 49), some (.int k), some (.int n), some (.int m), some (.int p), none] (Nat.le_of_ble_eq_true rfl) rfl ?_
  refine z_aload_n dX6_lift_0 rfl rfl ?_
  refine z_iload_n dX6_lift_1 rfl rfl ?_
  refine z_iconst (v := 0) dX6_lift_2 rfl ?_
  refine z_bipush (v := 6) dX6_lift_3 rfl ?_
  refine z_vcall vl_X6_227_6 (c_X6_in hF) dX6_lift_5 rfl rfl (hF.1 49 _ rfl) ⟨by decide, by decide⟩ (Nat.le_of_ble_eq_true rfl) (Nat.le_refl _) (Nat.le_refl _) (z_cI ?_) z_tI
  refine z_bif_ne 13 dX6_lift_8 (by decide) (fun c8 => ?_) (fun c8 => ?_)
  · refine z_aload_n dX6_lift_13 rfl rfl ?_
    refine z_iload_n dX6_lift_14 rfl rfl ?_
    refine z_iconst (v := 0) dX6_lift_15 rfl ?_
    refine z_bipush (v := 9) dX6_lift_16 rfl ?_
    refine z_vcall vl_X6_227_6 (c_X6_in hF) dX6_lift_18 rfl rfl (hF.1 49 _ rfl) ⟨by decide, by decide⟩ (Nat.le_of_ble_eq_true rfl) (Nat.le_refl _) (Nat.le_refl _) (z_cI ?_) z_tI
    refine z_bif_eq 44 dX6_lift_21 (by decide) (fun c21 => ?_) (fun c21 => ?_)
    · refine z_bipush (v := (-2)) dX6_lift_44 rfl ?_
      refine z_iret dX6_lift_46 rfl rfl (Nat.le_refl _) (Nat.le_refl _) (z_ri_i ?_ ?_)
      · first | rfl | (unfold m_X6_lift; rw [if_pos (show z_in k 0 6 from c8), if_neg (show ¬ (z_in n 0 9) from c21)]; first | done | rfl)
      · first | rfl | (unfold m_X6_lift; rw [if_pos (show z_in k 0 6 from c8), if_neg (show ¬ (z_in n 0 9) from c21)]; first | done | rfl)
    · refine z_aload_n dX6_lift_24 rfl rfl ?_
      refine z_iload_n dX6_lift_25 rfl rfl ?_
      refine z_vcall vl_X6_231_6 (c_X6_isMile hF) dX6_lift_26 rfl rfl (hF.1 49 _ rfl) ⟨by decide, by decide⟩ (Nat.le_of_ble_eq_true rfl) (Nat.le_refl _) (Nat.le_refl _) (z_cI ?_) z_tI
      refine z_bif_eq 44 dX6_lift_29 (by decide) (fun c29 => ?_) (fun c29 => ?_)
      · refine z_bipush (v := (-2)) dX6_lift_44 rfl ?_
        refine z_iret dX6_lift_46 rfl rfl (Nat.le_refl _) (Nat.le_refl _) (z_ri_i ?_ ?_)
        · first | rfl | (unfold m_X6_lift; rw [if_pos (show z_in k 0 6 from c8), if_pos (show z_in n 0 9 from c21), if_neg (show ¬ (m_X6_isMile h m) from c29)]; first | done | rfl)
        · first | rfl | (unfold m_X6_lift; rw [if_pos (show z_in k 0 6 from c8), if_pos (show z_in n 0 9 from c21), if_neg (show ¬ (m_X6_isMile h m) from c29)]; first | done | rfl)
      · refine z_aload_n dX6_lift_32 rfl rfl ?_
        refine z_iload dX6_lift_33 rfl ?_
        refine z_iconst (v := 0) dX6_lift_35 rfl ?_
        refine z_bipush (v := 20) dX6_lift_36 rfl ?_
        refine z_vcall vl_X6_227_6 (c_X6_in hF) dX6_lift_38 rfl rfl (hF.1 49 _ rfl) ⟨by decide, by decide⟩ (Nat.le_of_ble_eq_true rfl) (Nat.le_refl _) (Nat.le_refl _) (z_cI ?_) z_tI
        refine z_bif_ne 47 dX6_lift_41 (by decide) (fun c41 => ?_) (fun c41 => ?_)
        · refine z_aload_n dX6_lift_47 rfl rfl ?_
          refine z_getI dX6_lift_48 fl_X6_7_6 (hF.1 49 _ rfl) rfl ?_
          refine z_bipush (v := 6) dX6_lift_51 rfl ?_
          refine z_icmp_ne 59 dX6_lift_53 (by decide) (fun c53 => ?_) (fun c53 => ?_)
          · refine z_aload_n dX6_lift_59 rfl rfl ?_
            refine z_getR 50 dX6_lift_60 fl_X6_28_6 (hF.1 49 _ rfl) rfl (hF.2.1 49 6 50 rfl) ?_
            refine z_aload_n dX6_lift_63 rfl rfl ?_
            refine z_getI dX6_lift_64 fl_X6_7_6 (hF.1 49 _ rfl) rfl ?_
            refine z_iload_n dX6_lift_67 rfl rfl ?_
            refine z_iast (z_c (z_I h 49 0)) dX6_lift_68 (hF.1 50 _ rfl) (by decide) hm.1 (z_cn_lt hm c53) (by decide) ?_
            refine z_aload_n dX6_lift_69 rfl rfl ?_
            refine z_getR 51 dX6_lift_70 fl_X6_32_6 (hF.1 49 _ rfl) rfl (hF.2.1 49 7 51 rfl) ?_
            refine z_aload_n dX6_lift_73 rfl rfl ?_
            refine z_getI dX6_lift_74 fl_X6_7_6 (hF.1 49 _ rfl) rfl ?_
            refine z_eqi (z_I h 49 0) rfl ?_
            refine z_iload_n dX6_lift_77 rfl rfl ?_
            refine z_iast (z_c (z_I h 49 0)) dX6_lift_78 (hF.1 51 _ rfl) (by decide) hm.1 (z_cn_lt hm c53) (by decide) ?_
            refine z_aload_n dX6_lift_79 rfl rfl ?_
            refine z_getR 52 dX6_lift_80 fl_X6_35_6 (hF.1 49 _ rfl) rfl (hF.2.1 49 8 52 rfl) ?_
            refine z_aload_n dX6_lift_83 rfl rfl ?_
            refine z_getI dX6_lift_84 fl_X6_7_6 (hF.1 49 _ rfl) rfl ?_
            refine z_eqi (z_I h 49 0) rfl ?_
            refine z_iload_n dX6_lift_87 rfl rfl ?_
            refine z_iast (z_c (z_I h 49 0)) dX6_lift_88 (hF.1 52 _ rfl) (by decide) hm.1 (z_cn_lt hm c53) (by decide) ?_
            refine z_aload_n dX6_lift_89 rfl rfl ?_
            refine z_getR 53 dX6_lift_90 fl_X6_38_6 (hF.1 49 _ rfl) rfl (hF.2.1 49 9 53 rfl) ?_
            refine z_aload_n dX6_lift_93 rfl rfl ?_
            refine z_getI dX6_lift_94 fl_X6_7_6 (hF.1 49 _ rfl) rfl ?_
            refine z_eqi (z_I h 49 0) rfl ?_
            refine z_iload dX6_lift_97 rfl ?_
            refine z_iast (z_c (z_I h 49 0)) dX6_lift_99 (hF.1 53 _ rfl) (by decide) hm.1 (z_cn_lt hm c53) (by decide) ?_
            refine z_iconst (v := 0) dX6_lift_100 rfl ?_
            refine z_istore dX6_lift_101 (by decide) rfl ?_
            refine z_iload dX6_lift_103 rfl ?_
            refine z_iconst (v := 4) dX6_lift_105 rfl ?_
            refine z_icmp_ge 130 dX6_lift_106 (by decide) (fun q => absurd q (by decide)) (fun _ => ?_)
            refine z_aload_n dX6_lift_109 rfl rfl ?_
            refine z_getR 54 dX6_lift_110 fl_X6_41_6 (hF.1 49 _ rfl) rfl (hF.2.1 49 10 54 rfl) ?_
            refine z_iconst (v := 4) dX6_lift_113 rfl ?_
            refine z_aload_n dX6_lift_114 rfl rfl ?_
            refine z_getI dX6_lift_115 fl_X6_7_6 (hF.1 49 _ rfl) rfl ?_
            refine z_eqi (z_I h 49 0) rfl ?_
            refine z_imul dX6_lift_118 ?_
            refine z_iload dX6_lift_119 rfl ?_
            refine z_iadd dX6_lift_121 ?_
            refine z_iconst (v := 0) dX6_lift_122 rfl ?_
            refine z_iast (4 * z_c (z_I h 49 0) + 0) dX6_lift_123 (hF.1 54 _ rfl) (by decide) (by rw [← nI_add, ← pk_mul, ← hm.1]; rfl) (by have := z_cn_lt hm c53; omega) (by decide) ?_
            refine z_iinc (v := 1) dX6_lift_124 rfl (by decide) (by decide) rfl ?_
            refine z_goto 103 dX6_lift_127 (by decide) ?_
            refine z_iload dX6_lift_103 rfl ?_
            refine z_iconst (v := 4) dX6_lift_105 rfl ?_
            refine z_icmp_ge 130 dX6_lift_106 (by decide) (fun q => absurd q (by decide)) (fun _ => ?_)
            refine z_aload_n dX6_lift_109 rfl rfl ?_
            refine z_getR 54 dX6_lift_110 fl_X6_41_6 (hF.1 49 _ rfl) rfl (hF.2.1 49 10 54 rfl) ?_
            refine z_iconst (v := 4) dX6_lift_113 rfl ?_
            refine z_aload_n dX6_lift_114 rfl rfl ?_
            refine z_getI dX6_lift_115 fl_X6_7_6 (hF.1 49 _ rfl) rfl ?_
            refine z_eqi (z_I h 49 0) rfl ?_
            refine z_imul dX6_lift_118 ?_
            refine z_iload dX6_lift_119 rfl ?_
            refine z_iadd dX6_lift_121 ?_
            refine z_iconst (v := 0) dX6_lift_122 rfl ?_
            refine z_iast (4 * z_c (z_I h 49 0) + 1) dX6_lift_123 (hF.1 54 _ rfl) (by decide) (by rw [← nI_add, ← pk_mul, ← hm.1]; rfl) (by have := z_cn_lt hm c53; omega) (by decide) ?_
            refine z_iinc (v := 2) dX6_lift_124 rfl (by decide) (by decide) rfl ?_
            refine z_goto 103 dX6_lift_127 (by decide) ?_
            refine z_iload dX6_lift_103 rfl ?_
            refine z_iconst (v := 4) dX6_lift_105 rfl ?_
            refine z_icmp_ge 130 dX6_lift_106 (by decide) (fun q => absurd q (by decide)) (fun _ => ?_)
            refine z_aload_n dX6_lift_109 rfl rfl ?_
            refine z_getR 54 dX6_lift_110 fl_X6_41_6 (hF.1 49 _ rfl) rfl (hF.2.1 49 10 54 rfl) ?_
            refine z_iconst (v := 4) dX6_lift_113 rfl ?_
            refine z_aload_n dX6_lift_114 rfl rfl ?_
            refine z_getI dX6_lift_115 fl_X6_7_6 (hF.1 49 _ rfl) rfl ?_
            refine z_eqi (z_I h 49 0) rfl ?_
            refine z_imul dX6_lift_118 ?_
            refine z_iload dX6_lift_119 rfl ?_
            refine z_iadd dX6_lift_121 ?_
            refine z_iconst (v := 0) dX6_lift_122 rfl ?_
            refine z_iast (4 * z_c (z_I h 49 0) + 2) dX6_lift_123 (hF.1 54 _ rfl) (by decide) (by rw [← nI_add, ← pk_mul, ← hm.1]; rfl) (by have := z_cn_lt hm c53; omega) (by decide) ?_
            refine z_iinc (v := 3) dX6_lift_124 rfl (by decide) (by decide) rfl ?_
            refine z_goto 103 dX6_lift_127 (by decide) ?_
            refine z_iload dX6_lift_103 rfl ?_
            refine z_iconst (v := 4) dX6_lift_105 rfl ?_
            refine z_icmp_ge 130 dX6_lift_106 (by decide) (fun q => absurd q (by decide)) (fun _ => ?_)
            refine z_aload_n dX6_lift_109 rfl rfl ?_
            refine z_getR 54 dX6_lift_110 fl_X6_41_6 (hF.1 49 _ rfl) rfl (hF.2.1 49 10 54 rfl) ?_
            refine z_iconst (v := 4) dX6_lift_113 rfl ?_
            refine z_aload_n dX6_lift_114 rfl rfl ?_
            refine z_getI dX6_lift_115 fl_X6_7_6 (hF.1 49 _ rfl) rfl ?_
            refine z_eqi (z_I h 49 0) rfl ?_
            refine z_imul dX6_lift_118 ?_
            refine z_iload dX6_lift_119 rfl ?_
            refine z_iadd dX6_lift_121 ?_
            refine z_iconst (v := 0) dX6_lift_122 rfl ?_
            refine z_iast (4 * z_c (z_I h 49 0) + 3) dX6_lift_123 (hF.1 54 _ rfl) (by decide) (by rw [← nI_add, ← pk_mul, ← hm.1]; rfl) (by have := z_cn_lt hm c53; omega) (by decide) ?_
            refine z_iinc (v := 4) dX6_lift_124 rfl (by decide) (by decide) rfl ?_
            refine z_goto 103 dX6_lift_127 (by decide) ?_
            refine z_iload dX6_lift_103 rfl ?_
            refine z_iconst (v := 4) dX6_lift_105 rfl ?_
            refine z_icmp_ge 130 dX6_lift_106 (by decide) (fun _ => ?_) (fun q => absurd q (by decide))
            refine z_aload_n dX6_lift_130 rfl rfl ?_
            refine z_dup dX6_lift_131 rfl ?_
            refine z_getI dX6_lift_132 fl_X6_7_6 (hF.1 49 _ rfl) rfl ?_
            refine z_eqi (z_I h 49 0) rfl ?_
            refine z_iconst (v := 1) dX6_lift_135 rfl ?_
            refine z_iadd dX6_lift_136 ?_
            refine z_putI dX6_lift_137 (pl_X6_7_6 rfl) (hF.1 49 _ rfl) (by decide) rfl ?_
            refine z_aload_n dX6_lift_140 rfl rfl ?_
            refine z_getI dX6_lift_141 fl_X6_7_6 (hF.1 49 _ rfl) rfl ?_
            refine z_eqi ((z_I h 49 0) + 1) rfl ?_
            refine z_iconst (v := 1) dX6_lift_144 rfl ?_
            refine z_isub dX6_lift_145 ?_
            refine z_iret dX6_lift_146 rfl rfl (Nat.le_refl _) (Nat.le_refl _) (z_ri_i ?_ ?_)
            · first | rfl | (unfold m_X6_lift; rw [if_pos (show z_in k 0 6 from c8), if_pos (show z_in n 0 9 from c21), if_pos (show m_X6_isMile h m from c29), if_pos (show z_in p 0 20 from c41), if_neg (show ¬ ((z_I h 49 0) = 6) from c53)]; first | done | rfl)
            · first | rfl | (unfold m_X6_lift; rw [if_pos (show z_in k 0 6 from c8), if_pos (show z_in n 0 9 from c21), if_pos (show m_X6_isMile h m from c29), if_pos (show z_in p 0 20 from c41), if_neg (show ¬ ((z_I h 49 0) = 6) from c53)]; first | done | rfl)
          · refine z_bipush (v := (-4)) dX6_lift_56 rfl ?_
            refine z_iret dX6_lift_58 rfl rfl (Nat.le_refl _) (Nat.le_refl _) (z_ri_i ?_ ?_)
            · first | rfl | (unfold m_X6_lift; rw [if_pos (show z_in k 0 6 from c8), if_pos (show z_in n 0 9 from c21), if_pos (show m_X6_isMile h m from c29), if_pos (show z_in p 0 20 from c41), if_pos (show (z_I h 49 0) = 6 from c53)]; first | done | rfl)
            · first | rfl | (unfold m_X6_lift; rw [if_pos (show z_in k 0 6 from c8), if_pos (show z_in n 0 9 from c21), if_pos (show m_X6_isMile h m from c29), if_pos (show z_in p 0 20 from c41), if_pos (show (z_I h 49 0) = 6 from c53)]; first | done | rfl)
        · refine z_bipush (v := (-2)) dX6_lift_44 rfl ?_
          refine z_iret dX6_lift_46 rfl rfl (Nat.le_refl _) (Nat.le_refl _) (z_ri_i ?_ ?_)
          · first | rfl | (unfold m_X6_lift; rw [if_pos (show z_in k 0 6 from c8), if_pos (show z_in n 0 9 from c21), if_pos (show m_X6_isMile h m from c29), if_neg (show ¬ (z_in p 0 20) from c41)]; first | done | rfl)
          · first | rfl | (unfold m_X6_lift; rw [if_pos (show z_in k 0 6 from c8), if_pos (show z_in n 0 9 from c21), if_pos (show m_X6_isMile h m from c29), if_neg (show ¬ (z_in p 0 20) from c41)]; first | done | rfl)
  · refine z_iconst (v := (-1)) dX6_lift_11 rfl ?_
    refine z_iret dX6_lift_12 rfl rfl (Nat.le_refl _) (Nat.le_refl _) (z_ri_i ?_ ?_)
    · first | rfl | (unfold m_X6_lift; rw [if_neg (show ¬ (z_in k 0 6) from c8)]; first | done | rfl)
    · first | rfl | (unfold m_X6_lift; rw [if_neg (show ¬ (z_in k 0 6) from c8)]; first | done | rfl)
def m_X6_feed (h : z_H) (c : Int32) : Int32 × z_H :=
  if z_in c 0 127 then
    if (z_I h 49 13) = 100 then
      ((-4), h)
    else
      ((z_I h 49 13) + 1, z_sI (z_sI h 55 (z_c (z_I h 49 13)) c) 49 13 ((z_I h 49 13) + 1))
  else
    ((-2), h)
theorem c_X6_feed {Γ : z_W} {h : z_H} {c : Int32} (hF : z_F h) (hd : z_cn (z_I h 49 13) 100) : z_C Γ M_X6_feed (z_rm 2 0 0) [.ref 49, .int c] h (z_ri (m_X6_feed h c).1 (m_X6_feed h c).2) := by
  refine z_C.of (by decide +kernel) rfl [some (.ref 49), some (.int c)] (Nat.le_of_ble_eq_true rfl) rfl ?_
  refine z_aload_n dX6_feed_0 rfl rfl ?_
  refine z_iload_n dX6_feed_1 rfl rfl ?_
  refine z_iconst (v := 0) dX6_feed_2 rfl ?_
  refine z_bipush (v := 127) dX6_feed_3 rfl ?_
  refine z_vcall vl_X6_227_6 (c_X6_in hF) dX6_feed_5 rfl rfl (hF.1 49 _ rfl) ⟨by decide, by decide⟩ (Nat.le_of_ble_eq_true rfl) (Nat.le_refl _) (Nat.le_refl _) (z_cI ?_) z_tI
  refine z_bif_ne 14 dX6_feed_8 (by decide) (fun c8 => ?_) (fun c8 => ?_)
  · refine z_aload_n dX6_feed_14 rfl rfl ?_
    refine z_getI dX6_feed_15 fl_X6_50_6 (hF.1 49 _ rfl) rfl ?_
    refine z_bipush (v := 100) dX6_feed_18 rfl ?_
    refine z_icmp_ne 26 dX6_feed_20 (by decide) (fun c20 => ?_) (fun c20 => ?_)
    · refine z_aload_n dX6_feed_26 rfl rfl ?_
      refine z_getR 55 dX6_feed_27 fl_X6_59_6 (hF.1 49 _ rfl) rfl (hF.2.1 49 16 55 rfl) ?_
      refine z_aload_n dX6_feed_30 rfl rfl ?_
      refine z_getI dX6_feed_31 fl_X6_50_6 (hF.1 49 _ rfl) rfl ?_
      refine z_iload_n dX6_feed_34 rfl rfl ?_
      refine z_iast (z_c (z_I h 49 13)) dX6_feed_35 (hF.1 55 _ rfl) (by decide) hd.1 (z_cn_lt hd c20) (by decide) ?_
      refine z_aload_n dX6_feed_36 rfl rfl ?_
      refine z_dup dX6_feed_37 rfl ?_
      refine z_getI dX6_feed_38 fl_X6_50_6 (hF.1 49 _ rfl) rfl ?_
      refine z_eqi (z_I h 49 13) rfl ?_
      refine z_iconst (v := 1) dX6_feed_41 rfl ?_
      refine z_iadd dX6_feed_42 ?_
      refine z_putI dX6_feed_43 (pl_X6_50_6 rfl) (hF.1 49 _ rfl) (by decide) rfl ?_
      refine z_aload_n dX6_feed_46 rfl rfl ?_
      refine z_getI dX6_feed_47 fl_X6_50_6 (hF.1 49 _ rfl) rfl ?_
      refine z_eqi ((z_I h 49 13) + 1) rfl ?_
      refine z_iret dX6_feed_50 rfl rfl (Nat.le_refl _) (Nat.le_refl _) (z_ri_i ?_ ?_)
      · first | rfl | (unfold m_X6_feed; rw [if_pos (show z_in c 0 127 from c8), if_neg (show ¬ ((z_I h 49 13) = 100) from c20)]; first | done | rfl)
      · first | rfl | (unfold m_X6_feed; rw [if_pos (show z_in c 0 127 from c8), if_neg (show ¬ ((z_I h 49 13) = 100) from c20)]; first | done | rfl)
    · refine z_bipush (v := (-4)) dX6_feed_23 rfl ?_
      refine z_iret dX6_feed_25 rfl rfl (Nat.le_refl _) (Nat.le_refl _) (z_ri_i ?_ ?_)
      · first | rfl | (unfold m_X6_feed; rw [if_pos (show z_in c 0 127 from c8), if_pos (show (z_I h 49 13) = 100 from c20)]; first | done | rfl)
      · first | rfl | (unfold m_X6_feed; rw [if_pos (show z_in c 0 127 from c8), if_pos (show (z_I h 49 13) = 100 from c20)]; first | done | rfl)
  · refine z_bipush (v := (-2)) dX6_feed_11 rfl ?_
    refine z_iret dX6_feed_13 rfl rfl (Nat.le_refl _) (Nat.le_refl _) (z_ri_i ?_ ?_)
    · first | rfl | (unfold m_X6_feed; rw [if_neg (show ¬ (z_in c 0 127) from c8)]; first | done | rfl)
    · first | rfl | (unfold m_X6_feed; rw [if_neg (show ¬ (z_in c 0 127) from c8)]; first | done | rfl)
def m_X6_count (h : z_H) (w : Int32) : Int32 :=
  if w = 0 then
    z_I h 49 0
  else
    if w = 1 then
      z_I h 49 11
    else
      if w = 2 then
        z_I h 49 36
      else
        if w = 3 then
          z_I h 49 39
        else
          if w = 4 then
            z_I h 49 41
          else
            if w = 5 then
              z_I h 49 13
            else
              if w = 6 then
                z_I h 49 65
              else
                (-2)
theorem c_X6_count {Γ : z_W} {h : z_H} {w : Int32} (hF : z_F h)  : z_C Γ M_X6_count (z_rm 1 0 0) [.ref 49, .int w] h (z_ri (m_X6_count h w) h) := by
  refine z_C.of (by decide +kernel) rfl [some (.ref 49), some (.int w)] (Nat.le_of_ble_eq_true rfl) rfl ?_
  refine z_iload_n dX6_count_0 rfl rfl ?_
  by_cases e1_0 : w = 0
  · refine z_tableIn 0 44 dX6_count_1 e1_0 (by decide) (by decide) rfl (by decide) ?_
    refine z_aload_n dX6_count_44 rfl rfl ?_
    refine z_getI dX6_count_45 fl_X6_7_6 (hF.1 49 _ rfl) rfl ?_
    refine z_iret dX6_count_48 rfl rfl (Nat.le_refl _) (Nat.le_refl _) (z_ri_i ?_ ?_)
    · first | rfl | (unfold m_X6_count; rw [if_pos (show w = 0 from e1_0)]; first | done | rfl)
    · first | rfl | (unfold m_X6_count; rw [if_pos (show w = 0 from e1_0)]; first | done | rfl)
  by_cases e1_1 : w = 1
  · refine z_tableIn 1 49 dX6_count_1 e1_1 (by decide) (by decide) rfl (by decide) ?_
    refine z_aload_n dX6_count_49 rfl rfl ?_
    refine z_getI dX6_count_50 fl_X6_44_6 (hF.1 49 _ rfl) rfl ?_
    refine z_iret dX6_count_53 rfl rfl (Nat.le_refl _) (Nat.le_refl _) (z_ri_i ?_ ?_)
    · first | rfl | (unfold m_X6_count; rw [if_neg (show ¬ (w = 0) from e1_0), if_pos (show w = 1 from e1_1)]; first | done | rfl)
    · first | rfl | (unfold m_X6_count; rw [if_neg (show ¬ (w = 0) from e1_0), if_pos (show w = 1 from e1_1)]; first | done | rfl)
  by_cases e1_2 : w = 2
  · refine z_tableIn 2 54 dX6_count_1 e1_2 (by decide) (by decide) rfl (by decide) ?_
    refine z_aload_n dX6_count_54 rfl rfl ?_
    refine z_getI dX6_count_55 fl_X6_120_6 (hF.1 49 _ rfl) rfl ?_
    refine z_iret dX6_count_58 rfl rfl (Nat.le_refl _) (Nat.le_refl _) (z_ri_i ?_ ?_)
    · first | rfl | (unfold m_X6_count; rw [if_neg (show ¬ (w = 0) from e1_0), if_neg (show ¬ (w = 1) from e1_1), if_pos (show w = 2 from e1_2)]; first | done | rfl)
    · first | rfl | (unfold m_X6_count; rw [if_neg (show ¬ (w = 0) from e1_0), if_neg (show ¬ (w = 1) from e1_1), if_pos (show w = 2 from e1_2)]; first | done | rfl)
  by_cases e1_3 : w = 3
  · refine z_tableIn 3 59 dX6_count_1 e1_3 (by decide) (by decide) rfl (by decide) ?_
    refine z_aload_n dX6_count_59 rfl rfl ?_
    refine z_getI dX6_count_60 fl_X6_129_6 (hF.1 49 _ rfl) rfl ?_
    refine z_iret dX6_count_63 rfl rfl (Nat.le_refl _) (Nat.le_refl _) (z_ri_i ?_ ?_)
    · first | rfl | (unfold m_X6_count; rw [if_neg (show ¬ (w = 0) from e1_0), if_neg (show ¬ (w = 1) from e1_1), if_neg (show ¬ (w = 2) from e1_2), if_pos (show w = 3 from e1_3)]; first | done | rfl)
    · first | rfl | (unfold m_X6_count; rw [if_neg (show ¬ (w = 0) from e1_0), if_neg (show ¬ (w = 1) from e1_1), if_neg (show ¬ (w = 2) from e1_2), if_pos (show w = 3 from e1_3)]; first | done | rfl)
  by_cases e1_4 : w = 4
  · refine z_tableIn 4 64 dX6_count_1 e1_4 (by decide) (by decide) rfl (by decide) ?_
    refine z_aload_n dX6_count_64 rfl rfl ?_
    refine z_getI dX6_count_65 fl_X6_135_6 (hF.1 49 _ rfl) rfl ?_
    refine z_iret dX6_count_68 rfl rfl (Nat.le_refl _) (Nat.le_refl _) (z_ri_i ?_ ?_)
    · first | rfl | (unfold m_X6_count; rw [if_neg (show ¬ (w = 0) from e1_0), if_neg (show ¬ (w = 1) from e1_1), if_neg (show ¬ (w = 2) from e1_2), if_neg (show ¬ (w = 3) from e1_3), if_pos (show w = 4 from e1_4)]; first | done | rfl)
    · first | rfl | (unfold m_X6_count; rw [if_neg (show ¬ (w = 0) from e1_0), if_neg (show ¬ (w = 1) from e1_1), if_neg (show ¬ (w = 2) from e1_2), if_neg (show ¬ (w = 3) from e1_3), if_pos (show w = 4 from e1_4)]; first | done | rfl)
  by_cases e1_5 : w = 5
  · refine z_tableIn 5 69 dX6_count_1 e1_5 (by decide) (by decide) rfl (by decide) ?_
    refine z_aload_n dX6_count_69 rfl rfl ?_
    refine z_getI dX6_count_70 fl_X6_50_6 (hF.1 49 _ rfl) rfl ?_
    refine z_iret dX6_count_73 rfl rfl (Nat.le_refl _) (Nat.le_refl _) (z_ri_i ?_ ?_)
    · first | rfl | (unfold m_X6_count; rw [if_neg (show ¬ (w = 0) from e1_0), if_neg (show ¬ (w = 1) from e1_1), if_neg (show ¬ (w = 2) from e1_2), if_neg (show ¬ (w = 3) from e1_3), if_neg (show ¬ (w = 4) from e1_4), if_pos (show w = 5 from e1_5)]; first | done | rfl)
    · first | rfl | (unfold m_X6_count; rw [if_neg (show ¬ (w = 0) from e1_0), if_neg (show ¬ (w = 1) from e1_1), if_neg (show ¬ (w = 2) from e1_2), if_neg (show ¬ (w = 3) from e1_3), if_neg (show ¬ (w = 4) from e1_4), if_pos (show w = 5 from e1_5)]; first | done | rfl)
  by_cases e1_6 : w = 6
  · refine z_tableIn 6 74 dX6_count_1 e1_6 (by decide) (by decide) rfl (by decide) ?_
    refine z_aload_n dX6_count_74 rfl rfl ?_
    refine z_getI dX6_count_75 fl_X6_208_6 (hF.1 49 _ rfl) rfl ?_
    refine z_iret dX6_count_78 rfl rfl (Nat.le_refl _) (Nat.le_refl _) (z_ri_i ?_ ?_)
    · first | rfl | (unfold m_X6_count; rw [if_neg (show ¬ (w = 0) from e1_0), if_neg (show ¬ (w = 1) from e1_1), if_neg (show ¬ (w = 2) from e1_2), if_neg (show ¬ (w = 3) from e1_3), if_neg (show ¬ (w = 4) from e1_4), if_neg (show ¬ (w = 5) from e1_5), if_pos (show w = 6 from e1_6)]; first | done | rfl)
    · first | rfl | (unfold m_X6_count; rw [if_neg (show ¬ (w = 0) from e1_0), if_neg (show ¬ (w = 1) from e1_1), if_neg (show ¬ (w = 2) from e1_2), if_neg (show ¬ (w = 3) from e1_3), if_neg (show ¬ (w = 4) from e1_4), if_neg (show ¬ (w = 5) from e1_5), if_pos (show w = 6 from e1_6)]; first | done | rfl)
  refine z_tableOut 79 dX6_count_1 (z_tout7 e1_0 e1_1 e1_2 e1_3 e1_4 e1_5 e1_6) (by decide) ?_
  refine z_bipush (v := (-2)) dX6_count_79 rfl ?_
  refine z_iret dX6_count_81 rfl rfl (Nat.le_refl _) (Nat.le_refl _) (z_ri_i ?_ ?_)
  · first | rfl | (unfold m_X6_count; rw [if_neg (show ¬ (w = 0) from e1_0), if_neg (show ¬ (w = 1) from e1_1), if_neg (show ¬ (w = 2) from e1_2), if_neg (show ¬ (w = 3) from e1_3), if_neg (show ¬ (w = 4) from e1_4), if_neg (show ¬ (w = 5) from e1_5), if_neg (show ¬ (w = 6) from e1_6)]; first | done | rfl)
  · first | rfl | (unfold m_X6_count; rw [if_neg (show ¬ (w = 0) from e1_0), if_neg (show ¬ (w = 1) from e1_1), if_neg (show ¬ (w = 2) from e1_2), if_neg (show ¬ (w = 3) from e1_3), if_neg (show ¬ (w = 4) from e1_4), if_neg (show ¬ (w = 5) from e1_5), if_neg (show ¬ (w = 6) from e1_6)]; first | done | rfl)
def m_X6_taken (h : z_H) (l : Int32) (k : Int32) : Int32 :=
  if z_in k 0 6 then
    if m_X6_isLift h l then
      if k = 0 then
        z_I h 50 (z_c l)
      else
        if (z_I h 50 (z_c l)) = k then
          z_I h 50 (z_c l)
        else
          if k = 1 then
            if (z_I h 50 (z_c l)) = 4 then
              z_I h 50 (z_c l)
            else
              if k = 2 then
                if (z_I h 50 (z_c l)) = 5 then
                  z_I h 50 (z_c l)
                else
                  if k = 3 then
                    if (z_I h 50 (z_c l)) = 6 then
                      z_I h 50 (z_c l)
                    else
                      (-12)
                  else
                    (-12)
              else
                if k = 3 then
                  if (z_I h 50 (z_c l)) = 6 then
                    z_I h 50 (z_c l)
                  else
                    (-12)
                else
                  (-12)
          else
            if k = 2 then
              if (z_I h 50 (z_c l)) = 5 then
                z_I h 50 (z_c l)
              else
                if k = 3 then
                  if (z_I h 50 (z_c l)) = 6 then
                    z_I h 50 (z_c l)
                  else
                    (-12)
                else
                  (-12)
            else
              if k = 3 then
                if (z_I h 50 (z_c l)) = 6 then
                  z_I h 50 (z_c l)
                else
                  (-12)
              else
                (-12)
    else
      (-11)
  else
    (-2)
theorem c_X6_taken {Γ : z_W} {h : z_H} {l : Int32} {k : Int32} (hF : z_F h) (hm : z_cn (z_I h 49 0) 6) : z_C Γ M_X6_taken (z_rm 3 0 0) [.ref 49, .int l, .int k] h (z_ri (m_X6_taken h l k) h) := by
  refine z_C.of (by decide +kernel) rfl [some (.ref 49), some (.int l), some (.int k), none] (Nat.le_of_ble_eq_true rfl) rfl ?_
  refine z_aload_n dX6_taken_0 rfl rfl ?_
  refine z_iload_n dX6_taken_1 rfl rfl ?_
  refine z_iconst (v := 0) dX6_taken_2 rfl ?_
  refine z_bipush (v := 6) dX6_taken_3 rfl ?_
  refine z_vcall vl_X6_227_6 (c_X6_in hF) dX6_taken_5 rfl rfl (hF.1 49 _ rfl) ⟨by decide, by decide⟩ (Nat.le_of_ble_eq_true rfl) (Nat.le_refl _) (Nat.le_refl _) (z_cI ?_) z_tI
  refine z_bif_ne 14 dX6_taken_8 (by decide) (fun c8 => ?_) (fun c8 => ?_)
  · refine z_aload_n dX6_taken_14 rfl rfl ?_
    refine z_iload_n dX6_taken_15 rfl rfl ?_
    refine z_vcall vl_X6_235_6 (c_X6_isLift hF) dX6_taken_16 rfl rfl (hF.1 49 _ rfl) ⟨by decide, by decide⟩ (Nat.le_of_ble_eq_true rfl) (Nat.le_refl _) (Nat.le_refl _) (z_cI ?_) z_tI
    refine z_bif_ne 25 dX6_taken_19 (by decide) (fun c19 => ?_) (fun c19 => ?_)
    · have hl := z_ix hm (by decide) c19
      refine z_aload_n dX6_taken_25 rfl rfl ?_
      refine z_getR 50 dX6_taken_26 fl_X6_28_6 (hF.1 49 _ rfl) rfl (hF.2.1 49 6 50 rfl) ?_
      refine z_iload_n dX6_taken_29 rfl rfl ?_
      refine z_iald (z_c l) dX6_taken_30 (hF.1 50 _ rfl) (hl).1 (by have := hl.2; have := hm.2; omega) (by decide) ?_
      refine z_istore_n dX6_taken_31 rfl (by decide) rfl ?_
      refine z_iload_n dX6_taken_32 rfl rfl ?_
      refine z_if_eq 72 dX6_taken_33 (by decide) (fun c33 => ?_) (fun c33 => ?_)
      · refine z_iload_n dX6_taken_72 rfl rfl ?_
        refine z_goto 78 dX6_taken_73 (by decide) ?_
        refine z_iret dX6_taken_78 rfl rfl (Nat.le_refl _) (Nat.le_refl _) (z_ri_i ?_ ?_)
        · first | rfl | (unfold m_X6_taken; rw [if_pos (show z_in k 0 6 from c8), if_pos (show m_X6_isLift h l from c19), if_pos (show k = 0 from c33)]; first | done | rfl)
        · first | rfl | (unfold m_X6_taken; rw [if_pos (show z_in k 0 6 from c8), if_pos (show m_X6_isLift h l from c19), if_pos (show k = 0 from c33)]; first | done | rfl)
      · refine z_iload_n dX6_taken_36 rfl rfl ?_
        refine z_iload_n dX6_taken_37 rfl rfl ?_
        refine z_icmp_eq 72 dX6_taken_38 (by decide) (fun c38 => ?_) (fun c38 => ?_)
        · refine z_iload_n dX6_taken_72 rfl rfl ?_
          refine z_goto 78 dX6_taken_73 (by decide) ?_
          refine z_iret dX6_taken_78 rfl rfl (Nat.le_refl _) (Nat.le_refl _) (z_ri_i ?_ ?_)
          · first | rfl | (unfold m_X6_taken; rw [if_pos (show z_in k 0 6 from c8), if_pos (show m_X6_isLift h l from c19), if_neg (show ¬ (k = 0) from c33), if_pos (show (z_I h 50 (z_c l)) = k from c38)]; first | done | rfl)
          · first | rfl | (unfold m_X6_taken; rw [if_pos (show z_in k 0 6 from c8), if_pos (show m_X6_isLift h l from c19), if_neg (show ¬ (k = 0) from c33), if_pos (show (z_I h 50 (z_c l)) = k from c38)]; first | done | rfl)
        · refine z_iload_n dX6_taken_41 rfl rfl ?_
          refine z_iconst (v := 1) dX6_taken_42 rfl ?_
          refine z_icmp_ne 51 dX6_taken_43 (by decide) (fun c43 => ?_) (fun c43 => ?_)
          · refine z_iload_n dX6_taken_51 rfl rfl ?_
            refine z_iconst (v := 2) dX6_taken_52 rfl ?_
            refine z_icmp_ne 61 dX6_taken_53 (by decide) (fun c53 => ?_) (fun c53 => ?_)
            · refine z_iload_n dX6_taken_61 rfl rfl ?_
              refine z_iconst (v := 3) dX6_taken_62 rfl ?_
              refine z_icmp_ne 76 dX6_taken_63 (by decide) (fun c63 => ?_) (fun c63 => ?_)
              · refine z_bipush (v := (-12)) dX6_taken_76 rfl ?_
                refine z_iret dX6_taken_78 rfl rfl (Nat.le_refl _) (Nat.le_refl _) (z_ri_i ?_ ?_)
                · first | rfl | (unfold m_X6_taken; rw [if_pos (show z_in k 0 6 from c8), if_pos (show m_X6_isLift h l from c19), if_neg (show ¬ (k = 0) from c33), if_neg (show ¬ ((z_I h 50 (z_c l)) = k) from c38), if_neg (show ¬ (k = 1) from c43), if_neg (show ¬ (k = 2) from c53), if_neg (show ¬ (k = 3) from c63)]; first | done | rfl)
                · first | rfl | (unfold m_X6_taken; rw [if_pos (show z_in k 0 6 from c8), if_pos (show m_X6_isLift h l from c19), if_neg (show ¬ (k = 0) from c33), if_neg (show ¬ ((z_I h 50 (z_c l)) = k) from c38), if_neg (show ¬ (k = 1) from c43), if_neg (show ¬ (k = 2) from c53), if_neg (show ¬ (k = 3) from c63)]; first | done | rfl)
              · refine z_iload_n dX6_taken_66 rfl rfl ?_
                refine z_bipush (v := 6) dX6_taken_67 rfl ?_
                refine z_icmp_ne 76 dX6_taken_69 (by decide) (fun c69 => ?_) (fun c69 => ?_)
                · refine z_bipush (v := (-12)) dX6_taken_76 rfl ?_
                  refine z_iret dX6_taken_78 rfl rfl (Nat.le_refl _) (Nat.le_refl _) (z_ri_i ?_ ?_)
                  · first | rfl | (unfold m_X6_taken; rw [if_pos (show z_in k 0 6 from c8), if_pos (show m_X6_isLift h l from c19), if_neg (show ¬ (k = 0) from c33), if_neg (show ¬ ((z_I h 50 (z_c l)) = k) from c38), if_neg (show ¬ (k = 1) from c43), if_neg (show ¬ (k = 2) from c53), if_pos (show k = 3 from c63), if_neg (show ¬ ((z_I h 50 (z_c l)) = 6) from c69)]; first | done | rfl)
                  · first | rfl | (unfold m_X6_taken; rw [if_pos (show z_in k 0 6 from c8), if_pos (show m_X6_isLift h l from c19), if_neg (show ¬ (k = 0) from c33), if_neg (show ¬ ((z_I h 50 (z_c l)) = k) from c38), if_neg (show ¬ (k = 1) from c43), if_neg (show ¬ (k = 2) from c53), if_pos (show k = 3 from c63), if_neg (show ¬ ((z_I h 50 (z_c l)) = 6) from c69)]; first | done | rfl)
                · refine z_iload_n dX6_taken_72 rfl rfl ?_
                  refine z_goto 78 dX6_taken_73 (by decide) ?_
                  refine z_iret dX6_taken_78 rfl rfl (Nat.le_refl _) (Nat.le_refl _) (z_ri_i ?_ ?_)
                  · first | rfl | (unfold m_X6_taken; rw [if_pos (show z_in k 0 6 from c8), if_pos (show m_X6_isLift h l from c19), if_neg (show ¬ (k = 0) from c33), if_neg (show ¬ ((z_I h 50 (z_c l)) = k) from c38), if_neg (show ¬ (k = 1) from c43), if_neg (show ¬ (k = 2) from c53), if_pos (show k = 3 from c63), if_pos (show (z_I h 50 (z_c l)) = 6 from c69)]; first | done | rfl)
                  · first | rfl | (unfold m_X6_taken; rw [if_pos (show z_in k 0 6 from c8), if_pos (show m_X6_isLift h l from c19), if_neg (show ¬ (k = 0) from c33), if_neg (show ¬ ((z_I h 50 (z_c l)) = k) from c38), if_neg (show ¬ (k = 1) from c43), if_neg (show ¬ (k = 2) from c53), if_pos (show k = 3 from c63), if_pos (show (z_I h 50 (z_c l)) = 6 from c69)]; first | done | rfl)
            · refine z_iload_n dX6_taken_56 rfl rfl ?_
              refine z_iconst (v := 5) dX6_taken_57 rfl ?_
              refine z_icmp_eq 72 dX6_taken_58 (by decide) (fun c58 => ?_) (fun c58 => ?_)
              · refine z_iload_n dX6_taken_72 rfl rfl ?_
                refine z_goto 78 dX6_taken_73 (by decide) ?_
                refine z_iret dX6_taken_78 rfl rfl (Nat.le_refl _) (Nat.le_refl _) (z_ri_i ?_ ?_)
                · first | rfl | (unfold m_X6_taken; rw [if_pos (show z_in k 0 6 from c8), if_pos (show m_X6_isLift h l from c19), if_neg (show ¬ (k = 0) from c33), if_neg (show ¬ ((z_I h 50 (z_c l)) = k) from c38), if_neg (show ¬ (k = 1) from c43), if_pos (show k = 2 from c53), if_pos (show (z_I h 50 (z_c l)) = 5 from c58)]; first | done | rfl)
                · first | rfl | (unfold m_X6_taken; rw [if_pos (show z_in k 0 6 from c8), if_pos (show m_X6_isLift h l from c19), if_neg (show ¬ (k = 0) from c33), if_neg (show ¬ ((z_I h 50 (z_c l)) = k) from c38), if_neg (show ¬ (k = 1) from c43), if_pos (show k = 2 from c53), if_pos (show (z_I h 50 (z_c l)) = 5 from c58)]; first | done | rfl)
              · refine z_iload_n dX6_taken_61 rfl rfl ?_
                refine z_iconst (v := 3) dX6_taken_62 rfl ?_
                refine z_icmp_ne 76 dX6_taken_63 (by decide) (fun c63 => ?_) (fun c63 => ?_)
                · refine z_bipush (v := (-12)) dX6_taken_76 rfl ?_
                  refine z_iret dX6_taken_78 rfl rfl (Nat.le_refl _) (Nat.le_refl _) (z_ri_i ?_ ?_)
                  · first | rfl | (unfold m_X6_taken; rw [if_pos (show z_in k 0 6 from c8), if_pos (show m_X6_isLift h l from c19), if_neg (show ¬ (k = 0) from c33), if_neg (show ¬ ((z_I h 50 (z_c l)) = k) from c38), if_neg (show ¬ (k = 1) from c43), if_pos (show k = 2 from c53), if_neg (show ¬ ((z_I h 50 (z_c l)) = 5) from c58), if_neg (show ¬ (k = 3) from c63)]; first | done | rfl)
                  · first | rfl | (unfold m_X6_taken; rw [if_pos (show z_in k 0 6 from c8), if_pos (show m_X6_isLift h l from c19), if_neg (show ¬ (k = 0) from c33), if_neg (show ¬ ((z_I h 50 (z_c l)) = k) from c38), if_neg (show ¬ (k = 1) from c43), if_pos (show k = 2 from c53), if_neg (show ¬ ((z_I h 50 (z_c l)) = 5) from c58), if_neg (show ¬ (k = 3) from c63)]; first | done | rfl)
                · refine z_iload_n dX6_taken_66 rfl rfl ?_
                  refine z_bipush (v := 6) dX6_taken_67 rfl ?_
                  refine z_icmp_ne 76 dX6_taken_69 (by decide) (fun c69 => ?_) (fun c69 => ?_)
                  · refine z_bipush (v := (-12)) dX6_taken_76 rfl ?_
                    refine z_iret dX6_taken_78 rfl rfl (Nat.le_refl _) (Nat.le_refl _) (z_ri_i ?_ ?_)
                    · first | rfl | (unfold m_X6_taken; rw [if_pos (show z_in k 0 6 from c8), if_pos (show m_X6_isLift h l from c19), if_neg (show ¬ (k = 0) from c33), if_neg (show ¬ ((z_I h 50 (z_c l)) = k) from c38), if_neg (show ¬ (k = 1) from c43), if_pos (show k = 2 from c53), if_neg (show ¬ ((z_I h 50 (z_c l)) = 5) from c58), if_pos (show k = 3 from c63), if_neg (show ¬ ((z_I h 50 (z_c l)) = 6) from c69)]; first | done | rfl)
                    · first | rfl | (unfold m_X6_taken; rw [if_pos (show z_in k 0 6 from c8), if_pos (show m_X6_isLift h l from c19), if_neg (show ¬ (k = 0) from c33), if_neg (show ¬ ((z_I h 50 (z_c l)) = k) from c38), if_neg (show ¬ (k = 1) from c43), if_pos (show k = 2 from c53), if_neg (show ¬ ((z_I h 50 (z_c l)) = 5) from c58), if_pos (show k = 3 from c63), if_neg (show ¬ ((z_I h 50 (z_c l)) = 6) from c69)]; first | done | rfl)
                  · refine z_iload_n dX6_taken_72 rfl rfl ?_
                    refine z_goto 78 dX6_taken_73 (by decide) ?_
                    refine z_iret dX6_taken_78 rfl rfl (Nat.le_refl _) (Nat.le_refl _) (z_ri_i ?_ ?_)
                    · first | rfl | (unfold m_X6_taken; rw [if_pos (show z_in k 0 6 from c8), if_pos (show m_X6_isLift h l from c19), if_neg (show ¬ (k = 0) from c33), if_neg (show ¬ ((z_I h 50 (z_c l)) = k) from c38), if_neg (show ¬ (k = 1) from c43), if_pos (show k = 2 from c53), if_neg (show ¬ ((z_I h 50 (z_c l)) = 5) from c58), if_pos (show k = 3 from c63), if_pos (show (z_I h 50 (z_c l)) = 6 from c69)]; first | done | rfl)
                    · first | rfl | (unfold m_X6_taken; rw [if_pos (show z_in k 0 6 from c8), if_pos (show m_X6_isLift h l from c19), if_neg (show ¬ (k = 0) from c33), if_neg (show ¬ ((z_I h 50 (z_c l)) = k) from c38), if_neg (show ¬ (k = 1) from c43), if_pos (show k = 2 from c53), if_neg (show ¬ ((z_I h 50 (z_c l)) = 5) from c58), if_pos (show k = 3 from c63), if_pos (show (z_I h 50 (z_c l)) = 6 from c69)]; first | done | rfl)
          · refine z_iload_n dX6_taken_46 rfl rfl ?_
            refine z_iconst (v := 4) dX6_taken_47 rfl ?_
            refine z_icmp_eq 72 dX6_taken_48 (by decide) (fun c48 => ?_) (fun c48 => ?_)
            · refine z_iload_n dX6_taken_72 rfl rfl ?_
              refine z_goto 78 dX6_taken_73 (by decide) ?_
              refine z_iret dX6_taken_78 rfl rfl (Nat.le_refl _) (Nat.le_refl _) (z_ri_i ?_ ?_)
              · first | rfl | (unfold m_X6_taken; rw [if_pos (show z_in k 0 6 from c8), if_pos (show m_X6_isLift h l from c19), if_neg (show ¬ (k = 0) from c33), if_neg (show ¬ ((z_I h 50 (z_c l)) = k) from c38), if_pos (show k = 1 from c43), if_pos (show (z_I h 50 (z_c l)) = 4 from c48)]; first | done | rfl)
              · first | rfl | (unfold m_X6_taken; rw [if_pos (show z_in k 0 6 from c8), if_pos (show m_X6_isLift h l from c19), if_neg (show ¬ (k = 0) from c33), if_neg (show ¬ ((z_I h 50 (z_c l)) = k) from c38), if_pos (show k = 1 from c43), if_pos (show (z_I h 50 (z_c l)) = 4 from c48)]; first | done | rfl)
            · refine z_iload_n dX6_taken_51 rfl rfl ?_
              refine z_iconst (v := 2) dX6_taken_52 rfl ?_
              refine z_icmp_ne 61 dX6_taken_53 (by decide) (fun c53 => ?_) (fun c53 => ?_)
              · refine z_iload_n dX6_taken_61 rfl rfl ?_
                refine z_iconst (v := 3) dX6_taken_62 rfl ?_
                refine z_icmp_ne 76 dX6_taken_63 (by decide) (fun c63 => ?_) (fun c63 => ?_)
                · refine z_bipush (v := (-12)) dX6_taken_76 rfl ?_
                  refine z_iret dX6_taken_78 rfl rfl (Nat.le_refl _) (Nat.le_refl _) (z_ri_i ?_ ?_)
                  · first | rfl | (unfold m_X6_taken; rw [if_pos (show z_in k 0 6 from c8), if_pos (show m_X6_isLift h l from c19), if_neg (show ¬ (k = 0) from c33), if_neg (show ¬ ((z_I h 50 (z_c l)) = k) from c38), if_pos (show k = 1 from c43), if_neg (show ¬ ((z_I h 50 (z_c l)) = 4) from c48), if_neg (show ¬ (k = 2) from c53), if_neg (show ¬ (k = 3) from c63)]; first | done | rfl)
                  · first | rfl | (unfold m_X6_taken; rw [if_pos (show z_in k 0 6 from c8), if_pos (show m_X6_isLift h l from c19), if_neg (show ¬ (k = 0) from c33), if_neg (show ¬ ((z_I h 50 (z_c l)) = k) from c38), if_pos (show k = 1 from c43), if_neg (show ¬ ((z_I h 50 (z_c l)) = 4) from c48), if_neg (show ¬ (k = 2) from c53), if_neg (show ¬ (k = 3) from c63)]; first | done | rfl)
                · refine z_iload_n dX6_taken_66 rfl rfl ?_
                  refine z_bipush (v := 6) dX6_taken_67 rfl ?_
                  refine z_icmp_ne 76 dX6_taken_69 (by decide) (fun c69 => ?_) (fun c69 => ?_)
                  · refine z_bipush (v := (-12)) dX6_taken_76 rfl ?_
                    refine z_iret dX6_taken_78 rfl rfl (Nat.le_refl _) (Nat.le_refl _) (z_ri_i ?_ ?_)
                    · first | rfl | (unfold m_X6_taken; rw [if_pos (show z_in k 0 6 from c8), if_pos (show m_X6_isLift h l from c19), if_neg (show ¬ (k = 0) from c33), if_neg (show ¬ ((z_I h 50 (z_c l)) = k) from c38), if_pos (show k = 1 from c43), if_neg (show ¬ ((z_I h 50 (z_c l)) = 4) from c48), if_neg (show ¬ (k = 2) from c53), if_pos (show k = 3 from c63), if_neg (show ¬ ((z_I h 50 (z_c l)) = 6) from c69)]; first | done | rfl)
                    · first | rfl | (unfold m_X6_taken; rw [if_pos (show z_in k 0 6 from c8), if_pos (show m_X6_isLift h l from c19), if_neg (show ¬ (k = 0) from c33), if_neg (show ¬ ((z_I h 50 (z_c l)) = k) from c38), if_pos (show k = 1 from c43), if_neg (show ¬ ((z_I h 50 (z_c l)) = 4) from c48), if_neg (show ¬ (k = 2) from c53), if_pos (show k = 3 from c63), if_neg (show ¬ ((z_I h 50 (z_c l)) = 6) from c69)]; first | done | rfl)
                  · refine z_iload_n dX6_taken_72 rfl rfl ?_
                    refine z_goto 78 dX6_taken_73 (by decide) ?_
                    refine z_iret dX6_taken_78 rfl rfl (Nat.le_refl _) (Nat.le_refl _) (z_ri_i ?_ ?_)
                    · first | rfl | (unfold m_X6_taken; rw [if_pos (show z_in k 0 6 from c8), if_pos (show m_X6_isLift h l from c19), if_neg (show ¬ (k = 0) from c33), if_neg (show ¬ ((z_I h 50 (z_c l)) = k) from c38), if_pos (show k = 1 from c43), if_neg (show ¬ ((z_I h 50 (z_c l)) = 4) from c48), if_neg (show ¬ (k = 2) from c53), if_pos (show k = 3 from c63), if_pos (show (z_I h 50 (z_c l)) = 6 from c69)]; first | done | rfl)
                    · first | rfl | (unfold m_X6_taken; rw [if_pos (show z_in k 0 6 from c8), if_pos (show m_X6_isLift h l from c19), if_neg (show ¬ (k = 0) from c33), if_neg (show ¬ ((z_I h 50 (z_c l)) = k) from c38), if_pos (show k = 1 from c43), if_neg (show ¬ ((z_I h 50 (z_c l)) = 4) from c48), if_neg (show ¬ (k = 2) from c53), if_pos (show k = 3 from c63), if_pos (show (z_I h 50 (z_c l)) = 6 from c69)]; first | done | rfl)
              · refine z_iload_n dX6_taken_56 rfl rfl ?_
                refine z_iconst (v := 5) dX6_taken_57 rfl ?_
                refine z_icmp_eq 72 dX6_taken_58 (by decide) (fun c58 => ?_) (fun c58 => ?_)
                · refine z_iload_n dX6_taken_72 rfl rfl ?_
                  refine z_goto 78 dX6_taken_73 (by decide) ?_
                  refine z_iret dX6_taken_78 rfl rfl (Nat.le_refl _) (Nat.le_refl _) (z_ri_i ?_ ?_)
                  · first | rfl | (unfold m_X6_taken; rw [if_pos (show z_in k 0 6 from c8), if_pos (show m_X6_isLift h l from c19), if_neg (show ¬ (k = 0) from c33), if_neg (show ¬ ((z_I h 50 (z_c l)) = k) from c38), if_pos (show k = 1 from c43), if_neg (show ¬ ((z_I h 50 (z_c l)) = 4) from c48), if_pos (show k = 2 from c53), if_pos (show (z_I h 50 (z_c l)) = 5 from c58)]; first | done | rfl)
                  · first | rfl | (unfold m_X6_taken; rw [if_pos (show z_in k 0 6 from c8), if_pos (show m_X6_isLift h l from c19), if_neg (show ¬ (k = 0) from c33), if_neg (show ¬ ((z_I h 50 (z_c l)) = k) from c38), if_pos (show k = 1 from c43), if_neg (show ¬ ((z_I h 50 (z_c l)) = 4) from c48), if_pos (show k = 2 from c53), if_pos (show (z_I h 50 (z_c l)) = 5 from c58)]; first | done | rfl)
                · refine z_iload_n dX6_taken_61 rfl rfl ?_
                  refine z_iconst (v := 3) dX6_taken_62 rfl ?_
                  refine z_icmp_ne 76 dX6_taken_63 (by decide) (fun c63 => ?_) (fun c63 => ?_)
                  · refine z_bipush (v := (-12)) dX6_taken_76 rfl ?_
                    refine z_iret dX6_taken_78 rfl rfl (Nat.le_refl _) (Nat.le_refl _) (z_ri_i ?_ ?_)
                    · first | rfl | (unfold m_X6_taken; rw [if_pos (show z_in k 0 6 from c8), if_pos (show m_X6_isLift h l from c19), if_neg (show ¬ (k = 0) from c33), if_neg (show ¬ ((z_I h 50 (z_c l)) = k) from c38), if_pos (show k = 1 from c43), if_neg (show ¬ ((z_I h 50 (z_c l)) = 4) from c48), if_pos (show k = 2 from c53), if_neg (show ¬ ((z_I h 50 (z_c l)) = 5) from c58), if_neg (show ¬ (k = 3) from c63)]; first | done | rfl)
                    · first | rfl | (unfold m_X6_taken; rw [if_pos (show z_in k 0 6 from c8), if_pos (show m_X6_isLift h l from c19), if_neg (show ¬ (k = 0) from c33), if_neg (show ¬ ((z_I h 50 (z_c l)) = k) from c38), if_pos (show k = 1 from c43), if_neg (show ¬ ((z_I h 50 (z_c l)) = 4) from c48), if_pos (show k = 2 from c53), if_neg (show ¬ ((z_I h 50 (z_c l)) = 5) from c58), if_neg (show ¬ (k = 3) from c63)]; first | done | rfl)
                  · refine z_iload_n dX6_taken_66 rfl rfl ?_
                    refine z_bipush (v := 6) dX6_taken_67 rfl ?_
                    refine z_icmp_ne 76 dX6_taken_69 (by decide) (fun c69 => ?_) (fun c69 => ?_)
                    · refine z_bipush (v := (-12)) dX6_taken_76 rfl ?_
                      refine z_iret dX6_taken_78 rfl rfl (Nat.le_refl _) (Nat.le_refl _) (z_ri_i ?_ ?_)
                      · first | rfl | (unfold m_X6_taken; rw [if_pos (show z_in k 0 6 from c8), if_pos (show m_X6_isLift h l from c19), if_neg (show ¬ (k = 0) from c33), if_neg (show ¬ ((z_I h 50 (z_c l)) = k) from c38), if_pos (show k = 1 from c43), if_neg (show ¬ ((z_I h 50 (z_c l)) = 4) from c48), if_pos (show k = 2 from c53), if_neg (show ¬ ((z_I h 50 (z_c l)) = 5) from c58), if_pos (show k = 3 from c63), if_neg (show ¬ ((z_I h 50 (z_c l)) = 6) from c69)]; first | done | rfl)
                      · first | rfl | (unfold m_X6_taken; rw [if_pos (show z_in k 0 6 from c8), if_pos (show m_X6_isLift h l from c19), if_neg (show ¬ (k = 0) from c33), if_neg (show ¬ ((z_I h 50 (z_c l)) = k) from c38), if_pos (show k = 1 from c43), if_neg (show ¬ ((z_I h 50 (z_c l)) = 4) from c48), if_pos (show k = 2 from c53), if_neg (show ¬ ((z_I h 50 (z_c l)) = 5) from c58), if_pos (show k = 3 from c63), if_neg (show ¬ ((z_I h 50 (z_c l)) = 6) from c69)]; first | done | rfl)
                    · refine z_iload_n dX6_taken_72 rfl rfl ?_
                      refine z_goto 78 dX6_taken_73 (by decide) ?_
                      refine z_iret dX6_taken_78 rfl rfl (Nat.le_refl _) (Nat.le_refl _) (z_ri_i ?_ ?_)
                      · first | rfl | (unfold m_X6_taken; rw [if_pos (show z_in k 0 6 from c8), if_pos (show m_X6_isLift h l from c19), if_neg (show ¬ (k = 0) from c33), if_neg (show ¬ ((z_I h 50 (z_c l)) = k) from c38), if_pos (show k = 1 from c43), if_neg (show ¬ ((z_I h 50 (z_c l)) = 4) from c48), if_pos (show k = 2 from c53), if_neg (show ¬ ((z_I h 50 (z_c l)) = 5) from c58), if_pos (show k = 3 from c63), if_pos (show (z_I h 50 (z_c l)) = 6 from c69)]; first | done | rfl)
                      · first | rfl | (unfold m_X6_taken; rw [if_pos (show z_in k 0 6 from c8), if_pos (show m_X6_isLift h l from c19), if_neg (show ¬ (k = 0) from c33), if_neg (show ¬ ((z_I h 50 (z_c l)) = k) from c38), if_pos (show k = 1 from c43), if_neg (show ¬ ((z_I h 50 (z_c l)) = 4) from c48), if_pos (show k = 2 from c53), if_neg (show ¬ ((z_I h 50 (z_c l)) = 5) from c58), if_pos (show k = 3 from c63), if_pos (show (z_I h 50 (z_c l)) = 6 from c69)]; first | done | rfl)
    · refine z_bipush (v := (-11)) dX6_taken_22 rfl ?_
      refine z_iret dX6_taken_24 rfl rfl (Nat.le_refl _) (Nat.le_refl _) (z_ri_i ?_ ?_)
      · first | rfl | (unfold m_X6_taken; rw [if_pos (show z_in k 0 6 from c8), if_neg (show ¬ (m_X6_isLift h l) from c19)]; first | done | rfl)
      · first | rfl | (unfold m_X6_taken; rw [if_pos (show z_in k 0 6 from c8), if_neg (show ¬ (m_X6_isLift h l) from c19)]; first | done | rfl)
  · refine z_bipush (v := (-2)) dX6_taken_11 rfl ?_
    refine z_iret dX6_taken_13 rfl rfl (Nat.le_refl _) (Nat.le_refl _) (z_ri_i ?_ ?_)
    · first | rfl | (unfold m_X6_taken; rw [if_neg (show ¬ (z_in k 0 6) from c8)]; first | done | rfl)
    · first | rfl | (unfold m_X6_taken; rw [if_neg (show ¬ (z_in k 0 6) from c8)]; first | done | rfl)
def m_X6_trace (h : z_H) (i : Int32) : Int32 :=
  if z_in i 0 19 then
    if (z_I h 49 65) ≤ i then
      (-1)
    else
      z_I h 80 (z_c i)
  else
    (-1)
theorem c_X6_trace {Γ : z_W} {h : z_H} {i : Int32} (hF : z_F h)  : z_C Γ M_X6_trace (z_rm 2 0 0) [.ref 49, .int i] h (z_ri (m_X6_trace h i) h) := by
  refine z_C.of (by decide +kernel) rfl [some (.ref 49), some (.int i)] (Nat.le_of_ble_eq_true rfl) rfl ?_
  refine z_aload_n dX6_trace_0 rfl rfl ?_
  refine z_iload_n dX6_trace_1 rfl rfl ?_
  refine z_iconst (v := 0) dX6_trace_2 rfl ?_
  refine z_bipush (v := 19) dX6_trace_3 rfl ?_
  refine z_vcall vl_X6_227_6 (c_X6_in hF) dX6_trace_5 rfl rfl (hF.1 49 _ rfl) ⟨by decide, by decide⟩ (Nat.le_of_ble_eq_true rfl) (Nat.le_refl _) (Nat.le_refl _) (z_cI ?_) z_tI
  refine z_bif_eq 28 dX6_trace_8 (by decide) (fun c8 => ?_) (fun c8 => ?_)
  · refine z_iconst (v := (-1)) dX6_trace_28 rfl ?_
    refine z_iret dX6_trace_29 rfl rfl (Nat.le_refl _) (Nat.le_refl _) (z_ri_i ?_ ?_)
    · first | rfl | (unfold m_X6_trace; rw [if_neg (show ¬ (z_in i 0 19) from c8)]; first | done | rfl)
    · first | rfl | (unfold m_X6_trace; rw [if_neg (show ¬ (z_in i 0 19) from c8)]; first | done | rfl)
  · have hi2 := z_ixb (l := i) 19 (by decide) c8
    refine z_iload_n dX6_trace_11 rfl rfl ?_
    refine z_aload_n dX6_trace_12 rfl rfl ?_
    refine z_getI dX6_trace_13 fl_X6_208_6 (hF.1 49 _ rfl) rfl ?_
    refine z_icmp_ge 28 dX6_trace_16 (by decide) (fun c16 => ?_) (fun c16 => ?_)
    · refine z_iconst (v := (-1)) dX6_trace_28 rfl ?_
      refine z_iret dX6_trace_29 rfl rfl (Nat.le_refl _) (Nat.le_refl _) (z_ri_i ?_ ?_)
      · first | rfl | (unfold m_X6_trace; rw [if_pos (show z_in i 0 19 from c8), if_pos (show (z_I h 49 65) ≤ i from c16)]; first | done | rfl)
      · first | rfl | (unfold m_X6_trace; rw [if_pos (show z_in i 0 19 from c8), if_pos (show (z_I h 49 65) ≤ i from c16)]; first | done | rfl)
    · refine z_aload_n dX6_trace_19 rfl rfl ?_
      refine z_getR 80 dX6_trace_20 fl_X6_211_6 (hF.1 49 _ rfl) rfl (hF.2.1 49 66 80 rfl) ?_
      refine z_iload_n dX6_trace_23 rfl rfl ?_
      refine z_iald (z_c i) dX6_trace_24 (hF.1 80 _ rfl) (hi2).1 (by have := hi2.2; omega) (by decide) ?_
      refine z_goto 29 dX6_trace_25 (by decide) ?_
      refine z_iret dX6_trace_29 rfl rfl (Nat.le_refl _) (Nat.le_refl _) (z_ri_i ?_ ?_)
      · first | rfl | (unfold m_X6_trace; rw [if_pos (show z_in i 0 19 from c8), if_neg (show ¬ ((z_I h 49 65) ≤ i) from c16)]; first | done | rfl)
      · first | rfl | (unfold m_X6_trace; rw [if_pos (show z_in i 0 19 from c8), if_neg (show ¬ ((z_I h 49 65) ≤ i) from c16)]; first | done | rfl)
