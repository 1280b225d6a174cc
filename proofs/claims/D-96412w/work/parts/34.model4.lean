/-! THE REFERENCE: flying (printed by model4.py). z_fy h m hi mi: the memory h with mile, height and minutes set -/
set_option maxRecDepth 20000
def z_fy (h : z_H) (m hi mi : Int32) : z_H := z_sI (z_sI (z_sI h 49 2 m) 49 3 hi) 49 1 mi
theorem z_H_ext {g h : z_H} (h1 : ∀ a k, g.1 a k = h.1 a k) (h2 : g.2 = h.2) : g = h := by
  obtain ⟨a, b⟩ := g
  obtain ⟨c, d⟩ := h
  have e1 : a = c := by funext x y; exact h1 x y
  have e2 : b = d := h2
  rw [e1, e2]
theorem z_fy_I (h : z_H) (m hi mi : Int32) (a k : Nat) : (z_fy h m hi mi).1 a k = if a = 49 ∧ k = 1 then mi else if a = 49 ∧ k = 3 then hi else if a = 49 ∧ k = 2 then m else h.1 a k := rfl
theorem z_fy_self (h : z_H) : h = z_fy h (z_I h 49 2) (z_I h 49 3) (z_I h 49 1) := by
  refine z_H_ext (fun a k => ?_) rfl
  rw [z_fy_I]
  split
  · rename_i c; rw [c.1, c.2]; rfl
  · split
    · rename_i c; rw [c.1, c.2]; rfl
    · split
      · rename_i c; rw [c.1, c.2]; rfl
      · rfl
theorem z_fy_sI {h : z_H} {m hi mi v : Int32} {a k : Nat} (hk : ¬ (a = 49 ∧ (k = 1 ∨ k = 2 ∨ k = 3))) : z_sI (z_fy h m hi mi) a k v = z_fy (z_sI h a k v) m hi mi := by
  refine z_H_ext (fun b j => ?_) rfl
  show (if b = a ∧ j = k then v else (z_fy h m hi mi).1 b j) = _
  rw [z_fy_I, z_fy_I]
  show _ = if b = 49 ∧ j = 1 then mi else if b = 49 ∧ j = 3 then hi else if b = 49 ∧ j = 2 then m else if b = a ∧ j = k then v else h.1 b j
  by_cases e : b = a ∧ j = k
  · rw [if_pos e, if_pos e]
    obtain ⟨e1, e2⟩ := e
    subst e1; subst e2
    rw [if_neg (fun q => hk ⟨q.1, Or.inl q.2⟩), if_neg (fun q => hk ⟨q.1, Or.inr (Or.inr q.2)⟩), if_neg (fun q => hk ⟨q.1, Or.inr (Or.inl q.2)⟩)]
  · rw [if_neg e, if_neg e]
theorem z_fy_3 (h : z_H) (m hi mi v : Int32) : z_sI (z_fy h m hi mi) 49 3 v = z_fy h m v mi := by
  refine z_H_ext (fun b j => ?_) rfl
  show (if b = 49 ∧ j = 3 then v else (z_fy h m hi mi).1 b j) = _
  rw [z_fy_I, z_fy_I]
  by_cases e : b = 49 ∧ j = 3
  · rw [if_pos e, if_neg (by omega), if_pos e]
  · rw [if_neg e, if_neg e, if_neg e]
theorem z_fy_1 (h : z_H) (m hi mi v : Int32) : z_sI (z_fy h m hi mi) 49 1 v = z_fy h m hi v := by
  refine z_H_ext (fun b j => ?_) rfl
  show (if b = 49 ∧ j = 1 then v else (z_fy h m hi mi).1 b j) = _
  rw [z_fy_I, z_fy_I]
  by_cases e : b = 49 ∧ j = 1
  · rw [if_pos e, if_pos e]
  · rw [if_neg e, if_neg e, if_neg e]
theorem z_fy_2 (h : z_H) (m hi mi v : Int32) : z_sI (z_fy h m hi mi) 49 2 v = z_fy h v hi mi := by
  refine z_H_ext (fun b j => ?_) rfl
  show (if b = 49 ∧ j = 2 then v else (z_fy h m hi mi).1 b j) = _
  rw [z_fy_I, z_fy_I]
  by_cases e : b = 49 ∧ j = 2
  · rw [if_pos e, if_neg (by omega), if_neg (by omega), if_pos e]
  · rw [if_neg e, if_neg e, if_neg e]
section ZMEQ
variable {Γ : z_W} {M : z_M} {rm : Room} {Q : Outcome → z_H → Prop} {cs ss pc : Nat} {ls : List (Option Value)} {st : List Value} {h : z_H}
theorem z_meq (h' : z_H) (he : h = h') (kk : z_G Γ M rm Q cs ss pc ls st h') : z_G Γ M rm Q cs ss pc ls st h := by rw [he]; exact kk
end ZMEQ
theorem z_tout16 {x : Int32} (h1 : ¬ x = 1) (h2 : ¬ x = 2) (h3 : ¬ x = 3) (h4 : ¬ x = 4) (h5 : ¬ x = 5) (h6 : ¬ x = 6) : x.toInt < 1 ∨ 6 < x.toInt := by
  simp only [← Int32.toInt_inj] at h1 h2 h3 h4 h5 h6
  simp only [show (1 : Int32).toInt = 1 from rfl, show (2 : Int32).toInt = 2 from rfl, show (3 : Int32).toInt = 3 from rfl, show (4 : Int32).toInt = 4 from rfl, show (5 : Int32).toInt = 5 from rfl, show (6 : Int32).toInt = 6 from rfl] at h1 h2 h3 h4 h5 h6
  omega
theorem z_v2 {v : Int32} (h : z_in v 0 9) : ¬ v + 2 = 0 := by
  obtain ⟨e, hle⟩ := z_ixb (l := v) 9 (by decide) h
  rw [e]
  intro q
  have h2 : nI (z_c v + 2) = nI 0 := by rw [← nI_add]; exact q
  have := (nI_eq (by omega) (by decide)).mp h2
  omega
/-- how much one climbs in the lift l, as high and late as it is -/
def a_cl (h : z_H) (l m hi mi : Int32) : Int32 :=
  if (z_I h 50 (z_c l)) = 1 then
    (m_X6_gain (z_fy h m hi mi) l) + ((z_I h 51 (z_c l)) / 2)
  else
    if (z_I h 50 (z_c l)) = 2 then
      (m_X6_gain (z_fy h m hi mi) l) / 2
    else
      if (z_I h 50 (z_c l)) = 3 then
        if mi < 100 then
          m_X6_gain (z_fy h m hi mi) l
        else
          (-2)
      else
        if (z_I h 50 (z_c l)) = 4 then
          if hi ≤ (40 * (z_I h 51 (z_c l))) then
            (m_X6_gain (z_fy h m hi mi) l) + ((z_I h 51 (z_c l)) / 2)
          else
            0
        else
          if (z_I h 50 (z_c l)) = 5 then
            if (mi - mi / ((z_I h 51 (z_c l)) + 2) * ((z_I h 51 (z_c l)) + 2)) = 0 then
              (-1)
            else
              (m_X6_gain (z_fy h m hi mi) l) / 2
          else
            if (z_I h 50 (z_c l)) = 6 then
              if mi < 100 then
                (m_X6_gain (z_fy h m hi mi) l) + (z_I h 54 (4 * z_c l + z_c mi % 4))
              else
                (-2) + (z_I h 54 (4 * z_c l + z_c mi % 4))
            else
              m_X6_gain (z_fy h m hi mi) l
theorem c_X6_climb {Γ : z_W} {h : z_H} {l m hi mi : Int32} (hF : z_F h) (ha : a_av h) (hl : l = nI (z_c l) ∧ z_c l < 6) (hv : z_in (z_I h 51 (z_c l)) 0 9) {B : Nat} (hmi : z_cn mi B) (hB : B < 2 ^ 31) : z_C Γ M_X6_climb (z_rm 4 0 0) [.ref 49, .int l] (z_fy h m hi mi) (z_ri (a_cl h l m hi mi) (z_fy h m hi mi)) := by
  refine z_C.of (by decide +kernel) rfl [some (.ref 49), some (.int l), none] (Nat.le_of_ble_eq_true rfl) rfl ?_
  refine z_aload_n dX6_climb_0 rfl rfl ?_
  refine z_iload_n dX6_climb_1 rfl rfl ?_
  refine z_vcall vl_X6_301_6 (c_X6_gain (h := z_fy h m hi mi) hF ha hl) dX6_climb_2 rfl rfl (hF.1 49 _ rfl) ⟨by decide, by decide⟩ (Nat.le_of_ble_eq_true rfl) (Nat.le_refl _) (Nat.le_refl _) (z_cI ?_) z_tI
  refine z_istore_n dX6_climb_5 rfl (by decide) rfl ?_
  refine z_aload_n dX6_climb_6 rfl rfl ?_
  refine z_getR 50 dX6_climb_7 fl_X6_28_6 (hF.1 49 _ rfl) rfl (hF.2.1 49 6 50 rfl) ?_
  refine z_iload_n dX6_climb_10 rfl rfl ?_
  refine z_iald (z_c l) dX6_climb_11 (hF.1 50 _ rfl) (hl).1 (by have := (hl).2; omega) (by decide) ?_
  refine z_eqi (z_I h 50 (z_c l)) rfl ?_
  by_cases e12_0 : (z_I h 50 (z_c l)) = 1
  · refine z_tableIn 1 52 dX6_climb_12 e12_0 (by decide) (by decide) rfl (by decide) ?_
    refine z_iload_n dX6_climb_52 rfl rfl ?_
    refine z_aload_n dX6_climb_53 rfl rfl ?_
    refine z_getR 51 dX6_climb_54 fl_X6_32_6 (hF.1 49 _ rfl) rfl (hF.2.1 49 7 51 rfl) ?_
    refine z_iload_n dX6_climb_57 rfl rfl ?_
    refine z_iald (z_c l) dX6_climb_58 (hF.1 51 _ rfl) (hl).1 (by have := (hl).2; omega) (by decide) ?_
    refine z_eqi (z_I h 51 (z_c l)) rfl ?_
    refine z_iconst (v := 2) dX6_climb_59 rfl ?_
    refine z_idiv dX6_climb_60 (by decide) ?_
    refine z_iadd dX6_climb_61 ?_
    refine z_iret dX6_climb_62 rfl rfl (Nat.le_refl _) (Nat.le_refl _) (z_ri_i ?_ ?_)
    · unfold a_cl; rw [if_pos (show (z_I h 50 (z_c l)) = 1 from e12_0)]
    · rfl
  by_cases e12_1 : (z_I h 50 (z_c l)) = 2
  · refine z_tableIn 2 63 dX6_climb_12 e12_1 (by decide) (by decide) rfl (by decide) ?_
    refine z_iload_n dX6_climb_63 rfl rfl ?_
    refine z_iconst (v := 2) dX6_climb_64 rfl ?_
    refine z_idiv dX6_climb_65 (by decide) ?_
    refine z_iret dX6_climb_66 rfl rfl (Nat.le_refl _) (Nat.le_refl _) (z_ri_i ?_ ?_)
    · unfold a_cl; rw [if_neg (show ¬ ((z_I h 50 (z_c l)) = 1) from e12_0), if_pos (show (z_I h 50 (z_c l)) = 2 from e12_1)]
    · rfl
  by_cases e12_2 : (z_I h 50 (z_c l)) = 3
  · refine z_tableIn 3 67 dX6_climb_12 e12_2 (by decide) (by decide) rfl (by decide) ?_
    refine z_aload_n dX6_climb_67 rfl rfl ?_
    refine z_getI dX6_climb_68 fl_X6_13_6 (hF.1 49 _ rfl) rfl ?_
    refine z_eqi (mi) rfl ?_
    refine z_bipush (v := 100) dX6_climb_71 rfl ?_
    refine z_icmp_lt 81 dX6_climb_73 (by decide) (fun c73 => ?_) (fun c73 => ?_)
    · refine z_iload_n dX6_climb_81 rfl rfl ?_
      refine z_iret dX6_climb_82 rfl rfl (Nat.le_refl _) (Nat.le_refl _) (z_ri_i ?_ ?_)
      · unfold a_cl; rw [if_neg (show ¬ ((z_I h 50 (z_c l)) = 1) from e12_0), if_neg (show ¬ ((z_I h 50 (z_c l)) = 2) from e12_1), if_pos (show (z_I h 50 (z_c l)) = 3 from e12_2), if_pos (show mi < 100 from c73)]
      · rfl
    · refine z_bipush (v := (-2)) dX6_climb_76 rfl ?_
      refine z_goto 82 dX6_climb_78 (by decide) ?_
      refine z_iret dX6_climb_82 rfl rfl (Nat.le_refl _) (Nat.le_refl _) (z_ri_i ?_ ?_)
      · unfold a_cl; rw [if_neg (show ¬ ((z_I h 50 (z_c l)) = 1) from e12_0), if_neg (show ¬ ((z_I h 50 (z_c l)) = 2) from e12_1), if_pos (show (z_I h 50 (z_c l)) = 3 from e12_2), if_neg (show ¬ (mi < 100) from c73)]
      · rfl
  by_cases e12_3 : (z_I h 50 (z_c l)) = 4
  · refine z_tableIn 4 83 dX6_climb_12 e12_3 (by decide) (by decide) rfl (by decide) ?_
    refine z_aload_n dX6_climb_83 rfl rfl ?_
    refine z_getI dX6_climb_84 fl_X6_19_6 (hF.1 49 _ rfl) rfl ?_
    refine z_eqi (hi) rfl ?_
    refine z_bipush (v := 40) dX6_climb_87 rfl ?_
    refine z_aload_n dX6_climb_89 rfl rfl ?_
    refine z_getR 51 dX6_climb_90 fl_X6_32_6 (hF.1 49 _ rfl) rfl (hF.2.1 49 7 51 rfl) ?_
    refine z_iload_n dX6_climb_93 rfl rfl ?_
    refine z_iald (z_c l) dX6_climb_94 (hF.1 51 _ rfl) (hl).1 (by have := (hl).2; omega) (by decide) ?_
    refine z_eqi (z_I h 51 (z_c l)) rfl ?_
    refine z_imul dX6_climb_95 ?_
    refine z_icmp_le 103 dX6_climb_96 (by decide) (fun c96 => ?_) (fun c96 => ?_)
    · refine z_iload_n dX6_climb_103 rfl rfl ?_
      refine z_aload_n dX6_climb_104 rfl rfl ?_
      refine z_getR 51 dX6_climb_105 fl_X6_32_6 (hF.1 49 _ rfl) rfl (hF.2.1 49 7 51 rfl) ?_
      refine z_iload_n dX6_climb_108 rfl rfl ?_
      refine z_iald (z_c l) dX6_climb_109 (hF.1 51 _ rfl) (hl).1 (by have := (hl).2; omega) (by decide) ?_
      refine z_eqi (z_I h 51 (z_c l)) rfl ?_
      refine z_iconst (v := 2) dX6_climb_110 rfl ?_
      refine z_idiv dX6_climb_111 (by decide) ?_
      refine z_iadd dX6_climb_112 ?_
      refine z_iret dX6_climb_113 rfl rfl (Nat.le_refl _) (Nat.le_refl _) (z_ri_i ?_ ?_)
      · unfold a_cl; rw [if_neg (show ¬ ((z_I h 50 (z_c l)) = 1) from e12_0), if_neg (show ¬ ((z_I h 50 (z_c l)) = 2) from e12_1), if_neg (show ¬ ((z_I h 50 (z_c l)) = 3) from e12_2), if_pos (show (z_I h 50 (z_c l)) = 4 from e12_3), if_pos (show hi ≤ (40 * (z_I h 51 (z_c l))) from c96)]
      · rfl
    · refine z_iconst (v := 0) dX6_climb_99 rfl ?_
      refine z_goto 113 dX6_climb_100 (by decide) ?_
      refine z_iret dX6_climb_113 rfl rfl (Nat.le_refl _) (Nat.le_refl _) (z_ri_i ?_ ?_)
      · unfold a_cl; rw [if_neg (show ¬ ((z_I h 50 (z_c l)) = 1) from e12_0), if_neg (show ¬ ((z_I h 50 (z_c l)) = 2) from e12_1), if_neg (show ¬ ((z_I h 50 (z_c l)) = 3) from e12_2), if_pos (show (z_I h 50 (z_c l)) = 4 from e12_3), if_neg (show ¬ (hi ≤ (40 * (z_I h 51 (z_c l)))) from c96)]
      · rfl
  by_cases e12_4 : (z_I h 50 (z_c l)) = 5
  · refine z_tableIn 5 114 dX6_climb_12 e12_4 (by decide) (by decide) rfl (by decide) ?_
    refine z_aload_n dX6_climb_114 rfl rfl ?_
    refine z_getI dX6_climb_115 fl_X6_13_6 (hF.1 49 _ rfl) rfl ?_
    refine z_eqi (mi) rfl ?_
    refine z_aload_n dX6_climb_118 rfl rfl ?_
    refine z_getR 51 dX6_climb_119 fl_X6_32_6 (hF.1 49 _ rfl) rfl (hF.2.1 49 7 51 rfl) ?_
    refine z_iload_n dX6_climb_122 rfl rfl ?_
    refine z_iald (z_c l) dX6_climb_123 (hF.1 51 _ rfl) (hl).1 (by have := (hl).2; omega) (by decide) ?_
    refine z_eqi (z_I h 51 (z_c l)) rfl ?_
    refine z_iconst (v := 2) dX6_climb_124 rfl ?_
    refine z_iadd dX6_climb_125 ?_
    refine z_irem dX6_climb_126 (z_v2 hv) ?_
    refine z_if_ne 134 dX6_climb_127 (by decide) (fun c127 => ?_) (fun c127 => ?_)
    · refine z_iload_n dX6_climb_134 rfl rfl ?_
      refine z_iconst (v := 2) dX6_climb_135 rfl ?_
      refine z_idiv dX6_climb_136 (by decide) ?_
      refine z_iret dX6_climb_137 rfl rfl (Nat.le_refl _) (Nat.le_refl _) (z_ri_i ?_ ?_)
      · unfold a_cl; rw [if_neg (show ¬ ((z_I h 50 (z_c l)) = 1) from e12_0), if_neg (show ¬ ((z_I h 50 (z_c l)) = 2) from e12_1), if_neg (show ¬ ((z_I h 50 (z_c l)) = 3) from e12_2), if_neg (show ¬ ((z_I h 50 (z_c l)) = 4) from e12_3), if_pos (show (z_I h 50 (z_c l)) = 5 from e12_4), if_neg (show ¬ ((mi - mi / ((z_I h 51 (z_c l)) + 2) * ((z_I h 51 (z_c l)) + 2)) = 0) from c127)]
      · rfl
    · refine z_iconst (v := (-1)) dX6_climb_130 rfl ?_
      refine z_goto 137 dX6_climb_131 (by decide) ?_
      refine z_iret dX6_climb_137 rfl rfl (Nat.le_refl _) (Nat.le_refl _) (z_ri_i ?_ ?_)
      · unfold a_cl; rw [if_neg (show ¬ ((z_I h 50 (z_c l)) = 1) from e12_0), if_neg (show ¬ ((z_I h 50 (z_c l)) = 2) from e12_1), if_neg (show ¬ ((z_I h 50 (z_c l)) = 3) from e12_2), if_neg (show ¬ ((z_I h 50 (z_c l)) = 4) from e12_3), if_pos (show (z_I h 50 (z_c l)) = 5 from e12_4), if_pos (show (mi - mi / ((z_I h 51 (z_c l)) + 2) * ((z_I h 51 (z_c l)) + 2)) = 0 from c127)]
      · rfl
  by_cases e12_5 : (z_I h 50 (z_c l)) = 6
  · refine z_tableIn 6 138 dX6_climb_12 e12_5 (by decide) (by decide) rfl (by decide) ?_
    refine z_aload_n dX6_climb_138 rfl rfl ?_
    refine z_getI dX6_climb_139 fl_X6_13_6 (hF.1 49 _ rfl) rfl ?_
    refine z_eqi (mi) rfl ?_
    refine z_bipush (v := 100) dX6_climb_142 rfl ?_
    refine z_icmp_lt 152 dX6_climb_144 (by decide) (fun c144 => ?_) (fun c144 => ?_)
    · refine z_iload_n dX6_climb_152 rfl rfl ?_
      refine z_aload_n dX6_climb_153 rfl rfl ?_
      refine z_getR 54 dX6_climb_154 fl_X6_41_6 (hF.1 49 _ rfl) rfl (hF.2.1 49 10 54 rfl) ?_
      refine z_iconst (v := 4) dX6_climb_157 rfl ?_
      refine z_iload_n dX6_climb_158 rfl rfl ?_
      refine z_imul dX6_climb_159 ?_
      refine z_aload_n dX6_climb_160 rfl rfl ?_
      refine z_getI dX6_climb_161 fl_X6_13_6 (hF.1 49 _ rfl) rfl ?_
      refine z_eqi (mi) rfl ?_
      refine z_iconst (v := 4) dX6_climb_164 rfl ?_
      refine z_irem dX6_climb_165 (by decide) ?_
      refine z_iadd dX6_climb_166 ?_
      refine z_iald (4 * z_c l + z_c mi % 4) dX6_climb_167 (hF.1 54 _ rfl) (by rw [← nI_add, ← pk_mul, ← hl.1, ← pk_rem (by have := hmi.2; omega) (by decide) (by decide), ← hmi.1]; rfl) (by have := hl.2; have := Nat.mod_lt (z_c mi) (show 4 > 0 by decide); omega) (by decide) ?_
      refine z_eqi (z_I h 54 (4 * z_c l + z_c mi % 4)) rfl ?_
      refine z_iadd dX6_climb_168 ?_
      refine z_iret dX6_climb_169 rfl rfl (Nat.le_refl _) (Nat.le_refl _) (z_ri_i ?_ ?_)
      · unfold a_cl; rw [if_neg (show ¬ ((z_I h 50 (z_c l)) = 1) from e12_0), if_neg (show ¬ ((z_I h 50 (z_c l)) = 2) from e12_1), if_neg (show ¬ ((z_I h 50 (z_c l)) = 3) from e12_2), if_neg (show ¬ ((z_I h 50 (z_c l)) = 4) from e12_3), if_neg (show ¬ ((z_I h 50 (z_c l)) = 5) from e12_4), if_pos (show (z_I h 50 (z_c l)) = 6 from e12_5), if_pos (show mi < 100 from c144)]
      · rfl
    · refine z_bipush (v := (-2)) dX6_climb_147 rfl ?_
      refine z_goto 153 dX6_climb_149 (by decide) ?_
      refine z_aload_n dX6_climb_153 rfl rfl ?_
      refine z_getR 54 dX6_climb_154 fl_X6_41_6 (hF.1 49 _ rfl) rfl (hF.2.1 49 10 54 rfl) ?_
      refine z_iconst (v := 4) dX6_climb_157 rfl ?_
      refine z_iload_n dX6_climb_158 rfl rfl ?_
      refine z_imul dX6_climb_159 ?_
      refine z_aload_n dX6_climb_160 rfl rfl ?_
      refine z_getI dX6_climb_161 fl_X6_13_6 (hF.1 49 _ rfl) rfl ?_
      refine z_eqi (mi) rfl ?_
      refine z_iconst (v := 4) dX6_climb_164 rfl ?_
      refine z_irem dX6_climb_165 (by decide) ?_
      refine z_iadd dX6_climb_166 ?_
      refine z_iald (4 * z_c l + z_c mi % 4) dX6_climb_167 (hF.1 54 _ rfl) (by rw [← nI_add, ← pk_mul, ← hl.1, ← pk_rem (by have := hmi.2; omega) (by decide) (by decide), ← hmi.1]; rfl) (by have := hl.2; have := Nat.mod_lt (z_c mi) (show 4 > 0 by decide); omega) (by decide) ?_
      refine z_eqi (z_I h 54 (4 * z_c l + z_c mi % 4)) rfl ?_
      refine z_iadd dX6_climb_168 ?_
      refine z_iret dX6_climb_169 rfl rfl (Nat.le_refl _) (Nat.le_refl _) (z_ri_i ?_ ?_)
      · unfold a_cl; rw [if_neg (show ¬ ((z_I h 50 (z_c l)) = 1) from e12_0), if_neg (show ¬ ((z_I h 50 (z_c l)) = 2) from e12_1), if_neg (show ¬ ((z_I h 50 (z_c l)) = 3) from e12_2), if_neg (show ¬ ((z_I h 50 (z_c l)) = 4) from e12_3), if_neg (show ¬ ((z_I h 50 (z_c l)) = 5) from e12_4), if_pos (show (z_I h 50 (z_c l)) = 6 from e12_5), if_neg (show ¬ (mi < 100) from c144)]
      · rfl
  refine z_tableOut 170 dX6_climb_12 (z_tout16 e12_0 e12_1 e12_2 e12_3 e12_4 e12_5) (by decide) ?_
  refine z_iload_n dX6_climb_170 rfl rfl ?_
  refine z_iret dX6_climb_171 rfl rfl (Nat.le_refl _) (Nat.le_refl _) (z_ri_i ?_ ?_)
  · unfold a_cl; rw [if_neg (show ¬ ((z_I h 50 (z_c l)) = 1) from e12_0), if_neg (show ¬ ((z_I h 50 (z_c l)) = 2) from e12_1), if_neg (show ¬ ((z_I h 50 (z_c l)) = 3) from e12_2), if_neg (show ¬ ((z_I h 50 (z_c l)) = 4) from e12_3), if_neg (show ¬ ((z_I h 50 (z_c l)) = 5) from e12_4), if_neg (show ¬ ((z_I h 50 (z_c l)) = 6) from e12_5)]
  · rfl
/-- how high one is a minute later in the lift l -/
def a_hi (h : z_H) (l m hi mi : Int32) : Int32 :=
  if (m_X6_base h) ≤ hi then
    if (a_cl h l m hi mi) ≤ 0 then
      if 0 ≤ (hi + (a_cl h l m hi mi)) then
        hi + (a_cl h l m hi mi)
      else
        0
    else
      if (hi + (a_cl h l m hi mi)) ≤ hi then
        if 0 ≤ (hi + (a_cl h l m hi mi)) then
          hi + (a_cl h l m hi mi)
        else
          0
      else
        hi
  else
    if (a_cl h l m hi mi) ≤ 0 then
      if 0 ≤ (hi + (a_cl h l m hi mi)) then
        hi + (a_cl h l m hi mi)
      else
        0
    else
      if (hi + (a_cl h l m hi mi)) ≤ (m_X6_base h) then
        if 0 ≤ (hi + (a_cl h l m hi mi)) then
          hi + (a_cl h l m hi mi)
        else
          0
      else
        m_X6_base h
theorem c_X6_goMinute {Γ : z_W} {h : z_H} {l m hi mi : Int32} (hF : z_F h) (ha : a_av h) (hl : l = nI (z_c l) ∧ z_c l < 6) (hv : z_in (z_I h 51 (z_c l)) 0 9) {B : Nat} (hmi : z_cn mi B) (hB : B < 2 ^ 31) : z_C Γ M_X6_goMinute (z_rm 5 0 0) [.ref 49, .int l] (z_fy h m hi mi) (z_rv (z_fy h m (a_hi h l m hi mi) (mi + 1))) := by
  refine z_C.of (by decide +kernel) rfl [some (.ref 49), some (.int l), none, none, none] (Nat.le_of_ble_eq_true rfl) rfl ?_
  refine z_aload_n dX6_goMinute_0 rfl rfl ?_
  refine z_iload_n dX6_goMinute_1 rfl rfl ?_
  refine z_vcall vl_X6_304_6 (c_X6_climb hF ha hl hv hmi hB) dX6_goMinute_2 rfl rfl (hF.1 49 _ rfl) ⟨by decide, by decide⟩ (Nat.le_of_ble_eq_true rfl) (Nat.le_refl _) (Nat.le_refl _) (z_cI ?_) z_tI
  refine z_istore_n dX6_goMinute_5 rfl (by decide) rfl ?_
  refine z_aload_n dX6_goMinute_6 rfl rfl ?_
  refine z_vcall vl_X6_307_6 (c_X6_base (h := z_fy h m hi mi) hF ha) dX6_goMinute_7 rfl rfl (hF.1 49 _ rfl) ⟨by decide, by decide⟩ (Nat.le_of_ble_eq_true rfl) (Nat.le_refl _) (Nat.le_refl _) (z_cI ?_) z_tI
  refine z_eqi (m_X6_base h) rfl ?_
  refine z_aload_n dX6_goMinute_10 rfl rfl ?_
  refine z_getI dX6_goMinute_11 fl_X6_19_6 (hF.1 49 _ rfl) rfl ?_
  refine z_eqi (hi) rfl ?_
  refine z_icmp_le 24 dX6_goMinute_14 (by decide) (fun c14 => ?_) (fun c14 => ?_)
  · refine z_aload_n dX6_goMinute_24 rfl rfl ?_
    refine z_getI dX6_goMinute_25 fl_X6_19_6 (hF.1 49 _ rfl) rfl ?_
    refine z_eqi (hi) rfl ?_
    refine z_istore_n dX6_goMinute_28 rfl (by decide) rfl ?_
    refine z_aload_n dX6_goMinute_29 rfl rfl ?_
    refine z_getI dX6_goMinute_30 fl_X6_19_6 (hF.1 49 _ rfl) rfl ?_
    refine z_eqi (hi) rfl ?_
    refine z_iload_n dX6_goMinute_33 rfl rfl ?_
    refine z_iadd dX6_goMinute_34 ?_
    refine z_istore dX6_goMinute_35 (by decide) rfl ?_
    refine z_aload_n dX6_goMinute_37 rfl rfl ?_
    refine z_iload_n dX6_goMinute_38 rfl rfl ?_
    refine z_if_le 52 dX6_goMinute_39 (by decide) (fun c39 => ?_) (fun c39 => ?_)
    · refine z_iload dX6_goMinute_52 rfl ?_
      refine z_if_ge 61 dX6_goMinute_54 (by decide) (fun c54 => ?_) (fun c54 => ?_)
      · refine z_iload dX6_goMinute_61 rfl ?_
        refine z_putI dX6_goMinute_63 (pl_X6_19_6 rfl) (hF.1 49 _ rfl) (by decide) rfl ?_
        refine z_meq (z_fy h m (hi + (a_cl h l m hi mi)) mi) (z_fy_3 _ _ _ _ _) ?_
        refine z_aload_n dX6_goMinute_66 rfl rfl ?_
        refine z_dup dX6_goMinute_67 rfl ?_
        refine z_getI dX6_goMinute_68 fl_X6_13_6 (hF.1 49 _ rfl) rfl ?_
        refine z_eqi (mi) rfl ?_
        refine z_iconst (v := 1) dX6_goMinute_71 rfl ?_
        refine z_iadd dX6_goMinute_72 ?_
        refine z_putI dX6_goMinute_73 (pl_X6_13_6 rfl) (hF.1 49 _ rfl) (by decide) rfl ?_
        refine z_meq (z_fy h m (hi + (a_cl h l m hi mi)) (mi + 1)) (z_fy_1 _ _ _ _ _) ?_
        refine z_vret dX6_goMinute_76 rfl (Nat.le_refl _) (Nat.le_refl _) (z_rv_i ?_)
        unfold a_hi; rw [if_pos (show (m_X6_base h) ≤ hi from c14), if_pos (show (a_cl h l m hi mi) ≤ 0 from c39), if_pos (show 0 ≤ (hi + (a_cl h l m hi mi)) from c54)]
      · refine z_iconst (v := 0) dX6_goMinute_57 rfl ?_
        refine z_goto 63 dX6_goMinute_58 (by decide) ?_
        refine z_putI dX6_goMinute_63 (pl_X6_19_6 rfl) (hF.1 49 _ rfl) (by decide) rfl ?_
        refine z_meq (z_fy h m 0 mi) (z_fy_3 _ _ _ _ _) ?_
        refine z_aload_n dX6_goMinute_66 rfl rfl ?_
        refine z_dup dX6_goMinute_67 rfl ?_
        refine z_getI dX6_goMinute_68 fl_X6_13_6 (hF.1 49 _ rfl) rfl ?_
        refine z_eqi (mi) rfl ?_
        refine z_iconst (v := 1) dX6_goMinute_71 rfl ?_
        refine z_iadd dX6_goMinute_72 ?_
        refine z_putI dX6_goMinute_73 (pl_X6_13_6 rfl) (hF.1 49 _ rfl) (by decide) rfl ?_
        refine z_meq (z_fy h m 0 (mi + 1)) (z_fy_1 _ _ _ _ _) ?_
        refine z_vret dX6_goMinute_76 rfl (Nat.le_refl _) (Nat.le_refl _) (z_rv_i ?_)
        unfold a_hi; rw [if_pos (show (m_X6_base h) ≤ hi from c14), if_pos (show (a_cl h l m hi mi) ≤ 0 from c39), if_neg (show ¬ (0 ≤ (hi + (a_cl h l m hi mi))) from c54)]
    · refine z_iload dX6_goMinute_42 rfl ?_
      refine z_iload_n dX6_goMinute_44 rfl rfl ?_
      refine z_icmp_le 52 dX6_goMinute_45 (by decide) (fun c45 => ?_) (fun c45 => ?_)
      · refine z_iload dX6_goMinute_52 rfl ?_
        refine z_if_ge 61 dX6_goMinute_54 (by decide) (fun c54 => ?_) (fun c54 => ?_)
        · refine z_iload dX6_goMinute_61 rfl ?_
          refine z_putI dX6_goMinute_63 (pl_X6_19_6 rfl) (hF.1 49 _ rfl) (by decide) rfl ?_
          refine z_meq (z_fy h m (hi + (a_cl h l m hi mi)) mi) (z_fy_3 _ _ _ _ _) ?_
          refine z_aload_n dX6_goMinute_66 rfl rfl ?_
          refine z_dup dX6_goMinute_67 rfl ?_
          refine z_getI dX6_goMinute_68 fl_X6_13_6 (hF.1 49 _ rfl) rfl ?_
          refine z_eqi (mi) rfl ?_
          refine z_iconst (v := 1) dX6_goMinute_71 rfl ?_
          refine z_iadd dX6_goMinute_72 ?_
          refine z_putI dX6_goMinute_73 (pl_X6_13_6 rfl) (hF.1 49 _ rfl) (by decide) rfl ?_
          refine z_meq (z_fy h m (hi + (a_cl h l m hi mi)) (mi + 1)) (z_fy_1 _ _ _ _ _) ?_
          refine z_vret dX6_goMinute_76 rfl (Nat.le_refl _) (Nat.le_refl _) (z_rv_i ?_)
          unfold a_hi; rw [if_pos (show (m_X6_base h) ≤ hi from c14), if_neg (show ¬ ((a_cl h l m hi mi) ≤ 0) from c39), if_pos (show (hi + (a_cl h l m hi mi)) ≤ hi from c45), if_pos (show 0 ≤ (hi + (a_cl h l m hi mi)) from c54)]
        · refine z_iconst (v := 0) dX6_goMinute_57 rfl ?_
          refine z_goto 63 dX6_goMinute_58 (by decide) ?_
          refine z_putI dX6_goMinute_63 (pl_X6_19_6 rfl) (hF.1 49 _ rfl) (by decide) rfl ?_
          refine z_meq (z_fy h m 0 mi) (z_fy_3 _ _ _ _ _) ?_
          refine z_aload_n dX6_goMinute_66 rfl rfl ?_
          refine z_dup dX6_goMinute_67 rfl ?_
          refine z_getI dX6_goMinute_68 fl_X6_13_6 (hF.1 49 _ rfl) rfl ?_
          refine z_eqi (mi) rfl ?_
          refine z_iconst (v := 1) dX6_goMinute_71 rfl ?_
          refine z_iadd dX6_goMinute_72 ?_
          refine z_putI dX6_goMinute_73 (pl_X6_13_6 rfl) (hF.1 49 _ rfl) (by decide) rfl ?_
          refine z_meq (z_fy h m 0 (mi + 1)) (z_fy_1 _ _ _ _ _) ?_
          refine z_vret dX6_goMinute_76 rfl (Nat.le_refl _) (Nat.le_refl _) (z_rv_i ?_)
          unfold a_hi; rw [if_pos (show (m_X6_base h) ≤ hi from c14), if_neg (show ¬ ((a_cl h l m hi mi) ≤ 0) from c39), if_pos (show (hi + (a_cl h l m hi mi)) ≤ hi from c45), if_neg (show ¬ (0 ≤ (hi + (a_cl h l m hi mi))) from c54)]
      · refine z_iload_n dX6_goMinute_48 rfl rfl ?_
        refine z_goto 63 dX6_goMinute_49 (by decide) ?_
        refine z_putI dX6_goMinute_63 (pl_X6_19_6 rfl) (hF.1 49 _ rfl) (by decide) rfl ?_
        refine z_meq (z_fy h m hi mi) (z_fy_3 _ _ _ _ _) ?_
        refine z_aload_n dX6_goMinute_66 rfl rfl ?_
        refine z_dup dX6_goMinute_67 rfl ?_
        refine z_getI dX6_goMinute_68 fl_X6_13_6 (hF.1 49 _ rfl) rfl ?_
        refine z_eqi (mi) rfl ?_
        refine z_iconst (v := 1) dX6_goMinute_71 rfl ?_
        refine z_iadd dX6_goMinute_72 ?_
        refine z_putI dX6_goMinute_73 (pl_X6_13_6 rfl) (hF.1 49 _ rfl) (by decide) rfl ?_
        refine z_meq (z_fy h m hi (mi + 1)) (z_fy_1 _ _ _ _ _) ?_
        refine z_vret dX6_goMinute_76 rfl (Nat.le_refl _) (Nat.le_refl _) (z_rv_i ?_)
        unfold a_hi; rw [if_pos (show (m_X6_base h) ≤ hi from c14), if_neg (show ¬ ((a_cl h l m hi mi) ≤ 0) from c39), if_neg (show ¬ ((hi + (a_cl h l m hi mi)) ≤ hi) from c45)]
  · refine z_aload_n dX6_goMinute_17 rfl rfl ?_
    refine z_vcall vl_X6_307_6 (c_X6_base (h := z_fy h m hi mi) hF ha) dX6_goMinute_18 rfl rfl (hF.1 49 _ rfl) ⟨by decide, by decide⟩ (Nat.le_of_ble_eq_true rfl) (Nat.le_refl _) (Nat.le_refl _) (z_cI ?_) z_tI
    refine z_eqi (m_X6_base h) rfl ?_
    refine z_goto 28 dX6_goMinute_21 (by decide) ?_
    refine z_istore_n dX6_goMinute_28 rfl (by decide) rfl ?_
    refine z_aload_n dX6_goMinute_29 rfl rfl ?_
    refine z_getI dX6_goMinute_30 fl_X6_19_6 (hF.1 49 _ rfl) rfl ?_
    refine z_eqi (hi) rfl ?_
    refine z_iload_n dX6_goMinute_33 rfl rfl ?_
    refine z_iadd dX6_goMinute_34 ?_
    refine z_istore dX6_goMinute_35 (by decide) rfl ?_
    refine z_aload_n dX6_goMinute_37 rfl rfl ?_
    refine z_iload_n dX6_goMinute_38 rfl rfl ?_
    refine z_if_le 52 dX6_goMinute_39 (by decide) (fun c39 => ?_) (fun c39 => ?_)
    · refine z_iload dX6_goMinute_52 rfl ?_
      refine z_if_ge 61 dX6_goMinute_54 (by decide) (fun c54 => ?_) (fun c54 => ?_)
      · refine z_iload dX6_goMinute_61 rfl ?_
        refine z_putI dX6_goMinute_63 (pl_X6_19_6 rfl) (hF.1 49 _ rfl) (by decide) rfl ?_
        refine z_meq (z_fy h m (hi + (a_cl h l m hi mi)) mi) (z_fy_3 _ _ _ _ _) ?_
        refine z_aload_n dX6_goMinute_66 rfl rfl ?_
        refine z_dup dX6_goMinute_67 rfl ?_
        refine z_getI dX6_goMinute_68 fl_X6_13_6 (hF.1 49 _ rfl) rfl ?_
        refine z_eqi (mi) rfl ?_
        refine z_iconst (v := 1) dX6_goMinute_71 rfl ?_
        refine z_iadd dX6_goMinute_72 ?_
        refine z_putI dX6_goMinute_73 (pl_X6_13_6 rfl) (hF.1 49 _ rfl) (by decide) rfl ?_
        refine z_meq (z_fy h m (hi + (a_cl h l m hi mi)) (mi + 1)) (z_fy_1 _ _ _ _ _) ?_
        refine z_vret dX6_goMinute_76 rfl (Nat.le_refl _) (Nat.le_refl _) (z_rv_i ?_)
        unfold a_hi; rw [if_neg (show ¬ ((m_X6_base h) ≤ hi) from c14), if_pos (show (a_cl h l m hi mi) ≤ 0 from c39), if_pos (show 0 ≤ (hi + (a_cl h l m hi mi)) from c54)]
      · refine z_iconst (v := 0) dX6_goMinute_57 rfl ?_
        refine z_goto 63 dX6_goMinute_58 (by decide) ?_
        refine z_putI dX6_goMinute_63 (pl_X6_19_6 rfl) (hF.1 49 _ rfl) (by decide) rfl ?_
        refine z_meq (z_fy h m 0 mi) (z_fy_3 _ _ _ _ _) ?_
        refine z_aload_n dX6_goMinute_66 rfl rfl ?_
        refine z_dup dX6_goMinute_67 rfl ?_
        refine z_getI dX6_goMinute_68 fl_X6_13_6 (hF.1 49 _ rfl) rfl ?_
        refine z_eqi (mi) rfl ?_
        refine z_iconst (v := 1) dX6_goMinute_71 rfl ?_
        refine z_iadd dX6_goMinute_72 ?_
        refine z_putI dX6_goMinute_73 (pl_X6_13_6 rfl) (hF.1 49 _ rfl) (by decide) rfl ?_
        refine z_meq (z_fy h m 0 (mi + 1)) (z_fy_1 _ _ _ _ _) ?_
        refine z_vret dX6_goMinute_76 rfl (Nat.le_refl _) (Nat.le_refl _) (z_rv_i ?_)
        unfold a_hi; rw [if_neg (show ¬ ((m_X6_base h) ≤ hi) from c14), if_pos (show (a_cl h l m hi mi) ≤ 0 from c39), if_neg (show ¬ (0 ≤ (hi + (a_cl h l m hi mi))) from c54)]
    · refine z_iload dX6_goMinute_42 rfl ?_
      refine z_iload_n dX6_goMinute_44 rfl rfl ?_
      refine z_icmp_le 52 dX6_goMinute_45 (by decide) (fun c45 => ?_) (fun c45 => ?_)
      · refine z_iload dX6_goMinute_52 rfl ?_
        refine z_if_ge 61 dX6_goMinute_54 (by decide) (fun c54 => ?_) (fun c54 => ?_)
        · refine z_iload dX6_goMinute_61 rfl ?_
          refine z_putI dX6_goMinute_63 (pl_X6_19_6 rfl) (hF.1 49 _ rfl) (by decide) rfl ?_
          refine z_meq (z_fy h m (hi + (a_cl h l m hi mi)) mi) (z_fy_3 _ _ _ _ _) ?_
          refine z_aload_n dX6_goMinute_66 rfl rfl ?_
          refine z_dup dX6_goMinute_67 rfl ?_
          refine z_getI dX6_goMinute_68 fl_X6_13_6 (hF.1 49 _ rfl) rfl ?_
          refine z_eqi (mi) rfl ?_
          refine z_iconst (v := 1) dX6_goMinute_71 rfl ?_
          refine z_iadd dX6_goMinute_72 ?_
          refine z_putI dX6_goMinute_73 (pl_X6_13_6 rfl) (hF.1 49 _ rfl) (by decide) rfl ?_
          refine z_meq (z_fy h m (hi + (a_cl h l m hi mi)) (mi + 1)) (z_fy_1 _ _ _ _ _) ?_
          refine z_vret dX6_goMinute_76 rfl (Nat.le_refl _) (Nat.le_refl _) (z_rv_i ?_)
          unfold a_hi; rw [if_neg (show ¬ ((m_X6_base h) ≤ hi) from c14), if_neg (show ¬ ((a_cl h l m hi mi) ≤ 0) from c39), if_pos (show (hi + (a_cl h l m hi mi)) ≤ (m_X6_base h) from c45), if_pos (show 0 ≤ (hi + (a_cl h l m hi mi)) from c54)]
        · refine z_iconst (v := 0) dX6_goMinute_57 rfl ?_
          refine z_goto 63 dX6_goMinute_58 (by decide) ?_
          refine z_putI dX6_goMinute_63 (pl_X6_19_6 rfl) (hF.1 49 _ rfl) (by decide) rfl ?_
          refine z_meq (z_fy h m 0 mi) (z_fy_3 _ _ _ _ _) ?_
          refine z_aload_n dX6_goMinute_66 rfl rfl ?_
          refine z_dup dX6_goMinute_67 rfl ?_
          refine z_getI dX6_goMinute_68 fl_X6_13_6 (hF.1 49 _ rfl) rfl ?_
          refine z_eqi (mi) rfl ?_
          refine z_iconst (v := 1) dX6_goMinute_71 rfl ?_
          refine z_iadd dX6_goMinute_72 ?_
          refine z_putI dX6_goMinute_73 (pl_X6_13_6 rfl) (hF.1 49 _ rfl) (by decide) rfl ?_
          refine z_meq (z_fy h m 0 (mi + 1)) (z_fy_1 _ _ _ _ _) ?_
          refine z_vret dX6_goMinute_76 rfl (Nat.le_refl _) (Nat.le_refl _) (z_rv_i ?_)
          unfold a_hi; rw [if_neg (show ¬ ((m_X6_base h) ≤ hi) from c14), if_neg (show ¬ ((a_cl h l m hi mi) ≤ 0) from c39), if_pos (show (hi + (a_cl h l m hi mi)) ≤ (m_X6_base h) from c45), if_neg (show ¬ (0 ≤ (hi + (a_cl h l m hi mi))) from c54)]
      · refine z_iload_n dX6_goMinute_48 rfl rfl ?_
        refine z_goto 63 dX6_goMinute_49 (by decide) ?_
        refine z_putI dX6_goMinute_63 (pl_X6_19_6 rfl) (hF.1 49 _ rfl) (by decide) rfl ?_
        refine z_meq (z_fy h m (m_X6_base h) mi) (z_fy_3 _ _ _ _ _) ?_
        refine z_aload_n dX6_goMinute_66 rfl rfl ?_
        refine z_dup dX6_goMinute_67 rfl ?_
        refine z_getI dX6_goMinute_68 fl_X6_13_6 (hF.1 49 _ rfl) rfl ?_
        refine z_eqi (mi) rfl ?_
        refine z_iconst (v := 1) dX6_goMinute_71 rfl ?_
        refine z_iadd dX6_goMinute_72 ?_
        refine z_putI dX6_goMinute_73 (pl_X6_13_6 rfl) (hF.1 49 _ rfl) (by decide) rfl ?_
        refine z_meq (z_fy h m (m_X6_base h) (mi + 1)) (z_fy_1 _ _ _ _ _) ?_
        refine z_vret dX6_goMinute_76 rfl (Nat.le_refl _) (Nat.le_refl _) (z_rv_i ?_)
        unfold a_hi; rw [if_neg (show ¬ ((m_X6_base h) ≤ hi) from c14), if_neg (show ¬ ((a_cl h l m hi mi) ≤ 0) from c39), if_neg (show ¬ ((hi + (a_cl h l m hi mi)) ≤ (m_X6_base h)) from c45)]
def m_X6_falls (h : z_H) (a : Int32) (b : Int32) (p : Int32) : Int32 :=
  (m_X6_apart h a b) * (5 + p)
theorem c_X6_falls {Γ : z_W} {h : z_H} {a : Int32} {b : Int32} {p : Int32} (hF : z_F h)  : z_C Γ M_X6_falls (z_rm 2 0 0) [.ref 49, .int a, .int b, .int p] h (z_ri (m_X6_falls h a b p) h) := by
  refine z_C.of (by decide +kernel) rfl [some (.ref 49), some (.int a), some (.int b), some (.int p)] (Nat.le_of_ble_eq_true rfl) rfl ?_
  refine z_aload_n dX6_falls_0 rfl rfl ?_
  refine z_iload_n dX6_falls_1 rfl rfl ?_
  refine z_iload_n dX6_falls_2 rfl rfl ?_
  refine z_vcall vl_X6_313_6 (c_X6_apart hF) dX6_falls_3 rfl rfl (hF.1 49 _ rfl) ⟨by decide, by decide⟩ (Nat.le_of_ble_eq_true rfl) (Nat.le_refl _) (Nat.le_refl _) (z_cI ?_) z_tI
  refine z_iconst (v := 5) dX6_falls_6 rfl ?_
  refine z_iload_n dX6_falls_7 rfl rfl ?_
  refine z_iadd dX6_falls_8 ?_
  refine z_imul dX6_falls_9 ?_
  refine z_iret dX6_falls_10 rfl rfl (Nat.le_refl _) (Nat.le_refl _) (z_ri_i ?_ ?_)
  · first | rfl | (unfold m_X6_falls; first | done | rfl)
  · first | rfl | (unfold m_X6_falls; first | done | rfl)
theorem c_X6_goGlide_y {Γ : z_W} {h : z_H} {m hi mi to p : Int32} (hF : z_F h) (hg : m_X6_falls h m to p ≤ hi) : z_C Γ M_X6_goGlide (z_rm 3 0 0) [.ref 49, .int to, .int p] (z_fy h m hi mi) (z_ri 1 (z_fy h to (hi - m_X6_falls h m to p) (mi + m_X6_apart h m to * (10 - p)))) := by
  refine z_C.of (by decide +kernel) rfl [some (.ref 49), some (.int to), some (.int p)] (Nat.le_of_ble_eq_true rfl) rfl ?_
  refine z_aload_n dX6_goGlide_0 rfl rfl ?_
  refine z_getI dX6_goGlide_1 fl_X6_19_6 (hF.1 49 _ rfl) rfl ?_
  refine z_eqi (hi) rfl ?_
  refine z_aload_n dX6_goGlide_4 rfl rfl ?_
  refine z_aload_n dX6_goGlide_5 rfl rfl ?_
  refine z_getI dX6_goGlide_6 fl_X6_16_6 (hF.1 49 _ rfl) rfl ?_
  refine z_eqi (m) rfl ?_
  refine z_iload_n dX6_goGlide_9 rfl rfl ?_
  refine z_iload_n dX6_goGlide_10 rfl rfl ?_
  refine z_vcall vl_X6_316_6 (c_X6_falls hF) dX6_goGlide_11 rfl rfl (hF.1 49 _ rfl) ⟨by decide, by decide⟩ (Nat.le_of_ble_eq_true rfl) (Nat.le_refl _) (Nat.le_refl _) (z_cI ?_) z_tI
  refine z_eqi (m_X6_falls h m to p) rfl ?_
  refine z_icmp_ge 19 dX6_goGlide_14 (by decide) (fun _ => ?_) (fun q => by first | exact absurd hg q | exact absurd q hg)
  refine z_aload_n dX6_goGlide_19 rfl rfl ?_
  refine z_dup dX6_goGlide_20 rfl ?_
  refine z_getI dX6_goGlide_21 fl_X6_19_6 (hF.1 49 _ rfl) rfl ?_
  refine z_eqi (hi) rfl ?_
  refine z_aload_n dX6_goGlide_24 rfl rfl ?_
  refine z_aload_n dX6_goGlide_25 rfl rfl ?_
  refine z_getI dX6_goGlide_26 fl_X6_16_6 (hF.1 49 _ rfl) rfl ?_
  refine z_eqi (m) rfl ?_
  refine z_iload_n dX6_goGlide_29 rfl rfl ?_
  refine z_iload_n dX6_goGlide_30 rfl rfl ?_
  refine z_vcall vl_X6_316_6 (c_X6_falls hF) dX6_goGlide_31 rfl rfl (hF.1 49 _ rfl) ⟨by decide, by decide⟩ (Nat.le_of_ble_eq_true rfl) (Nat.le_refl _) (Nat.le_refl _) (z_cI ?_) z_tI
  refine z_eqi (m_X6_falls h m to p) rfl ?_
  refine z_isub dX6_goGlide_34 ?_
  refine z_putI dX6_goGlide_35 (pl_X6_19_6 rfl) (hF.1 49 _ rfl) (by decide) rfl ?_
  refine z_meq (z_fy h m (hi - (m_X6_falls h m to p)) mi) (z_fy_3 _ _ _ _ _) ?_
  refine z_aload_n dX6_goGlide_38 rfl rfl ?_
  refine z_dup dX6_goGlide_39 rfl ?_
  refine z_getI dX6_goGlide_40 fl_X6_13_6 (hF.1 49 _ rfl) rfl ?_
  refine z_eqi (mi) rfl ?_
  refine z_aload_n dX6_goGlide_43 rfl rfl ?_
  refine z_aload_n dX6_goGlide_44 rfl rfl ?_
  refine z_getI dX6_goGlide_45 fl_X6_16_6 (hF.1 49 _ rfl) rfl ?_
  refine z_eqi (m) rfl ?_
  refine z_iload_n dX6_goGlide_48 rfl rfl ?_
  refine z_vcall vl_X6_313_6 (c_X6_apart hF) dX6_goGlide_49 rfl rfl (hF.1 49 _ rfl) ⟨by decide, by decide⟩ (Nat.le_of_ble_eq_true rfl) (Nat.le_refl _) (Nat.le_refl _) (z_cI ?_) z_tI
  refine z_eqi (m_X6_apart h m to) rfl ?_
  refine z_bipush (v := 10) dX6_goGlide_52 rfl ?_
  refine z_iload_n dX6_goGlide_54 rfl rfl ?_
  refine z_isub dX6_goGlide_55 ?_
  refine z_imul dX6_goGlide_56 ?_
  refine z_iadd dX6_goGlide_57 ?_
  refine z_putI dX6_goGlide_58 (pl_X6_13_6 rfl) (hF.1 49 _ rfl) (by decide) rfl ?_
  refine z_meq (z_fy h m (hi - (m_X6_falls h m to p)) (mi + ((m_X6_apart h m to) * (10 - p)))) (z_fy_1 _ _ _ _ _) ?_
  refine z_aload_n dX6_goGlide_61 rfl rfl ?_
  refine z_iload_n dX6_goGlide_62 rfl rfl ?_
  refine z_putI dX6_goGlide_63 (pl_X6_16_6 rfl) (hF.1 49 _ rfl) (by decide) rfl ?_
  refine z_meq (z_fy h to (hi - (m_X6_falls h m to p)) (mi + ((m_X6_apart h m to) * (10 - p)))) (z_fy_2 _ _ _ _ _) ?_
  refine z_iconst (v := 1) dX6_goGlide_66 rfl ?_
  refine z_iret dX6_goGlide_67 rfl rfl (Nat.le_refl _) (Nat.le_refl _) (z_ri_i ?_ ?_)
  · rfl
  · rfl
theorem c_X6_goGlide_n {Γ : z_W} {h : z_H} {m hi mi to p : Int32} (hF : z_F h) (hg : ¬ m_X6_falls h m to p ≤ hi) : z_C Γ M_X6_goGlide (z_rm 3 0 0) [.ref 49, .int to, .int p] (z_fy h m hi mi) (z_ri 0 (z_fy h m hi mi)) := by
  refine z_C.of (by decide +kernel) rfl [some (.ref 49), some (.int to), some (.int p)] (Nat.le_of_ble_eq_true rfl) rfl ?_
  refine z_aload_n dX6_goGlide_0 rfl rfl ?_
  refine z_getI dX6_goGlide_1 fl_X6_19_6 (hF.1 49 _ rfl) rfl ?_
  refine z_eqi (hi) rfl ?_
  refine z_aload_n dX6_goGlide_4 rfl rfl ?_
  refine z_aload_n dX6_goGlide_5 rfl rfl ?_
  refine z_getI dX6_goGlide_6 fl_X6_16_6 (hF.1 49 _ rfl) rfl ?_
  refine z_eqi (m) rfl ?_
  refine z_iload_n dX6_goGlide_9 rfl rfl ?_
  refine z_iload_n dX6_goGlide_10 rfl rfl ?_
  refine z_vcall vl_X6_316_6 (c_X6_falls hF) dX6_goGlide_11 rfl rfl (hF.1 49 _ rfl) ⟨by decide, by decide⟩ (Nat.le_of_ble_eq_true rfl) (Nat.le_refl _) (Nat.le_refl _) (z_cI ?_) z_tI
  refine z_eqi (m_X6_falls h m to p) rfl ?_
  refine z_icmp_ge 19 dX6_goGlide_14 (by decide) (fun q => by first | exact absurd q hg | exact absurd hg q) (fun _ => ?_)
  refine z_iconst (v := 0) dX6_goGlide_17 rfl ?_
  refine z_iret dX6_goGlide_18 rfl rfl (Nat.le_refl _) (Nat.le_refl _) (z_ri_i ?_ ?_)
  · rfl
  · rfl
/-- the memory h with the reference's own notes (kept, left, best: places 29 .. 35) as s says -/
def z_sc (h : z_H) (s : Nat → Int32) : z_H := (fun a k => if a = 49 ∧ (29 ≤ k ∧ k ≤ 35) then s k else h.1 a k, h.2)
theorem z_sc_s {h : z_H} {s : Nat → Int32} {k : Nat} {v : Int32} (hk : 29 ≤ k ∧ k ≤ 35) : z_sI (z_sc h s) 49 k v = z_sc h (upd s k v) := by
  refine z_H_ext (fun a j => ?_) rfl
  show (if a = 49 ∧ j = k then v else if a = 49 ∧ (29 ≤ j ∧ j ≤ 35) then s j else h.1 a j) = if a = 49 ∧ (29 ≤ j ∧ j ≤ 35) then (if j = k then v else s j) else h.1 a j
  by_cases e : a = 49 ∧ j = k
  · obtain ⟨e1, e2⟩ := e
    subst e1; subst e2
    rw [if_pos ⟨rfl, rfl⟩, if_pos ⟨rfl, hk⟩, if_pos rfl]
  · rw [if_neg e]
    by_cases e2 : a = 49 ∧ (29 ≤ j ∧ j ≤ 35)
    · rw [if_pos e2, if_pos e2, if_neg (fun q => e ⟨e2.1, q⟩)]
    · rw [if_neg e2, if_neg e2]
theorem z_sc_self (h : z_H) : h = z_sc h (fun k => z_I h 49 k) := by
  refine z_H_ext (fun a j => ?_) rfl
  show _ = if a = 49 ∧ (29 ≤ j ∧ j ≤ 35) then z_I h 49 j else h.1 a j
  split
  · rename_i c; rw [c.1]; rfl
  · rfl
theorem c_X6_save {Γ : z_W} {h : z_H} {s : Nat → Int32} {m hi mi : Int32} (hF : z_F h) : z_C Γ M_X6_save (z_rm 1 0 0) [.ref 49] (z_fy (z_sc h s) m hi mi) (z_rv (z_fy (z_sc h (upd (upd (upd s 29 mi) 30 m) 31 hi)) m hi mi)) := by
  refine z_C.of (by decide +kernel) rfl [some (.ref 49)] (Nat.le_of_ble_eq_true rfl) rfl ?_
  refine z_aload_n dX6_save_0 rfl rfl ?_
  refine z_aload_n dX6_save_1 rfl rfl ?_
  refine z_getI dX6_save_2 fl_X6_13_6 (hF.1 49 _ rfl) rfl ?_
  refine z_eqi (mi) rfl ?_
  refine z_putI dX6_save_5 (pl_X6_99_6 rfl) (hF.1 49 _ rfl) (by decide) rfl ?_
  refine z_meq (z_fy (z_sc h (upd s 29 mi)) m hi mi) ((z_fy_sI (by decide)).trans (congrArg (fun g => z_fy g _ _ _) (z_sc_s (by decide)))) ?_
  refine z_aload_n dX6_save_8 rfl rfl ?_
  refine z_aload_n dX6_save_9 rfl rfl ?_
  refine z_getI dX6_save_10 fl_X6_16_6 (hF.1 49 _ rfl) rfl ?_
  refine z_eqi (m) rfl ?_
  refine z_putI dX6_save_13 (pl_X6_102_6 rfl) (hF.1 49 _ rfl) (by decide) rfl ?_
  refine z_meq (z_fy (z_sc h (upd (upd s 29 mi) 30 m)) m hi mi) ((z_fy_sI (by decide)).trans (congrArg (fun g => z_fy g _ _ _) (z_sc_s (by decide)))) ?_
  refine z_aload_n dX6_save_16 rfl rfl ?_
  refine z_aload_n dX6_save_17 rfl rfl ?_
  refine z_getI dX6_save_18 fl_X6_19_6 (hF.1 49 _ rfl) rfl ?_
  refine z_eqi (hi) rfl ?_
  refine z_putI dX6_save_21 (pl_X6_105_6 rfl) (hF.1 49 _ rfl) (by decide) rfl ?_
  refine z_meq (z_fy (z_sc h (upd (upd (upd s 29 mi) 30 m) 31 hi)) m hi mi) ((z_fy_sI (by decide)).trans (congrArg (fun g => z_fy g _ _ _) (z_sc_s (by decide)))) ?_
  refine z_vret dX6_save_24 rfl (Nat.le_refl _) (Nat.le_refl _) (z_rv_i ?_)
  rfl
theorem c_X6_putBack {Γ : z_W} {h : z_H} {s : Nat → Int32} {m hi mi : Int32} (hF : z_F h) : z_C Γ M_X6_putBack (z_rm 1 0 0) [.ref 49] (z_fy (z_sc h s) m hi mi) (z_rv (z_fy (z_sc h s) (s 30) (s 31) (s 29))) := by
  refine z_C.of (by decide +kernel) rfl [some (.ref 49)] (Nat.le_of_ble_eq_true rfl) rfl ?_
  refine z_aload_n dX6_putBack_0 rfl rfl ?_
  refine z_aload_n dX6_putBack_1 rfl rfl ?_
  refine z_getI dX6_putBack_2 fl_X6_99_6 (hF.1 49 _ rfl) rfl ?_
  refine z_eqi (s 29) rfl ?_
  refine z_putI dX6_putBack_5 (pl_X6_13_6 rfl) (hF.1 49 _ rfl) (by decide) rfl ?_
  refine z_meq (z_fy (z_sc h s) m hi (s 29)) (z_fy_1 _ _ _ _ _) ?_
  refine z_aload_n dX6_putBack_8 rfl rfl ?_
  refine z_aload_n dX6_putBack_9 rfl rfl ?_
  refine z_getI dX6_putBack_10 fl_X6_102_6 (hF.1 49 _ rfl) rfl ?_
  refine z_eqi (s 30) rfl ?_
  refine z_putI dX6_putBack_13 (pl_X6_16_6 rfl) (hF.1 49 _ rfl) (by decide) rfl ?_
  refine z_meq (z_fy (z_sc h s) (s 30) hi (s 29)) (z_fy_2 _ _ _ _ _) ?_
  refine z_aload_n dX6_putBack_16 rfl rfl ?_
  refine z_aload_n dX6_putBack_17 rfl rfl ?_
  refine z_getI dX6_putBack_18 fl_X6_105_6 (hF.1 49 _ rfl) rfl ?_
  refine z_eqi (s 31) rfl ?_
  refine z_putI dX6_putBack_21 (pl_X6_19_6 rfl) (hF.1 49 _ rfl) (by decide) rfl ?_
  refine z_meq (z_fy (z_sc h s) (s 30) (s 31) (s 29)) (z_fy_3 _ _ _ _ _) ?_
  refine z_vret dX6_putBack_24 rfl (Nat.le_refl _) (Nat.le_refl _) (z_rv_i ?_)
  rfl
