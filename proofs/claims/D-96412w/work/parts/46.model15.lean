/-! THE REFERENCE: act, tapes, judge (printed by model15.py) -/
set_option maxRecDepth 20000
def m_X6_act (h : z_H) (i a x : Int32) : Int32 :=
  if m_X6_isLift h i then
    if z_in a 0 2 then
      if a = 0 then
        a_vT (z_I h 50 (z_c i)) (z_I h 51 (z_c i)) i x
      else
        if a = 1 then
          a_vC (z_I h 50 (z_c i)) (z_I h 51 (z_c i)) i x
        else
          a_vS (z_I h 50 (z_c i)) (z_I h 51 (z_c i)) i x
    else
      0
  else
    0
def m_X6_act_b (h : z_H) (i a : Int32) : List Int32 :=
  if m_X6_isLift h i then
    if z_in a 0 2 then
      if a = 0 then
        a_bT (z_I h 50 (z_c i))
      else
        if a = 1 then
          a_bC (z_I h 50 (z_c i))
        else
          a_bS (z_I h 50 (z_c i))
    else
      []
  else
    []
theorem c_X6_act {Γ : z_W} {h : z_H} {t : z_Tr} {i a x : Int32} (hF : z_F h) (hm : z_cn (z_I h 49 0) 6) : z_C Γ M_X6_act (z_rm 9 0 0) [.ref 49, .int i, .int a, .int x] (z_tr h t) (z_ri (m_X6_act h i a x) (z_tr h (a_pu (0, t.2) (m_X6_act_b h i a)))) := by
  have ht0 : z_cn ((0, t.2) : z_Tr).1 0 := z_cn_of (n := 0) (Nat.le_refl 0) (by decide)
  refine z_C.of (by decide +kernel) rfl [some (.ref 49), some (.int i), some (.int a), some (.int x)] (Nat.le_of_ble_eq_true rfl) rfl ?_
  refine z_aload_n dX6_act_0 rfl rfl ?_
  refine z_iconst (v := 0) dX6_act_1 rfl ?_
  refine z_putI dX6_act_2 (pl_X6_208_6 rfl) (hF.1 49 _ rfl) (by decide) rfl ?_
  refine z_meq (z_tr h (0, t.2)) (z_tr_0 _ _ _) ?_
  refine z_aload_n dX6_act_5 rfl rfl ?_
  refine z_iload_n dX6_act_6 rfl rfl ?_
  refine z_vcall vl_X6_235_6 (c_X6_isLift hF) dX6_act_7 rfl rfl (hF.1 49 _ rfl) ⟨by decide, by decide⟩ (Nat.le_of_ble_eq_true rfl) (Nat.le_refl _) (Nat.le_refl _) (z_cI ?_) z_tI
  refine z_bif_eq 23 dX6_act_10 (by decide) (fun c10 => ?_) (fun c10 => ?_)
  · refine z_iconst (v := 0) dX6_act_23 rfl ?_
    refine z_iret dX6_act_24 rfl rfl (Nat.le_refl _) (Nat.le_refl _) (z_ri_i ?_ ?_)
    · unfold m_X6_act; rw [if_neg (show ¬ (m_X6_isLift h i) from c10)]
    · unfold m_X6_act_b; rw [if_neg (show ¬ (m_X6_isLift h i) from c10)]; rfl
  · have hl := z_ix hm (by decide) c10
    have hl : i = nI (z_c i) ∧ z_c i < 6 := ⟨hl.1, by have := hl.2; have := hm.2; omega⟩
    refine z_aload_n dX6_act_13 rfl rfl ?_
    refine z_iload_n dX6_act_14 rfl rfl ?_
    refine z_iconst (v := 0) dX6_act_15 rfl ?_
    refine z_iconst (v := 2) dX6_act_16 rfl ?_
    refine z_vcall vl_X6_227_6 (c_X6_in hF) dX6_act_17 rfl rfl (hF.1 49 _ rfl) ⟨by decide, by decide⟩ (Nat.le_of_ble_eq_true rfl) (Nat.le_refl _) (Nat.le_refl _) (z_cI ?_) z_tI
    refine z_bif_ne 25 dX6_act_20 (by decide) (fun c20 => ?_) (fun c20 => ?_)
    · refine z_iload_n dX6_act_25 rfl rfl ?_
      refine z_if_ne 38 dX6_act_26 (by decide) (fun c26 => ?_) (fun c26 => ?_)
      · refine z_iload_n dX6_act_38 rfl rfl ?_
        refine z_iconst (v := 1) dX6_act_39 rfl ?_
        refine z_icmp_ne 52 dX6_act_40 (by decide) (fun c40 => ?_) (fun c40 => ?_)
        · refine z_aload_n dX6_act_52 rfl rfl ?_
          refine z_iload_n dX6_act_53 rfl rfl ?_
          refine z_iload_n dX6_act_54 rfl rfl ?_
          refine z_vcall vl_X6_397_6 (c_X6_tellsAct hF hl ht0 (by decide)) dX6_act_55 rfl rfl (hF.1 49 _ rfl) ⟨by decide, by decide⟩ (Nat.le_of_ble_eq_true rfl) (Nat.le_refl _) (Nat.le_refl _) (z_cI ?_) z_tI
          refine z_meq (z_tr h (a_pu (0, t.2) (a_bS (z_I h 50 (z_c i))))) rfl ?_
          refine z_eqi (a_vS (z_I h 50 (z_c i)) (z_I h 51 (z_c i)) i x) rfl ?_
          refine z_iret dX6_act_58 rfl rfl (Nat.le_refl _) (Nat.le_refl _) (z_ri_i ?_ ?_)
          · unfold m_X6_act; rw [if_pos (show m_X6_isLift h i from c10), if_pos (show z_in a 0 2 from c20), if_neg (show ¬ (a = 0) from c26), if_neg (show ¬ (a = 1) from c40)]
          · unfold m_X6_act_b; rw [if_pos (show m_X6_isLift h i from c10), if_pos (show z_in a 0 2 from c20), if_neg (show ¬ (a = 0) from c26), if_neg (show ¬ (a = 1) from c40)]
        · refine z_aload_n dX6_act_43 rfl rfl ?_
          refine z_iload_n dX6_act_44 rfl rfl ?_
          refine z_iload_n dX6_act_45 rfl rfl ?_
          refine z_vcall vl_X6_391_6 (c_X6_climbsAct hF hl ht0 (by decide)) dX6_act_46 rfl rfl (hF.1 49 _ rfl) ⟨by decide, by decide⟩ (Nat.le_of_ble_eq_true rfl) (Nat.le_refl _) (Nat.le_refl _) (z_cI ?_) z_tI
          refine z_meq (z_tr h (a_pu (0, t.2) (a_bC (z_I h 50 (z_c i))))) rfl ?_
          refine z_eqi (a_vC (z_I h 50 (z_c i)) (z_I h 51 (z_c i)) i x) rfl ?_
          refine z_goto 58 dX6_act_49 (by decide) ?_
          refine z_iret dX6_act_58 rfl rfl (Nat.le_refl _) (Nat.le_refl _) (z_ri_i ?_ ?_)
          · unfold m_X6_act; rw [if_pos (show m_X6_isLift h i from c10), if_pos (show z_in a 0 2 from c20), if_neg (show ¬ (a = 0) from c26), if_pos (show a = 1 from c40)]
          · unfold m_X6_act_b; rw [if_pos (show m_X6_isLift h i from c10), if_pos (show z_in a 0 2 from c20), if_neg (show ¬ (a = 0) from c26), if_pos (show a = 1 from c40)]
      · refine z_aload_n dX6_act_29 rfl rfl ?_
        refine z_iload_n dX6_act_30 rfl rfl ?_
        refine z_iload_n dX6_act_31 rfl rfl ?_
        refine z_vcall vl_X6_382_6 (c_X6_turnsAct hF hl ht0 (by decide)) dX6_act_32 rfl rfl (hF.1 49 _ rfl) ⟨by decide, by decide⟩ (Nat.le_of_ble_eq_true rfl) (Nat.le_refl _) (Nat.le_refl _) (z_cI ?_) z_tI
        refine z_meq (z_tr h (a_pu (0, t.2) (a_bT (z_I h 50 (z_c i))))) rfl ?_
        refine z_eqi (a_vT (z_I h 50 (z_c i)) (z_I h 51 (z_c i)) i x) rfl ?_
        refine z_goto 58 dX6_act_35 (by decide) ?_
        refine z_iret dX6_act_58 rfl rfl (Nat.le_refl _) (Nat.le_refl _) (z_ri_i ?_ ?_)
        · unfold m_X6_act; rw [if_pos (show m_X6_isLift h i from c10), if_pos (show z_in a 0 2 from c20), if_pos (show a = 0 from c26)]
        · unfold m_X6_act_b; rw [if_pos (show m_X6_isLift h i from c10), if_pos (show z_in a 0 2 from c20), if_pos (show a = 0 from c26)]
    · refine z_iconst (v := 0) dX6_act_23 rfl ?_
      refine z_iret dX6_act_24 rfl rfl (Nat.le_refl _) (Nat.le_refl _) (z_ri_i ?_ ?_)
      · unfold m_X6_act; rw [if_pos (show m_X6_isLift h i from c10), if_neg (show ¬ (z_in a 0 2) from c20)]
      · unfold m_X6_act_b; rw [if_pos (show m_X6_isLift h i from c10), if_neg (show ¬ (z_in a 0 2) from c20)]; rfl
/-- items, and what is put aside -/
def z_lo (h : z_H) (g f : Nat → Int64) : z_H := (h.1, fun a k => if a = 83 then g k else if a = 84 then f k else h.2.1 a k, h.2.2)
theorem z_H_extL {g h : z_H} (h0 : g.1 = h.1) (h1 : ∀ a k, g.2.1 a k = h.2.1 a k) (h2 : g.2.2 = h.2.2) : g = h := by
  obtain ⟨a, b, c⟩ := g
  obtain ⟨d, e, f⟩ := h
  have e1 : b = e := by funext x y; exact h1 x y
  have e0 : a = d := h0
  have e2 : c = f := h2
  rw [e0, e1, e2]
theorem z_lo_self (h : z_H) : h = z_lo h (z_L h 83) (z_L h 84) := by
  refine z_H_extL rfl (fun a k => ?_) rfl
  show _ = if a = 83 then z_L h 83 k else if a = 84 then z_L h 84 k else h.2.1 a k
  split
  · rename_i c; rw [c]; rfl
  · split
    · rename_i c; rw [c]; rfl
    · rfl
theorem z_lo_g (h : z_H) (g f : Nat → Int64) (j : Nat) (v : Int64) : z_sL (z_lo h g f) 83 j v = z_lo h (vp_updL g j v) f := by
  refine z_H_extL rfl (fun a k => ?_) rfl
  show (if a = 83 ∧ k = j then v else if a = 83 then g k else if a = 84 then f k else h.2.1 a k) = if a = 83 then vp_updL g j v k else if a = 84 then f k else h.2.1 a k
  by_cases e : a = 83
  · subst e
    by_cases e2 : k = j
    · subst e2; rw [if_pos ⟨rfl, rfl⟩, if_pos rfl, pk_uLs]
    · rw [if_neg (fun q => e2 q.2), if_pos rfl, if_pos rfl, pk_uLn e2]
  · rw [if_neg (fun q => e q.1), if_neg e, if_neg e]
theorem z_lo_f (h : z_H) (g f : Nat → Int64) (j : Nat) (v : Int64) : z_sL (z_lo h g f) 84 j v = z_lo h g (vp_updL f j v) := by
  refine z_H_extL rfl (fun a k => ?_) rfl
  show (if a = 84 ∧ k = j then v else if a = 83 then g k else if a = 84 then f k else h.2.1 a k) = if a = 83 then g k else if a = 84 then vp_updL f j v k else h.2.1 a k
  by_cases e : a = 84
  · subst e
    rw [if_neg (show ¬ 84 = 83 by decide), if_neg (show ¬ 84 = 83 by decide), if_pos rfl, if_pos rfl]
    by_cases e2 : k = j
    · subst e2; rw [if_pos ⟨rfl, rfl⟩, pk_uLs]
    · rw [if_neg (fun q => e2 q.2), pk_uLn e2]
  · rw [if_neg (fun q => e q.1), if_neg e, if_neg e]
/-- the tapes' sorts and lengths are as they can be -/
def z_tp (h : z_H) : Prop := ∀ t, t < 6 → z_in (z_I h 81 t) (-1) 4 ∧ z_cn (z_I h 82 t) 60
def a_zr (g : Nat → Int64) (b n : Nat) : Nat → Int64 := fun k => if b ≤ k ∧ k < b + n then 0 else g k
theorem a_zr_s (g : Nat → Int64) (b n : Nat) : vp_updL (a_zr g b n) (b + n) 0 = a_zr g b (n + 1) := by
  funext k
  by_cases e : k = b + n
  · subst e; rw [pk_uLs]; unfold a_zr; rw [if_pos ⟨by omega, by omega⟩]
  · rw [pk_uLn e]; unfold a_zr
    by_cases c : b ≤ k ∧ k < b + n
    · rw [if_pos c, if_pos ⟨c.1, by omega⟩]
    · rw [if_neg c, if_neg (fun q => c ⟨q.1, by omega⟩)]
theorem z_60 {i : Nat} (h : i < 60) : ¬ (60 : Int32) ≤ nI i := nI_ge (b := 60) h (by decide)
theorem z_60e {i : Nat} (h : i = 60) : (60 : Int32) ≤ nI i := by subst h; decide
theorem lp_X6_tape {Γ : z_W} {h : z_H} {g f : Nat → Int64} {t s n : Int32} (hF : z_F h) (ht : t = nI (z_c t) ∧ z_c t ≤ 5) : ∀ (r i : Nat), i + r = 60 → z_G Γ M_X6_tape (z_rm 3 0 0) (z_ri 1 (z_lo h (a_zr g (60 * z_c t) 60) f)) 0 0 69 [some (.ref 49), some (.int t), some (.int s), some (.int n), some (.int (nI i))] [] (z_lo h (a_zr g (60 * z_c t) i) f) := by
  intro r
  induction r with
  | zero =>
    intro i hi0
    have hi1 : i = 60 := by omega
    subst hi1
    refine z_iload dX6_tape_69 rfl ?_
    refine z_bipush (v := 60) dX6_tape_71 rfl ?_
    refine z_icmp_ge 95 dX6_tape_73 (by decide) (fun _ => ?_) (fun q => by first | exact absurd (z_60e rfl) q | exact absurd q (z_60e rfl))
    refine z_iconst (v := 1) dX6_tape_95 rfl ?_
    refine z_iret dX6_tape_96 rfl rfl (Nat.le_refl _) (Nat.le_refl _) (z_ri_i ?_ ?_)
    · rfl
    · rfl
  | succ r ih =>
    intro i hi0
    refine z_iload dX6_tape_69 rfl ?_
    refine z_bipush (v := 60) dX6_tape_71 rfl ?_
    refine z_icmp_ge 95 dX6_tape_73 (by decide) (fun q => by first | exact absurd q (z_60 (by omega)) | exact absurd (z_60 (by omega)) q) (fun _ => ?_)
    refine z_aload_n dX6_tape_76 rfl rfl ?_
    refine z_getR 83 dX6_tape_77 fl_X6_220_6 (hF.1 49 _ rfl) rfl (hF.2.1 49 69 83 rfl) ?_
    refine z_bipush (v := 60) dX6_tape_80 rfl ?_
    refine z_iload_n dX6_tape_82 rfl rfl ?_
    refine z_imul dX6_tape_83 ?_
    refine z_iload dX6_tape_84 rfl ?_
    refine z_iadd dX6_tape_86 ?_
    refine z_lconst (v := 0) dX6_tape_87 rfl ?_
    refine z_last (60 * z_c t + i) dX6_tape_88 (hF.1 83 _ rfl) (by decide) (by rw [← nI_add, ← pk_mul, ← ht.1]; rfl) (by have := ht.2; omega) (by decide) ?_
    refine z_meq (z_lo h (a_zr g (60 * z_c t) (i + 1)) f) ((z_lo_g _ _ _ _ _).trans (by rw [a_zr_s])) ?_
    refine z_iinc (v := nI (i + 1)) dX6_tape_89 rfl (nI_succ _).symm (by decide) rfl ?_
    refine z_goto 69 dX6_tape_92 (by decide) ?_
    exact ih (i + 1) (by omega)
def m_X6_tape (t s n : Int32) : Int32 := if z_in t 0 5 then (if z_in s (-1) 4 then (if s < 0 then 1 else if n ≤ 60 then (if 0 ≤ n then 1 else -14) else -2) else -2) else -1
def m_X6_tape_h (h : z_H) (t s n : Int32) : z_H := if z_in t 0 5 then (if z_in s (-1) 4 then (if s < 0 then z_sI (z_sI h 81 (z_c t) s) 82 (z_c t) 0 else if n ≤ 60 then (if 0 ≤ n then z_sI (z_sI h 81 (z_c t) s) 82 (z_c t) n else h) else h) else h) else h
def m_X6_tape_g (g : Nat → Int64) (t s n : Int32) : Nat → Int64 := if z_in t 0 5 then (if z_in s (-1) 4 then (if s < 0 then a_zr g (60 * z_c t) 60 else if n ≤ 60 then (if 0 ≤ n then a_zr g (60 * z_c t) 60 else g) else g) else g) else g
theorem c_X6_tape {Γ : z_W} {h : z_H} {g f : Nat → Int64} {t s n : Int32} (hF : z_F h) : z_C Γ M_X6_tape (z_rm 3 0 0) [.ref 49, .int t, .int s, .int n] (z_lo h g f) (z_ri (m_X6_tape t s n) (z_lo (m_X6_tape_h h t s n) (m_X6_tape_g g t s n) f)) := by
  refine z_C.of (by decide +kernel) rfl [some (.ref 49), some (.int t), some (.int s), some (.int n), none] (Nat.le_of_ble_eq_true rfl) rfl ?_
  refine z_aload_n dX6_tape_0 rfl rfl ?_
  refine z_iload_n dX6_tape_1 rfl rfl ?_
  refine z_vcall vl_X6_373_6 (c_X6_isTape hF) dX6_tape_2 rfl rfl (hF.1 49 _ rfl) ⟨by decide, by decide⟩ (Nat.le_of_ble_eq_true rfl) (Nat.le_refl _) (Nat.le_refl _) (z_cI ?_) z_tI
  refine z_bif_ne 10 dX6_tape_5 (by decide) (fun c5 => ?_) (fun c5 => ?_)
  · have ht := z_ixb (l := t) 5 (by decide) c5
    refine z_aload_n dX6_tape_10 rfl rfl ?_
    refine z_iload_n dX6_tape_11 rfl rfl ?_
    refine z_iconst (v := (-1)) dX6_tape_12 rfl ?_
    refine z_iconst (v := 4) dX6_tape_13 rfl ?_
    refine z_vcall vl_X6_227_6 (c_X6_in hF) dX6_tape_14 rfl rfl (hF.1 49 _ rfl) ⟨by decide, by decide⟩ (Nat.le_of_ble_eq_true rfl) (Nat.le_refl _) (Nat.le_refl _) (z_cI ?_) z_tI
    refine z_bif_eq 30 dX6_tape_17 (by decide) (fun c17 => ?_) (fun c17 => ?_)
    · refine z_bipush (v := (-2)) dX6_tape_30 rfl ?_
      refine z_iret dX6_tape_32 rfl rfl (Nat.le_refl _) (Nat.le_refl _) (z_ri_i ?_ ?_)
      · unfold m_X6_tape; rw [if_pos (show m_X6_isTape h t from c5), if_neg (show ¬ (z_in s (-1) 4) from c17)]
      · unfold m_X6_tape_h m_X6_tape_g; simp only [if_pos (show m_X6_isTape h t from c5), if_neg (show ¬ (z_in s (-1) 4) from c17)]
    · refine z_iload_n dX6_tape_20 rfl rfl ?_
      refine z_if_lt 33 dX6_tape_21 (by decide) (fun c21 => ?_) (fun c21 => ?_)
      · refine z_iload_n dX6_tape_33 rfl rfl ?_
        refine z_if_lt 44 dX6_tape_34 (by decide) (fun _ => ?_) (fun q => by first | exact absurd c21 q | exact absurd q c21)
        refine z_aload_n dX6_tape_44 rfl rfl ?_
        refine z_getR 81 dX6_tape_45 fl_X6_214_6 (hF.1 49 _ rfl) rfl (hF.2.1 49 67 81 rfl) ?_
        refine z_iload_n dX6_tape_48 rfl rfl ?_
        refine z_iload_n dX6_tape_49 rfl rfl ?_
        refine z_iast (z_c t) dX6_tape_50 (hF.1 81 _ rfl) (by decide) ht.1 (by have := ht.2; omega) (by decide) ?_
        refine z_meq (z_lo (z_sI h 81 (z_c t) s) g f) rfl ?_
        refine z_aload_n dX6_tape_51 rfl rfl ?_
        refine z_getR 82 dX6_tape_52 fl_X6_217_6 (hF.1 49 _ rfl) rfl (hF.2.1 49 68 82 rfl) ?_
        refine z_iload_n dX6_tape_55 rfl rfl ?_
        refine z_iload_n dX6_tape_56 rfl rfl ?_
        refine z_if_ge 64 dX6_tape_57 (by decide) (fun q => by first | exact absurd q (Int32.not_le.mpr c21) | exact absurd (Int32.not_le.mpr c21) q) (fun _ => ?_)
        refine z_iconst (v := 0) dX6_tape_60 rfl ?_
        refine z_goto 65 dX6_tape_61 (by decide) ?_
        refine z_iast (z_c t) dX6_tape_65 (hF.1 82 _ rfl) (by decide) ht.1 (by have := ht.2; omega) (by decide) ?_
        refine z_meq (z_lo (z_sI (z_sI h 81 (z_c t) s) 82 (z_c t) 0) g f) rfl ?_
        refine z_iconst (v := 0) dX6_tape_66 rfl ?_
        refine z_istore dX6_tape_67 (by decide) rfl ?_
        have fin := lp_X6_tape (Γ := Γ) (h := (z_sI (z_sI h 81 (z_c t) s) 82 (z_c t) 0)) (g := g) (f := f) (s := s) (n := n) hF ht 60 0 (Nat.zero_add _)
        rw [show a_zr g (60 * z_c t) 0 = g from funext fun k => if_neg (by omega)] at fin
        unfold m_X6_tape m_X6_tape_h m_X6_tape_g
        simp only [if_pos (show m_X6_isTape h t from c5), if_pos (show z_in s (-1) 4 from c17), if_pos (show s < 0 from c21)]
        exact fin
      · refine z_iload_n dX6_tape_24 rfl rfl ?_
        refine z_bipush (v := 60) dX6_tape_25 rfl ?_
        refine z_icmp_le 33 dX6_tape_27 (by decide) (fun c27 => ?_) (fun c27 => ?_)
        · refine z_iload_n dX6_tape_33 rfl rfl ?_
          refine z_if_lt 44 dX6_tape_34 (by decide) (fun q => by first | exact absurd q c21 | exact absurd c21 q) (fun _ => ?_)
          refine z_iload_n dX6_tape_37 rfl rfl ?_
          refine z_if_ge 44 dX6_tape_38 (by decide) (fun c38 => ?_) (fun c38 => ?_)
          · refine z_aload_n dX6_tape_44 rfl rfl ?_
            refine z_getR 81 dX6_tape_45 fl_X6_214_6 (hF.1 49 _ rfl) rfl (hF.2.1 49 67 81 rfl) ?_
            refine z_iload_n dX6_tape_48 rfl rfl ?_
            refine z_iload_n dX6_tape_49 rfl rfl ?_
            refine z_iast (z_c t) dX6_tape_50 (hF.1 81 _ rfl) (by decide) ht.1 (by have := ht.2; omega) (by decide) ?_
            refine z_meq (z_lo (z_sI h 81 (z_c t) s) g f) rfl ?_
            refine z_aload_n dX6_tape_51 rfl rfl ?_
            refine z_getR 82 dX6_tape_52 fl_X6_217_6 (hF.1 49 _ rfl) rfl (hF.2.1 49 68 82 rfl) ?_
            refine z_iload_n dX6_tape_55 rfl rfl ?_
            refine z_iload_n dX6_tape_56 rfl rfl ?_
            refine z_if_ge 64 dX6_tape_57 (by decide) (fun _ => ?_) (fun q => by first | exact absurd (Int32.not_lt.mp c21) q | exact absurd q (Int32.not_lt.mp c21))
            refine z_iload_n dX6_tape_64 rfl rfl ?_
            refine z_iast (z_c t) dX6_tape_65 (hF.1 82 _ rfl) (by decide) ht.1 (by have := ht.2; omega) (by decide) ?_
            refine z_meq (z_lo (z_sI (z_sI h 81 (z_c t) s) 82 (z_c t) n) g f) rfl ?_
            refine z_iconst (v := 0) dX6_tape_66 rfl ?_
            refine z_istore dX6_tape_67 (by decide) rfl ?_
            have fin := lp_X6_tape (Γ := Γ) (h := (z_sI (z_sI h 81 (z_c t) s) 82 (z_c t) n)) (g := g) (f := f) (s := s) (n := n) hF ht 60 0 (Nat.zero_add _)
            rw [show a_zr g (60 * z_c t) 0 = g from funext fun k => if_neg (by omega)] at fin
            unfold m_X6_tape m_X6_tape_h m_X6_tape_g
            simp only [if_pos (show m_X6_isTape h t from c5), if_pos (show z_in s (-1) 4 from c17), if_neg (show ¬ (s < 0) from c21), if_pos (show n ≤ 60 from c27), if_pos (show 0 ≤ n from c38)]
            exact fin
          · refine z_bipush (v := (-14)) dX6_tape_41 rfl ?_
            refine z_iret dX6_tape_43 rfl rfl (Nat.le_refl _) (Nat.le_refl _) (z_ri_i ?_ ?_)
            · unfold m_X6_tape; rw [if_pos (show m_X6_isTape h t from c5), if_pos (show z_in s (-1) 4 from c17), if_neg (show ¬ (s < 0) from c21), if_pos (show n ≤ 60 from c27), if_neg (show ¬ (0 ≤ n) from c38)]
            · unfold m_X6_tape_h m_X6_tape_g; simp only [if_pos (show m_X6_isTape h t from c5), if_pos (show z_in s (-1) 4 from c17), if_neg (show ¬ (s < 0) from c21), if_pos (show n ≤ 60 from c27), if_neg (show ¬ (0 ≤ n) from c38)]
        · refine z_bipush (v := (-2)) dX6_tape_30 rfl ?_
          refine z_iret dX6_tape_32 rfl rfl (Nat.le_refl _) (Nat.le_refl _) (z_ri_i ?_ ?_)
          · unfold m_X6_tape; rw [if_pos (show m_X6_isTape h t from c5), if_pos (show z_in s (-1) 4 from c17), if_neg (show ¬ (s < 0) from c21), if_neg (show ¬ (n ≤ 60) from c27)]
          · unfold m_X6_tape_h m_X6_tape_g; simp only [if_pos (show m_X6_isTape h t from c5), if_pos (show z_in s (-1) 4 from c17), if_neg (show ¬ (s < 0) from c21), if_neg (show ¬ (n ≤ 60) from c27)]
  · refine z_iconst (v := (-1)) dX6_tape_8 rfl ?_
    refine z_iret dX6_tape_9 rfl rfl (Nat.le_refl _) (Nat.le_refl _) (z_ri_i ?_ ?_)
    · unfold m_X6_tape; rw [if_neg (show ¬ (m_X6_isTape h t) from c5)]
    · unfold m_X6_tape_h m_X6_tape_g; simp only [if_neg (show ¬ (m_X6_isTape h t) from c5)]
