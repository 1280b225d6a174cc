/-! THE REFERENCE: clauses, gains, climbs (printed by model3.py) -/
set_option maxRecDepth 20000
/-- the clauses of the air that is: from where, how many -/
def a_bg (h : z_H) : Nat := if 0 ≤ z_I h 49 12 then 10 * z_c (z_I h 49 12) else 0
def a_cn (h : z_H) : Nat := if 0 ≤ z_I h 49 12 then z_c (z_I h 56 (z_c (z_I h 49 12))) else 0
/-- the air that is can be gone through -/
def a_av (h : z_H) : Prop := (0 ≤ z_I h 49 12 → z_cn (z_I h 49 12) 5 ∧ z_cn (z_I h 56 (z_c (z_I h 49 12))) 10) ∧ ∀ c, a_bg h ≤ c → c < a_bg h + a_cn h → z_I h 57 c ≤ 1 → a_ok h c
theorem a_av_le {h : z_H} (ha : a_av h) : a_bg h + a_cn h ≤ 60 ∧ a_bg h ≤ 50 ∧ a_cn h ≤ 10 := by
  unfold a_bg a_cn
  by_cases c : 0 ≤ z_I h 49 12
  · obtain ⟨h1, h2⟩ := ha.1 c
    rw [if_pos c, if_pos c]
    have := h1.2
    have := h2.2
    omega
  · rw [if_neg c, if_neg c]
    omega
theorem c_X6_holds {Γ : z_W} {h : z_H} {c l : Int32} (hF : z_F h) (hc : c = nI (z_c c) ∧ z_c c < 60) (hl : l = nI (z_c l) ∧ z_c l < 6) (ho : a_ok h (z_c c)) : z_C Γ M_X6_holds (z_rm 2 0 0) [.ref 49, .int c, .int l] h (z_ri (z_b (m_X6_holds h c l = true)) h) := by
  refine z_C.of (by decide +kernel) rfl [some (.ref 49), some (.int c), some (.int l), none, none, none, none, none] (Nat.le_of_ble_eq_true rfl) rfl ?_
  refine z_iconst (v := 0) dX6_holds_0 rfl ?_
  refine z_istore_n dX6_holds_1 rfl (by decide) rfl ?_
  refine z_aload_n dX6_holds_2 rfl rfl ?_
  refine z_getR 59 dX6_holds_3 fl_X6_71_6 (hF.1 49 _ rfl) rfl (hF.2.1 49 20 59 rfl) ?_
  refine z_iload_n dX6_holds_6 rfl rfl ?_
  refine z_iald (z_c c) dX6_holds_7 (hF.1 59 _ rfl) (hc).1 (by have := (hc).2; omega) (by decide) ?_
  refine z_eqi (nI (z_c (z_I h 59 (z_c c)))) ho.1.1 ?_
  refine z_istore dX6_holds_8 (by decide) rfl ?_
  refine z_open (hF.1 64 _ rfl) (fun f => ?_)
  exact lp_X6_holds hF hc hl ho _ 0 f none none none (Nat.zero_add _) trivial
theorem c_X6_begin {Γ : z_W} {h : z_H} (hF : z_F h) (ha : a_av h) : z_C Γ M_X6_begin (z_rm 1 0 0) [.ref 49] h (z_ri (nI (a_bg h)) h) := by
  refine z_C.of (by decide +kernel) rfl [some (.ref 49)] (Nat.le_of_ble_eq_true rfl) rfl ?_
  refine z_aload_n dX6_begin_0 rfl rfl ?_
  refine z_getI dX6_begin_1 fl_X6_47_6 (hF.1 49 _ rfl) rfl ?_
  refine z_if_ge 11 dX6_begin_4 (by decide) (fun c4 => ?_) (fun c4 => ?_)
  · refine z_bipush (v := 10) dX6_begin_11 rfl ?_
    refine z_aload_n dX6_begin_13 rfl rfl ?_
    refine z_getI dX6_begin_14 fl_X6_47_6 (hF.1 49 _ rfl) rfl ?_
    refine z_imul dX6_begin_17 ?_
    refine z_iret dX6_begin_18 rfl rfl (Nat.le_refl _) (Nat.le_refl _) (z_ri_i ?_ ?_)
    · unfold a_bg; rw [if_pos c4, ← pk_mul, ← (ha.1 c4).1.1]; rfl
    · rfl
  · refine z_iconst (v := 0) dX6_begin_7 rfl ?_
    refine z_goto 18 dX6_begin_8 (by decide) ?_
    refine z_iret dX6_begin_18 rfl rfl (Nat.le_refl _) (Nat.le_refl _) (z_ri_i ?_ ?_)
    · unfold a_bg; rw [if_neg c4]; rfl
    · rfl
theorem c_X6_behind {Γ : z_W} {h : z_H} (hF : z_F h) (ha : a_av h) : z_C Γ M_X6_behind (z_rm 1 0 0) [.ref 49] h (z_ri (nI (a_bg h + a_cn h)) h) := by
  refine z_C.of (by decide +kernel) rfl [some (.ref 49)] (Nat.le_of_ble_eq_true rfl) rfl ?_
  refine z_aload_n dX6_behind_0 rfl rfl ?_
  refine z_getI dX6_behind_1 fl_X6_47_6 (hF.1 49 _ rfl) rfl ?_
  refine z_if_ge 11 dX6_behind_4 (by decide) (fun c4 => ?_) (fun c4 => ?_)
  · refine z_bipush (v := 10) dX6_behind_11 rfl ?_
    refine z_aload_n dX6_behind_13 rfl rfl ?_
    refine z_getI dX6_behind_14 fl_X6_47_6 (hF.1 49 _ rfl) rfl ?_
    refine z_imul dX6_behind_17 ?_
    refine z_aload_n dX6_behind_18 rfl rfl ?_
    refine z_getR 56 dX6_behind_19 fl_X6_62_6 (hF.1 49 _ rfl) rfl (hF.2.1 49 17 56 rfl) ?_
    refine z_aload_n dX6_behind_22 rfl rfl ?_
    refine z_getI dX6_behind_23 fl_X6_47_6 (hF.1 49 _ rfl) rfl ?_
    refine z_iald (z_c (z_I h 49 12)) dX6_behind_26 (hF.1 56 _ rfl) (ha.1 c4).1.1 (by have := (ha.1 c4).1.2; omega) (by decide) ?_
    refine z_iadd dX6_behind_27 ?_
    refine z_iret dX6_behind_28 rfl rfl (Nat.le_refl _) (Nat.le_refl _) (z_ri_i ?_ ?_)
    · unfold a_bg a_cn; rw [if_pos c4, if_pos c4, ← nI_add, ← pk_mul, ← (ha.1 c4).1.1, ← (ha.1 c4).2.1]; rfl
    · rfl
  · refine z_iconst (v := 0) dX6_behind_7 rfl ?_
    refine z_goto 28 dX6_behind_8 (by decide) ?_
    refine z_iret dX6_behind_28 rfl rfl (Nat.le_refl _) (Nat.le_refl _) (z_ri_i ?_ ?_)
    · unfold a_bg a_cn; rw [if_neg c4, if_neg c4]; rfl
    · rfl
/-- the last number of a word of clauses -/
def a_lo (wd nb : Nat → Int32) (w x : Int32) (b : Nat) : Nat → Int32
  | 0 => x
  | n + 1 => if wd (b + n) = w then nb (b + n) else a_lo wd nb w x b n
def m_X6_lastOf (h : z_H) (w x : Int32) : Int32 := a_lo (z_I h 57) (z_I h 58) w x (a_bg h) (a_cn h)
theorem lp_X6_lastOf {Γ : z_W} {h : z_H} {w x : Int32} (hF : z_F h) (ha : a_av h) : ∀ (n i : Nat), i + n = a_cn h →
    z_G Γ M_X6_lastOf (z_rm 2 0 0) (z_ri (m_X6_lastOf h w x) h) 0 0 8 [some (.ref 49), some (.int w), some (.int x), some (.int (a_lo (z_I h 57) (z_I h 58) w x (a_bg h) i)), some (.int (nI (a_bg h + i)))] [] h := by
  intro n
  have hb := a_av_le ha
  induction n with
  | zero =>
    intro i hin
    have hi : i = a_cn h := by omega
    refine z_iload dX6_lastOf_8 rfl ?_
    refine z_aload_n dX6_lastOf_10 rfl rfl ?_
    refine z_vcall vl_X6_288_6 (c_X6_behind hF ha) dX6_lastOf_11 rfl rfl (hF.1 49 _ rfl) ⟨by decide, by decide⟩ (Nat.le_of_ble_eq_true rfl) (Nat.le_refl _) (Nat.le_refl _) (z_cI ?_) z_tI
    refine z_icmp_ge 46 dX6_lastOf_14 (by decide) (fun _ => ?_) (fun q => by first | exact absurd (nI_le (show a_bg h + a_cn h ≤ a_bg h + i by omega) (by omega)) q | exact absurd q (nI_le (show a_bg h + a_cn h ≤ a_bg h + i by omega) (by omega)))
    refine z_iload_n dX6_lastOf_46 rfl rfl ?_
    refine z_iret dX6_lastOf_47 rfl rfl (Nat.le_refl _) (Nat.le_refl _) (z_ri_i ?_ ?_)
    · rw [hi]; rfl
    · rfl
  | succ n ih =>
    intro i hin
    refine z_iload dX6_lastOf_8 rfl ?_
    refine z_aload_n dX6_lastOf_10 rfl rfl ?_
    refine z_vcall vl_X6_288_6 (c_X6_behind hF ha) dX6_lastOf_11 rfl rfl (hF.1 49 _ rfl) ⟨by decide, by decide⟩ (Nat.le_of_ble_eq_true rfl) (Nat.le_refl _) (Nat.le_refl _) (z_cI ?_) z_tI
    refine z_icmp_ge 46 dX6_lastOf_14 (by decide) (fun q => by first | exact absurd q (nI_ge (show a_bg h + i < a_bg h + a_cn h by omega) (by omega)) | exact absurd (nI_ge (show a_bg h + i < a_bg h + a_cn h by omega) (by omega)) q) (fun _ => ?_)
    refine z_aload_n dX6_lastOf_17 rfl rfl ?_
    refine z_getR 57 dX6_lastOf_18 fl_X6_65_6 (hF.1 49 _ rfl) rfl (hF.2.1 49 18 57 rfl) ?_
    refine z_iload dX6_lastOf_21 rfl ?_
    refine z_iald (a_bg h + i) dX6_lastOf_23 (hF.1 57 _ rfl) rfl (by omega) (by decide) ?_
    refine z_iload_n dX6_lastOf_24 rfl rfl ?_
    refine z_icmp_ne 38 dX6_lastOf_25 (by decide) (fun c25 => ?_) (fun c25 => ?_)
    · refine z_iload_n dX6_lastOf_38 rfl rfl ?_
      refine z_istore_n dX6_lastOf_39 rfl (by decide) rfl ?_
      refine z_iinc (v := nI (a_bg h + (i + 1))) dX6_lastOf_40 rfl (by rw [← Nat.add_assoc]; exact (nI_succ _).symm) (by decide) rfl ?_
      refine z_goto 8 dX6_lastOf_43 (by decide) ?_
      have e1 : a_lo (z_I h 57) (z_I h 58) w x (a_bg h) (i + 1) = a_lo (z_I h 57) (z_I h 58) w x (a_bg h) i := by simp only [a_lo]; rw [if_neg c25]
      have fin := ih (i + 1) (by omega)
      rw [e1] at fin
      exact fin
    · refine z_aload_n dX6_lastOf_28 rfl rfl ?_
      refine z_getR 58 dX6_lastOf_29 fl_X6_68_6 (hF.1 49 _ rfl) rfl (hF.2.1 49 19 58 rfl) ?_
      refine z_iload dX6_lastOf_32 rfl ?_
      refine z_iald (a_bg h + i) dX6_lastOf_34 (hF.1 58 _ rfl) rfl (by omega) (by decide) ?_
      refine z_goto 39 dX6_lastOf_35 (by decide) ?_
      refine z_istore_n dX6_lastOf_39 rfl (by decide) rfl ?_
      refine z_iinc (v := nI (a_bg h + (i + 1))) dX6_lastOf_40 rfl (by rw [← Nat.add_assoc]; exact (nI_succ _).symm) (by decide) rfl ?_
      refine z_goto 8 dX6_lastOf_43 (by decide) ?_
      have e1 : a_lo (z_I h 57) (z_I h 58) w x (a_bg h) (i + 1) = z_I h 58 (a_bg h + i) := by simp only [a_lo]; rw [if_pos c25]
      have fin := ih (i + 1) (by omega)
      rw [e1] at fin
      exact fin
theorem c_X6_lastOf {Γ : z_W} {h : z_H} {w x : Int32} (hF : z_F h) (ha : a_av h) : z_C Γ M_X6_lastOf (z_rm 2 0 0) [.ref 49, .int w, .int x] h (z_ri (m_X6_lastOf h w x) h) := by
  refine z_C.of (by decide +kernel) rfl [some (.ref 49), some (.int w), some (.int x), none, none] (Nat.le_of_ble_eq_true rfl) rfl ?_
  refine z_iload_n dX6_lastOf_0 rfl rfl ?_
  refine z_istore_n dX6_lastOf_1 rfl (by decide) rfl ?_
  refine z_aload_n dX6_lastOf_2 rfl rfl ?_
  refine z_vcall vl_X6_285_6 (c_X6_begin hF ha) dX6_lastOf_3 rfl rfl (hF.1 49 _ rfl) ⟨by decide, by decide⟩ (Nat.le_of_ble_eq_true rfl) (Nat.le_refl _) (Nat.le_refl _) (z_cI ?_) z_tI
  refine z_istore dX6_lastOf_6 (by decide) rfl ?_
  exact lp_X6_lastOf hF ha _ 0 (Nat.zero_add _)
def m_X6_base (h : z_H)  : Int32 :=
  if (10 * (m_X6_lastOf h 2 40)) ≤ 400 then
    10 * (m_X6_lastOf h 2 40)
  else
    400
theorem c_X6_base {Γ : z_W} {h : z_H}  (hF : z_F h) (ha : a_av h) : z_C Γ M_X6_base (z_rm 3 0 0) [.ref 49] h (z_ri (m_X6_base h) h) := by
  refine z_C.of (by decide +kernel) rfl [some (.ref 49), none] (Nat.le_of_ble_eq_true rfl) rfl ?_
  refine z_bipush (v := 10) dX6_base_0 rfl ?_
  refine z_aload_n dX6_base_2 rfl rfl ?_
  refine z_iconst (v := 2) dX6_base_3 rfl ?_
  refine z_bipush (v := 40) dX6_base_4 rfl ?_
  refine z_vcall vl_X6_291_6 (c_X6_lastOf hF ha) dX6_base_6 rfl rfl (hF.1 49 _ rfl) ⟨by decide, by decide⟩ (Nat.le_of_ble_eq_true rfl) (Nat.le_refl _) (Nat.le_refl _) (z_cI ?_) z_tI
  refine z_imul dX6_base_9 ?_
  refine z_istore_n dX6_base_10 rfl (by decide) rfl ?_
  refine z_iload_n dX6_base_11 rfl rfl ?_
  refine z_sipush (v := 400) dX6_base_12 rfl ?_
  refine z_icmp_le 24 dX6_base_15 (by decide) (fun c15 => ?_) (fun c15 => ?_)
  · refine z_iload_n dX6_base_24 rfl rfl ?_
    refine z_iret dX6_base_25 rfl rfl (Nat.le_refl _) (Nat.le_refl _) (z_ri_i ?_ ?_)
    · first | rfl | (unfold m_X6_base; rw [if_pos (show (10 * (m_X6_lastOf h 2 40)) ≤ 400 from c15)]; first | done | rfl)
    · first | rfl | (unfold m_X6_base; rw [if_pos (show (10 * (m_X6_lastOf h 2 40)) ≤ 400 from c15)]; first | done | rfl)
  · refine z_sipush (v := 400) dX6_base_18 rfl ?_
    refine z_goto 25 dX6_base_21 (by decide) ?_
    refine z_iret dX6_base_25 rfl rfl (Nat.le_refl _) (Nat.le_refl _) (z_ri_i ?_ ?_)
    · first | rfl | (unfold m_X6_base; rw [if_neg (show ¬ ((10 * (m_X6_lastOf h 2 40)) ≤ 400) from c15)]; first | done | rfl)
    · first | rfl | (unfold m_X6_base; rw [if_neg (show ¬ ((10 * (m_X6_lastOf h 2 40)) ≤ 400) from c15)]; first | done | rfl)
def m_X6_safe (h : z_H)  : Int32 :=
  10 * (m_X6_lastOf h 3 8)
theorem c_X6_safe {Γ : z_W} {h : z_H}  (hF : z_F h) (ha : a_av h) : z_C Γ M_X6_safe (z_rm 3 0 0) [.ref 49] h (z_ri (m_X6_safe h) h) := by
  refine z_C.of (by decide +kernel) rfl [some (.ref 49)] (Nat.le_of_ble_eq_true rfl) rfl ?_
  refine z_bipush (v := 10) dX6_safe_0 rfl ?_
  refine z_aload_n dX6_safe_2 rfl rfl ?_
  refine z_iconst (v := 3) dX6_safe_3 rfl ?_
  refine z_bipush (v := 8) dX6_safe_4 rfl ?_
  refine z_vcall vl_X6_291_6 (c_X6_lastOf hF ha) dX6_safe_6 rfl rfl (hF.1 49 _ rfl) ⟨by decide, by decide⟩ (Nat.le_of_ble_eq_true rfl) (Nat.le_refl _) (Nat.le_refl _) (z_cI ?_) z_tI
  refine z_imul dX6_safe_9 ?_
  refine z_iret dX6_safe_10 rfl rfl (Nat.le_refl _) (Nat.le_refl _) (z_ri_i ?_ ?_)
  · first | rfl | (unfold m_X6_safe; first | done | rfl)
  · first | rfl | (unfold m_X6_safe; first | done | rfl)
def a_gn (wd nb : Nat → Int32) (hd : Nat → Bool) (p : Int32) (b : Nat) : Nat → Int32
  | 0 => p
  | n + 1 => if 1 < wd (b + n) then a_gn wd nb hd p b n else if hd (b + n) = true then (if wd (b + n) = 0 then a_gn wd nb hd p b n + nb (b + n) else a_gn wd nb hd p b n + -nb (b + n)) else a_gn wd nb hd p b n
def m_X6_gain (h : z_H) (l : Int32) : Int32 := a_gn (z_I h 57) (z_I h 58) (fun c => m_X6_holds h (nI c) l) (z_I h 53 (z_c l)) (a_bg h) (a_cn h)
theorem z_ixn {n b : Nat} (h : n < b) (hb : b ≤ 2 ^ 31) : nI n = nI (z_c (nI n)) ∧ z_c (nI n) < b := by
  unfold z_c
  rw [nI_clamp (by omega)]
  exact ⟨rfl, h⟩
theorem lp_X6_gain {Γ : z_W} {h : z_H} {l : Int32} (hF : z_F h) (ha : a_av h) (hl : l = nI (z_c l) ∧ z_c l < 6) : ∀ (n i : Nat), i + n = a_cn h →
    z_G Γ M_X6_gain (z_rm 3 0 0) (z_ri (m_X6_gain h l) h) 0 0 12 [some (.ref 49), some (.int l), some (.int (a_gn (z_I h 57) (z_I h 58) (fun c => m_X6_holds h (nI c) l) (z_I h 53 (z_c l)) (a_bg h) i)), some (.int (nI (a_bg h + i)))] [] h := by
  intro n
  have hb := a_av_le ha
  induction n with
  | zero =>
    intro i hin
    have hi : i = a_cn h := by omega
    refine z_iload_n dX6_gain_12 rfl rfl ?_
    refine z_aload_n dX6_gain_13 rfl rfl ?_
    refine z_vcall vl_X6_288_6 (c_X6_behind hF ha) dX6_gain_14 rfl rfl (hF.1 49 _ rfl) ⟨by decide, by decide⟩ (Nat.le_of_ble_eq_true rfl) (Nat.le_refl _) (Nat.le_refl _) (z_cI ?_) z_tI
    refine z_icmp_ge 76 dX6_gain_17 (by decide) (fun _ => ?_) (fun q => by first | exact absurd (nI_le (show a_bg h + a_cn h ≤ a_bg h + i by omega) (by omega)) q | exact absurd q (nI_le (show a_bg h + a_cn h ≤ a_bg h + i by omega) (by omega)))
    refine z_iload_n dX6_gain_76 rfl rfl ?_
    refine z_iret dX6_gain_77 rfl rfl (Nat.le_refl _) (Nat.le_refl _) (z_ri_i ?_ ?_)
    · rw [hi]; rfl
    · rfl
  | succ n ih =>
    intro i hin
    refine z_iload_n dX6_gain_12 rfl rfl ?_
    refine z_aload_n dX6_gain_13 rfl rfl ?_
    refine z_vcall vl_X6_288_6 (c_X6_behind hF ha) dX6_gain_14 rfl rfl (hF.1 49 _ rfl) ⟨by decide, by decide⟩ (Nat.le_of_ble_eq_true rfl) (Nat.le_refl _) (Nat.le_refl _) (z_cI ?_) z_tI
    refine z_icmp_ge 76 dX6_gain_17 (by decide) (fun q => by first | exact absurd q (nI_ge (show a_bg h + i < a_bg h + a_cn h by omega) (by omega)) | exact absurd (nI_ge (show a_bg h + i < a_bg h + a_cn h by omega) (by omega)) q) (fun _ => ?_)
    refine z_aload_n dX6_gain_20 rfl rfl ?_
    refine z_getR 57 dX6_gain_21 fl_X6_65_6 (hF.1 49 _ rfl) rfl (hF.2.1 49 18 57 rfl) ?_
    refine z_iload_n dX6_gain_24 rfl rfl ?_
    refine z_iald (a_bg h + i) dX6_gain_25 (hF.1 57 _ rfl) rfl (by omega) (by decide) ?_
    refine z_iconst (v := 1) dX6_gain_26 rfl ?_
    refine z_icmp_gt 70 dX6_gain_27 (by decide) (fun c27 => ?_) (fun c27 => ?_)
    · refine z_iinc (v := nI (a_bg h + (i + 1))) dX6_gain_70 rfl (by rw [← Nat.add_assoc]; exact (nI_succ _).symm) (by decide) rfl ?_
      refine z_goto 12 dX6_gain_73 (by decide) ?_
      have e1 : a_gn (z_I h 57) (z_I h 58) (fun c => m_X6_holds h (nI c) l) (z_I h 53 (z_c l)) (a_bg h) (i + 1) = a_gn (z_I h 57) (z_I h 58) (fun c => m_X6_holds h (nI c) l) (z_I h 53 (z_c l)) (a_bg h) i := by simp only [a_gn]; rw [if_pos c27]
      have fin := ih (i + 1) (by omega)
      rw [e1] at fin
      exact fin
    · have hok : a_ok h (z_c (nI (a_bg h + i))) := by unfold z_c; rw [nI_clamp (by omega)]; exact ha.2 _ (by omega) (by omega) (Int32.not_lt.mp c27)
      refine z_aload_n dX6_gain_30 rfl rfl ?_
      refine z_iload_n dX6_gain_31 rfl rfl ?_
      refine z_iload_n dX6_gain_32 rfl rfl ?_
      refine z_vcall vl_X6_298_6 (c_X6_holds hF (z_ixn (by omega) (by decide)) hl hok) dX6_gain_33 rfl rfl (hF.1 49 _ rfl) ⟨by decide, by decide⟩ (Nat.le_of_ble_eq_true rfl) (Nat.le_refl _) (Nat.le_refl _) (z_cI ?_) z_tI
      refine z_bif_ne 42 dX6_gain_36 (by decide) (fun c36 => ?_) (fun c36 => ?_)
      · refine z_iload_n dX6_gain_42 rfl rfl ?_
        refine z_aload_n dX6_gain_43 rfl rfl ?_
        refine z_getR 57 dX6_gain_44 fl_X6_65_6 (hF.1 49 _ rfl) rfl (hF.2.1 49 18 57 rfl) ?_
        refine z_iload_n dX6_gain_47 rfl rfl ?_
        refine z_iald (a_bg h + i) dX6_gain_48 (hF.1 57 _ rfl) rfl (by omega) (by decide) ?_
        refine z_if_ne 61 dX6_gain_49 (by decide) (fun c49 => ?_) (fun c49 => ?_)
        · refine z_aload_n dX6_gain_61 rfl rfl ?_
          refine z_getR 58 dX6_gain_62 fl_X6_68_6 (hF.1 49 _ rfl) rfl (hF.2.1 49 19 58 rfl) ?_
          refine z_iload_n dX6_gain_65 rfl rfl ?_
          refine z_iald (a_bg h + i) dX6_gain_66 (hF.1 58 _ rfl) rfl (by omega) (by decide) ?_
          refine z_ineg dX6_gain_67 ?_
          refine z_iadd dX6_gain_68 ?_
          refine z_istore_n dX6_gain_69 rfl (by decide) rfl ?_
          refine z_iinc (v := nI (a_bg h + (i + 1))) dX6_gain_70 rfl (by rw [← Nat.add_assoc]; exact (nI_succ _).symm) (by decide) rfl ?_
          refine z_goto 12 dX6_gain_73 (by decide) ?_
          have e1 : a_gn (z_I h 57) (z_I h 58) (fun c => m_X6_holds h (nI c) l) (z_I h 53 (z_c l)) (a_bg h) (i + 1) = a_gn (z_I h 57) (z_I h 58) (fun c => m_X6_holds h (nI c) l) (z_I h 53 (z_c l)) (a_bg h) i + -z_I h 58 (a_bg h + i) := by simp only [a_gn]; rw [if_neg c27, if_pos c36, if_neg c49]
          have fin := ih (i + 1) (by omega)
          rw [e1] at fin
          exact fin
        · refine z_aload_n dX6_gain_52 rfl rfl ?_
          refine z_getR 58 dX6_gain_53 fl_X6_68_6 (hF.1 49 _ rfl) rfl (hF.2.1 49 19 58 rfl) ?_
          refine z_iload_n dX6_gain_56 rfl rfl ?_
          refine z_iald (a_bg h + i) dX6_gain_57 (hF.1 58 _ rfl) rfl (by omega) (by decide) ?_
          refine z_goto 68 dX6_gain_58 (by decide) ?_
          refine z_iadd dX6_gain_68 ?_
          refine z_istore_n dX6_gain_69 rfl (by decide) rfl ?_
          refine z_iinc (v := nI (a_bg h + (i + 1))) dX6_gain_70 rfl (by rw [← Nat.add_assoc]; exact (nI_succ _).symm) (by decide) rfl ?_
          refine z_goto 12 dX6_gain_73 (by decide) ?_
          have e1 : a_gn (z_I h 57) (z_I h 58) (fun c => m_X6_holds h (nI c) l) (z_I h 53 (z_c l)) (a_bg h) (i + 1) = a_gn (z_I h 57) (z_I h 58) (fun c => m_X6_holds h (nI c) l) (z_I h 53 (z_c l)) (a_bg h) i + z_I h 58 (a_bg h + i) := by simp only [a_gn]; rw [if_neg c27, if_pos c36, if_pos c49]
          have fin := ih (i + 1) (by omega)
          rw [e1] at fin
          exact fin
      · refine z_goto 70 dX6_gain_39 (by decide) ?_
        refine z_iinc (v := nI (a_bg h + (i + 1))) dX6_gain_70 rfl (by rw [← Nat.add_assoc]; exact (nI_succ _).symm) (by decide) rfl ?_
        refine z_goto 12 dX6_gain_73 (by decide) ?_
        have e1 : a_gn (z_I h 57) (z_I h 58) (fun c => m_X6_holds h (nI c) l) (z_I h 53 (z_c l)) (a_bg h) (i + 1) = a_gn (z_I h 57) (z_I h 58) (fun c => m_X6_holds h (nI c) l) (z_I h 53 (z_c l)) (a_bg h) i := by simp only [a_gn]; rw [if_neg c27, if_neg c36]
        have fin := ih (i + 1) (by omega)
        rw [e1] at fin
        exact fin
theorem c_X6_gain {Γ : z_W} {h : z_H} {l : Int32} (hF : z_F h) (ha : a_av h) (hl : l = nI (z_c l) ∧ z_c l < 6) : z_C Γ M_X6_gain (z_rm 3 0 0) [.ref 49, .int l] h (z_ri (m_X6_gain h l) h) := by
  refine z_C.of (by decide +kernel) rfl [some (.ref 49), some (.int l), none, none] (Nat.le_of_ble_eq_true rfl) rfl ?_
  refine z_aload_n dX6_gain_0 rfl rfl ?_
  refine z_getR 53 dX6_gain_1 fl_X6_38_6 (hF.1 49 _ rfl) rfl (hF.2.1 49 9 53 rfl) ?_
  refine z_iload_n dX6_gain_4 rfl rfl ?_
  refine z_iald (z_c l) dX6_gain_5 (hF.1 53 _ rfl) (hl).1 (by have := (hl).2; omega) (by decide) ?_
  refine z_istore_n dX6_gain_6 rfl (by decide) rfl ?_
  refine z_aload_n dX6_gain_7 rfl rfl ?_
  refine z_vcall vl_X6_285_6 (c_X6_begin hF ha) dX6_gain_8 rfl rfl (hF.1 49 _ rfl) ⟨by decide, by decide⟩ (Nat.le_of_ble_eq_true rfl) (Nat.le_refl _) (Nat.le_refl _) (z_cI ?_) z_tI
  refine z_istore_n dX6_gain_11 rfl (by decide) rfl ?_
  exact lp_X6_gain hF ha hl _ 0 (Nat.zero_add _)
