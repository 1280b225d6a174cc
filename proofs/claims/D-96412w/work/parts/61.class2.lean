/-! THE CLASS: Time (printed by class2.py) -/
set_option maxRecDepth 20000
theorem z_i0 : (0 : Int32).toInt = 0 := rfl
theorem z_i99 : (99 : Int32).toInt = 99 := rfl
theorem z_abs_a {h g : z_H} {a b : Int32} (ha : z_in a 0 99) (hb : z_in b 0 99) : m_J3_abs h (b - a) = m_X6_apart g a b := by
  have h1 := z_rin.mp ha
  have h2 := z_rin.mp hb
  rw [z_i0, z_i99] at h1 h2
  unfold z_r at h1 h2
  have e1 : (b - a).toInt = b.toInt - a.toInt := z_ts (by omega) (by omega)
  have e2 : (a - b).toInt = a.toInt - b.toInt := z_ts (by omega) (by omega)
  have e3 : (-(b - a)).toInt = a.toInt - b.toInt := by rw [z_tg (by omega), e1]; omega
  unfold m_J3_abs m_X6_apart
  simp only [Int32.le_iff_toInt_le, Int32.lt_iff_toInt_lt, z_i0]
  apply Int32.toInt_inj.mp
  (repeat' split) <;> omega
theorem z_apart_r {h : z_H} {a b : Int32} (ha : z_in a 0 99) (hb : z_in b 0 99) : z_r (m_X6_apart h a b) 0 99 := by
  have h1 := z_rin.mp ha
  have h2 := z_rin.mp hb
  rw [z_i0, z_i99] at h1 h2
  unfold z_r at h1 h2 ⊢
  have e1 : (b - a).toInt = b.toInt - a.toInt := z_ts (by omega) (by omega)
  have e2 : (a - b).toInt = a.toInt - b.toInt := z_ts (by omega) (by omega)
  unfold m_X6_apart
  simp only [Int32.le_iff_toInt_le, Int32.lt_iff_toInt_lt]
  (repeat' split) <;> omega
theorem z_falls_r {h : z_H} {a b p : Int32} (ha : z_in a 0 99) (hb : z_in b 0 99) (hp : z_in p 1 9) : z_r (m_X6_falls h a b p) 0 1386 := by
  have h1 := z_apart_r (h := h) ha hb
  have h2 := z_rin.mp hp
  rw [show (1 : Int32).toInt = 1 from rfl, show (9 : Int32).toInt = 9 from rfl] at h2
  have h3 : z_r ((5 : Int32) + p) 6 14 := by
    have := (show z_r (5 : Int32) 5 5 from ⟨by decide, by decide⟩).add h2 (by decide) (by decide)
    exact this
  show z_r (m_X6_apart h a b * (5 + p)) 0 1386
  unfold z_r at h1 h3 ⊢
  have hlo : 0 ≤ (m_X6_apart h a b).toInt * (5 + p).toInt := Int.mul_nonneg h1.1 (by omega)
  have hhi : (m_X6_apart h a b).toInt * (5 + p).toInt ≤ 99 * 14 := Int.mul_le_mul h1.2 h3.2 (by omega) (by decide)
  rw [z_tm (by omega) (by omega)]
  omega
theorem z_reach0 {x y : Int32} (hx : z_r x 0 400) (hy : z_r y 0 1386) : ¬ (x - y < 0) ↔ y ≤ x := by
  unfold z_r at hx hy
  rw [Int32.lt_iff_toInt_lt, Int32.le_iff_toInt_le, z_ts (by omega) (by omega), z_i0]
  omega
theorem z_reach_s {x y s : Int32} (hx : z_r x 0 400) (hy : z_r y 0 1386) (hs : z_r s 0 990) : ¬ (x - y < s) ↔ y + s ≤ x := by
  unfold z_r at hx hy hs
  rw [Int32.lt_iff_toInt_lt, Int32.le_iff_toInt_le, z_ts (by omega) (by omega), z_ta (by omega) (by omega)]
  omega
/-- the height behind a minute, as the class has it -/
def a_ch (c top hi : Int32) : Int32 := if c ≤ 0 then (if 0 < hi + c then hi + c else 0) else if (if top < hi then hi else top) < hi + c then (if top < hi then hi else top) else hi + c
theorem a_ch_hi {h : z_H} {l m hi mi : Int32} {B : Nat} (hmi : z_cn mi B) (hk : z_ok h) (hb : z_bd h) (hl : l = nI (z_c l) ∧ z_c l < z_c (z_I h 49 0)) (hh : z_r hi 0 400) : a_ch (a_cl h l m hi mi) (m_X6_base h) hi = a_hi h l m hi mi := by
  have hc := z_cl_r (m := m) (hi := hi) hmi hk hb hl
  have hs := z_base_r hb
  have hsum : (hi + a_cl h l m hi mi).toInt = hi.toInt + (a_cl h l m hi mi).toInt := by
    unfold z_r at *
    exact z_ta (by omega) (by omega)
  have e0 := z_i0
  unfold a_ch a_hi
  apply Int32.toInt_inj.mp
  simp only [Int32.le_iff_toInt_le, Int32.lt_iff_toInt_lt, z_i0]
  unfold z_r at *
  (repeat' split) <;> omega
theorem c_X1_needs_20 {Γ : z_W} {h : z_H} {f : Nat → Nat → Int32} {t p : Int32} (hF : z_F h) (hm : z_in (f 20 0) 0 99) (ht : z_in t 0 99) : z_C Γ M_X1_needs (z_rm 2 0 0) [.ref 20, .int t, .int p] (z_cy h f) (z_ri (m_X6_falls h (f 20 0) t p) (z_cy h f)) := by
  refine z_C.of (by decide +kernel) rfl [some (.ref 20), some (.int t), some (.int p)] (Nat.le_of_ble_eq_true rfl) rfl ?_
  refine z_iload_n dX1_needs_0 rfl rfl ?_
  refine z_aload_n dX1_needs_1 rfl rfl ?_
  refine z_getI dX1_needs_2 fl_X1_18_1 (hF.1 20 _ rfl) rfl ?_
  refine z_eqi (f 20 0) rfl ?_
  refine z_isub dX1_needs_5 ?_
  refine z_scall sl_X1_24 (c_J3_abs) dX1_needs_6 rfl rfl ⟨by decide, by decide⟩ (Nat.le_of_ble_eq_true rfl) (Nat.le_refl _) (Nat.le_refl _) (z_cI ?_) z_tI
  refine z_eqi (m_X6_apart h (f 20 0) t) (z_abs_a hm ht) ?_
  refine z_iconst (v := 5) dX1_needs_9 rfl ?_
  refine z_iload_n dX1_needs_10 rfl rfl ?_
  refine z_iadd dX1_needs_11 ?_
  refine z_imul dX1_needs_12 ?_
  refine z_iret dX1_needs_13 rfl rfl (Nat.le_refl _) (Nat.le_refl _) (z_ri_i ?_ ?_)
  · rfl
  · rfl
theorem c_X1_reaches_20 {Γ : z_W} {h : z_H} {f : Nat → Nat → Int32} {t p s : Int32} (hF : z_F h) (hm : z_in (f 20 0) 0 99) (ht : z_in t 0 99) : z_C Γ M_X1_reaches (z_rm 3 0 0) [.ref 20, .int t, .int p, .int s] (z_cy h f) (z_ri (z_b (¬ (f 20 1 - m_X6_falls h (f 20 0) t p < s))) (z_cy h f)) := by
  refine z_C.of (by decide +kernel) rfl [some (.ref 20), some (.int t), some (.int p), some (.int s)] (Nat.le_of_ble_eq_true rfl) rfl ?_
  refine z_aload_n dX1_reaches_0 rfl rfl ?_
  refine z_getI dX1_reaches_1 fl_X1_9_1 (hF.1 20 _ rfl) rfl ?_
  refine z_eqi (f 20 1) rfl ?_
  refine z_aload_n dX1_reaches_4 rfl rfl ?_
  refine z_iload_n dX1_reaches_5 rfl rfl ?_
  refine z_iload_n dX1_reaches_6 rfl rfl ?_
  refine z_vcall vl_X1_30_1 (c_X1_needs_20 hF hm ht) dX1_reaches_7 rfl rfl (hF.1 20 _ rfl) ⟨by decide, by decide⟩ (Nat.le_of_ble_eq_true rfl) (Nat.le_refl _) (Nat.le_refl _) (z_cI ?_) z_tI
  refine z_isub dX1_reaches_10 ?_
  refine z_iload_n dX1_reaches_11 rfl rfl ?_
  refine z_icmp_lt 19 dX1_reaches_12 (by decide) (fun c12 => ?_) (fun c12 => ?_)
  · refine z_iconst (v := 0) dX1_reaches_19 rfl ?_
    refine z_iret dX1_reaches_20 rfl rfl (Nat.le_refl _) (Nat.le_refl _) (z_ri_i ?_ ?_)
    · exact (z_b0 (fun q => q c12)).symm
    · rfl
  · refine z_iconst (v := 1) dX1_reaches_15 rfl ?_
    refine z_goto 20 dX1_reaches_16 (by decide) ?_
    refine z_iret dX1_reaches_20 rfl rfl (Nat.le_refl _) (Nat.le_refl _) (z_ri_i ?_ ?_)
    · exact (z_b1 c12).symm
    · rfl
theorem c_X1_glides_20_y {Γ : z_W} {h : z_H} {f : Nat → Nat → Int32} {t p : Int32} (hF : z_F h) (hm : z_in (f 20 0) 0 99) (ht : z_in t 0 99) (hc : ¬ (f 20 1 - m_X6_falls h (f 20 0) t p < 0)) : z_C Γ M_X1_glides (z_rm 4 0 0) [.ref 20, .int t, .int p] (z_cy h f) (z_ri 1 (z_cy h (z_u (z_u (z_u (z_u f 20 1 (f 20 1 - m_X6_falls h (f 20 0) t p)) 20 2 (f 20 2 + m_X6_apart h (f 20 0) t * (10 - p))) 20 0 t) 20 3 (-1)))) := by
  refine z_C.of (by decide +kernel) rfl [some (.ref 20), some (.int t), some (.int p)] (Nat.le_of_ble_eq_true rfl) rfl ?_
  refine z_aload_n dX1_glides_0 rfl rfl ?_
  refine z_iload_n dX1_glides_1 rfl rfl ?_
  refine z_iload_n dX1_glides_2 rfl rfl ?_
  refine z_iconst (v := 0) dX1_glides_3 rfl ?_
  refine z_vcall vl_X1_34_1 (c_X1_reaches_20 hF hm ht) dX1_glides_4 rfl rfl (hF.1 20 _ rfl) ⟨by decide, by decide⟩ (Nat.le_of_ble_eq_true rfl) (Nat.le_refl _) (Nat.le_refl _) (z_cI ?_) z_tI
  refine z_bif_ne 12 dX1_glides_7 (by decide) (fun _ => ?_) (fun q => by first | exact absurd hc q | exact absurd q hc)
  refine z_aload_n dX1_glides_12 rfl rfl ?_
  refine z_dup dX1_glides_13 rfl ?_
  refine z_getI dX1_glides_14 fl_X1_9_1 (hF.1 20 _ rfl) rfl ?_
  refine z_eqi (f 20 1) rfl ?_
  refine z_aload_n dX1_glides_17 rfl rfl ?_
  refine z_iload_n dX1_glides_18 rfl rfl ?_
  refine z_iload_n dX1_glides_19 rfl rfl ?_
  refine z_vcall vl_X1_30_1 (c_X1_needs_20 hF hm ht) dX1_glides_20 rfl rfl (hF.1 20 _ rfl) ⟨by decide, by decide⟩ (Nat.le_of_ble_eq_true rfl) (Nat.le_refl _) (Nat.le_refl _) (z_cI ?_) z_tI
  refine z_isub dX1_glides_23 ?_
  refine z_putI dX1_glides_24 (pl_X1_9_1 rfl) (hF.1 20 _ rfl) (by decide) rfl ?_
  refine z_meq (z_cy h (z_u f 20 1 ((f 20 1) - (m_X6_falls h (f 20 0) t p)))) (z_cy_s (by decide)) ?_
  refine z_aload_n dX1_glides_27 rfl rfl ?_
  refine z_dup dX1_glides_28 rfl ?_
  refine z_getI dX1_glides_29 fl_X1_21_1 (hF.1 20 _ rfl) rfl ?_
  refine z_eqi (f 20 2) rfl ?_
  refine z_iload_n dX1_glides_32 rfl rfl ?_
  refine z_aload_n dX1_glides_33 rfl rfl ?_
  refine z_getI dX1_glides_34 fl_X1_18_1 (hF.1 20 _ rfl) rfl ?_
  refine z_eqi (f 20 0) rfl ?_
  refine z_isub dX1_glides_37 ?_
  refine z_scall sl_X1_24 (c_J3_abs) dX1_glides_38 rfl rfl ⟨by decide, by decide⟩ (Nat.le_of_ble_eq_true rfl) (Nat.le_refl _) (Nat.le_refl _) (z_cI ?_) z_tI
  refine z_eqi (m_X6_apart h (f 20 0) t) (z_abs_a hm ht) ?_
  refine z_bipush (v := 10) dX1_glides_41 rfl ?_
  refine z_iload_n dX1_glides_43 rfl rfl ?_
  refine z_isub dX1_glides_44 ?_
  refine z_imul dX1_glides_45 ?_
  refine z_iadd dX1_glides_46 ?_
  refine z_putI dX1_glides_47 (pl_X1_21_1 rfl) (hF.1 20 _ rfl) (by decide) rfl ?_
  refine z_meq (z_cy h (z_u (z_u f 20 1 ((f 20 1) - (m_X6_falls h (f 20 0) t p))) 20 2 ((f 20 2) + ((m_X6_apart h (f 20 0) t) * (10 - p))))) (z_cy_s (by decide)) ?_
  refine z_aload_n dX1_glides_50 rfl rfl ?_
  refine z_iload_n dX1_glides_51 rfl rfl ?_
  refine z_putI dX1_glides_52 (pl_X1_18_1 rfl) (hF.1 20 _ rfl) (by decide) rfl ?_
  refine z_meq (z_cy h (z_u (z_u (z_u f 20 1 ((f 20 1) - (m_X6_falls h (f 20 0) t p))) 20 2 ((f 20 2) + ((m_X6_apart h (f 20 0) t) * (10 - p)))) 20 0 t)) (z_cy_s (by decide)) ?_
  refine z_aload_n dX1_glides_55 rfl rfl ?_
  refine z_iconst (v := (-1)) dX1_glides_56 rfl ?_
  refine z_putI dX1_glides_57 (pl_X1_15_1 rfl) (hF.1 20 _ rfl) (by decide) rfl ?_
  refine z_meq (z_cy h (z_u (z_u (z_u (z_u f 20 1 ((f 20 1) - (m_X6_falls h (f 20 0) t p))) 20 2 ((f 20 2) + ((m_X6_apart h (f 20 0) t) * (10 - p)))) 20 0 t) 20 3 (-1))) (z_cy_s (by decide)) ?_
  refine z_iconst (v := 1) dX1_glides_60 rfl ?_
  refine z_iret dX1_glides_61 rfl rfl (Nat.le_refl _) (Nat.le_refl _) (z_ri_i ?_ ?_)
  · rfl
  · rfl
theorem c_X1_glides_20_n {Γ : z_W} {h : z_H} {f : Nat → Nat → Int32} {t p : Int32} (hF : z_F h) (hm : z_in (f 20 0) 0 99) (ht : z_in t 0 99) (hc : ¬ ¬ (f 20 1 - m_X6_falls h (f 20 0) t p < 0)) : z_C Γ M_X1_glides (z_rm 4 0 0) [.ref 20, .int t, .int p] (z_cy h f) (z_ri 0 (z_cy h f)) := by
  refine z_C.of (by decide +kernel) rfl [some (.ref 20), some (.int t), some (.int p)] (Nat.le_of_ble_eq_true rfl) rfl ?_
  refine z_aload_n dX1_glides_0 rfl rfl ?_
  refine z_iload_n dX1_glides_1 rfl rfl ?_
  refine z_iload_n dX1_glides_2 rfl rfl ?_
  refine z_iconst (v := 0) dX1_glides_3 rfl ?_
  refine z_vcall vl_X1_34_1 (c_X1_reaches_20 hF hm ht) dX1_glides_4 rfl rfl (hF.1 20 _ rfl) ⟨by decide, by decide⟩ (Nat.le_of_ble_eq_true rfl) (Nat.le_refl _) (Nat.le_refl _) (z_cI ?_) z_tI
  refine z_bif_ne 12 dX1_glides_7 (by decide) (fun q => by first | exact absurd q hc | exact absurd hc q) (fun _ => ?_)
  refine z_iconst (v := 0) dX1_glides_10 rfl ?_
  refine z_iret dX1_glides_11 rfl rfl (Nat.le_refl _) (Nat.le_refl _) (z_ri_i ?_ ?_)
  · rfl
  · rfl
theorem c_X1_climbs_20 {Γ : z_W} {h : z_H} {f : Nat → Nat → Int32} {c t : Int32} (hF : z_F h)  : z_C Γ M_X1_climbs (z_rm 2 0 0) [.ref 20, .int c, .int t] (z_cy h f) (z_rv (z_cy h (z_u (z_u f 20 1 (a_ch c t (f 20 1))) 20 2 (f 20 2 + 1)))) := by
  refine z_C.of (by decide +kernel) rfl [some (.ref 20), some (.int c), some (.int t)] (Nat.le_of_ble_eq_true rfl) rfl ?_
  refine z_aload_n dX1_climbs_0 rfl rfl ?_
  refine z_iload_n dX1_climbs_1 rfl rfl ?_
  refine z_if_le 25 dX1_climbs_2 (by decide) (fun c2 => ?_) (fun c2 => ?_)
  · refine z_iconst (v := 0) dX1_climbs_25 rfl ?_
    refine z_aload_n dX1_climbs_26 rfl rfl ?_
    refine z_getI dX1_climbs_27 fl_X1_9_1 (hF.1 20 _ rfl) rfl ?_
    refine z_eqi (f 20 1) rfl ?_
    refine z_iload_n dX1_climbs_30 rfl rfl ?_
    refine z_iadd dX1_climbs_31 ?_
    refine z_scall sl_X1_38 (c_J3_max) dX1_climbs_32 rfl rfl ⟨by decide, by decide⟩ (Nat.le_of_ble_eq_true rfl) (Nat.le_refl _) (Nat.le_refl _) (z_cI ?_) z_tI
    refine z_putI dX1_climbs_35 (pl_X1_9_1 rfl) (hF.1 20 _ rfl) (by decide) rfl ?_
    refine z_meq (z_cy h (z_u f 20 1 (m_J3_max h 0 ((f 20 1) + c)))) (z_cy_s (by decide)) ?_
    refine z_aload_n dX1_climbs_38 rfl rfl ?_
    refine z_dup dX1_climbs_39 rfl ?_
    refine z_getI dX1_climbs_40 fl_X1_21_1 (hF.1 20 _ rfl) rfl ?_
    refine z_eqi (f 20 2) rfl ?_
    refine z_iconst (v := 1) dX1_climbs_43 rfl ?_
    refine z_iadd dX1_climbs_44 ?_
    refine z_putI dX1_climbs_45 (pl_X1_21_1 rfl) (hF.1 20 _ rfl) (by decide) rfl ?_
    refine z_meq (z_cy h (z_u (z_u f 20 1 (m_J3_max h 0 ((f 20 1) + c))) 20 2 ((f 20 2) + 1))) (z_cy_s (by decide)) ?_
    refine z_vret dX1_climbs_48 rfl (Nat.le_refl _) (Nat.le_refl _) (z_rv_i ?_)
    refine congrArg (fun x => z_cy h (z_u (z_u f 20 1 x) 20 2 (f 20 2 + 1))) ?_
    unfold a_ch m_J3_max
    rw [if_pos (show c ≤ 0 from c2)]
  · refine z_aload_n dX1_climbs_5 rfl rfl ?_
    refine z_getI dX1_climbs_6 fl_X1_9_1 (hF.1 20 _ rfl) rfl ?_
    refine z_eqi (f 20 1) rfl ?_
    refine z_iload_n dX1_climbs_9 rfl rfl ?_
    refine z_iadd dX1_climbs_10 ?_
    refine z_iload_n dX1_climbs_11 rfl rfl ?_
    refine z_aload_n dX1_climbs_12 rfl rfl ?_
    refine z_getI dX1_climbs_13 fl_X1_9_1 (hF.1 20 _ rfl) rfl ?_
    refine z_eqi (f 20 1) rfl ?_
    refine z_scall sl_X1_38 (c_J3_max) dX1_climbs_16 rfl rfl ⟨by decide, by decide⟩ (Nat.le_of_ble_eq_true rfl) (Nat.le_refl _) (Nat.le_refl _) (z_cI ?_) z_tI
    refine z_scall sl_X1_41 (c_J3_min) dX1_climbs_19 rfl rfl ⟨by decide, by decide⟩ (Nat.le_of_ble_eq_true rfl) (Nat.le_refl _) (Nat.le_refl _) (z_cI ?_) z_tI
    refine z_goto 35 dX1_climbs_22 (by decide) ?_
    refine z_putI dX1_climbs_35 (pl_X1_9_1 rfl) (hF.1 20 _ rfl) (by decide) rfl ?_
    refine z_meq (z_cy h (z_u f 20 1 (m_J3_min h ((f 20 1) + c) (m_J3_max h t (f 20 1))))) (z_cy_s (by decide)) ?_
    refine z_aload_n dX1_climbs_38 rfl rfl ?_
    refine z_dup dX1_climbs_39 rfl ?_
    refine z_getI dX1_climbs_40 fl_X1_21_1 (hF.1 20 _ rfl) rfl ?_
    refine z_eqi (f 20 2) rfl ?_
    refine z_iconst (v := 1) dX1_climbs_43 rfl ?_
    refine z_iadd dX1_climbs_44 ?_
    refine z_putI dX1_climbs_45 (pl_X1_21_1 rfl) (hF.1 20 _ rfl) (by decide) rfl ?_
    refine z_meq (z_cy h (z_u (z_u f 20 1 (m_J3_min h ((f 20 1) + c) (m_J3_max h t (f 20 1)))) 20 2 ((f 20 2) + 1))) (z_cy_s (by decide)) ?_
    refine z_vret dX1_climbs_48 rfl (Nat.le_refl _) (Nat.le_refl _) (z_rv_i ?_)
    refine congrArg (fun x => z_cy h (z_u (z_u f 20 1 x) 20 2 (f 20 2 + 1))) ?_
    unfold a_ch m_J3_max m_J3_min
    rw [if_neg (show ¬ (c ≤ 0) from c2)]
theorem c_X1_needs_21 {Γ : z_W} {h : z_H} {f : Nat → Nat → Int32} {t p : Int32} (hF : z_F h) (hm : z_in (f 21 0) 0 99) (ht : z_in t 0 99) : z_C Γ M_X1_needs (z_rm 2 0 0) [.ref 21, .int t, .int p] (z_cy h f) (z_ri (m_X6_falls h (f 21 0) t p) (z_cy h f)) := by
  refine z_C.of (by decide +kernel) rfl [some (.ref 21), some (.int t), some (.int p)] (Nat.le_of_ble_eq_true rfl) rfl ?_
  refine z_iload_n dX1_needs_0 rfl rfl ?_
  refine z_aload_n dX1_needs_1 rfl rfl ?_
  refine z_getI dX1_needs_2 fl_X1_18_1 (hF.1 21 _ rfl) rfl ?_
  refine z_eqi (f 21 0) rfl ?_
  refine z_isub dX1_needs_5 ?_
  refine z_scall sl_X1_24 (c_J3_abs) dX1_needs_6 rfl rfl ⟨by decide, by decide⟩ (Nat.le_of_ble_eq_true rfl) (Nat.le_refl _) (Nat.le_refl _) (z_cI ?_) z_tI
  refine z_eqi (m_X6_apart h (f 21 0) t) (z_abs_a hm ht) ?_
  refine z_iconst (v := 5) dX1_needs_9 rfl ?_
  refine z_iload_n dX1_needs_10 rfl rfl ?_
  refine z_iadd dX1_needs_11 ?_
  refine z_imul dX1_needs_12 ?_
  refine z_iret dX1_needs_13 rfl rfl (Nat.le_refl _) (Nat.le_refl _) (z_ri_i ?_ ?_)
  · rfl
  · rfl
theorem c_X1_reaches_21 {Γ : z_W} {h : z_H} {f : Nat → Nat → Int32} {t p s : Int32} (hF : z_F h) (hm : z_in (f 21 0) 0 99) (ht : z_in t 0 99) : z_C Γ M_X1_reaches (z_rm 3 0 0) [.ref 21, .int t, .int p, .int s] (z_cy h f) (z_ri (z_b (¬ (f 21 1 - m_X6_falls h (f 21 0) t p < s))) (z_cy h f)) := by
  refine z_C.of (by decide +kernel) rfl [some (.ref 21), some (.int t), some (.int p), some (.int s)] (Nat.le_of_ble_eq_true rfl) rfl ?_
  refine z_aload_n dX1_reaches_0 rfl rfl ?_
  refine z_getI dX1_reaches_1 fl_X1_9_1 (hF.1 21 _ rfl) rfl ?_
  refine z_eqi (f 21 1) rfl ?_
  refine z_aload_n dX1_reaches_4 rfl rfl ?_
  refine z_iload_n dX1_reaches_5 rfl rfl ?_
  refine z_iload_n dX1_reaches_6 rfl rfl ?_
  refine z_vcall vl_X1_30_1 (c_X1_needs_21 hF hm ht) dX1_reaches_7 rfl rfl (hF.1 21 _ rfl) ⟨by decide, by decide⟩ (Nat.le_of_ble_eq_true rfl) (Nat.le_refl _) (Nat.le_refl _) (z_cI ?_) z_tI
  refine z_isub dX1_reaches_10 ?_
  refine z_iload_n dX1_reaches_11 rfl rfl ?_
  refine z_icmp_lt 19 dX1_reaches_12 (by decide) (fun c12 => ?_) (fun c12 => ?_)
  · refine z_iconst (v := 0) dX1_reaches_19 rfl ?_
    refine z_iret dX1_reaches_20 rfl rfl (Nat.le_refl _) (Nat.le_refl _) (z_ri_i ?_ ?_)
    · exact (z_b0 (fun q => q c12)).symm
    · rfl
  · refine z_iconst (v := 1) dX1_reaches_15 rfl ?_
    refine z_goto 20 dX1_reaches_16 (by decide) ?_
    refine z_iret dX1_reaches_20 rfl rfl (Nat.le_refl _) (Nat.le_refl _) (z_ri_i ?_ ?_)
    · exact (z_b1 c12).symm
    · rfl
theorem c_X1_glides_21_y {Γ : z_W} {h : z_H} {f : Nat → Nat → Int32} {t p : Int32} (hF : z_F h) (hm : z_in (f 21 0) 0 99) (ht : z_in t 0 99) (hc : ¬ (f 21 1 - m_X6_falls h (f 21 0) t p < 0)) : z_C Γ M_X1_glides (z_rm 4 0 0) [.ref 21, .int t, .int p] (z_cy h f) (z_ri 1 (z_cy h (z_u (z_u (z_u (z_u f 21 1 (f 21 1 - m_X6_falls h (f 21 0) t p)) 21 2 (f 21 2 + m_X6_apart h (f 21 0) t * (10 - p))) 21 0 t) 21 3 (-1)))) := by
  refine z_C.of (by decide +kernel) rfl [some (.ref 21), some (.int t), some (.int p)] (Nat.le_of_ble_eq_true rfl) rfl ?_
  refine z_aload_n dX1_glides_0 rfl rfl ?_
  refine z_iload_n dX1_glides_1 rfl rfl ?_
  refine z_iload_n dX1_glides_2 rfl rfl ?_
  refine z_iconst (v := 0) dX1_glides_3 rfl ?_
  refine z_vcall vl_X1_34_1 (c_X1_reaches_21 hF hm ht) dX1_glides_4 rfl rfl (hF.1 21 _ rfl) ⟨by decide, by decide⟩ (Nat.le_of_ble_eq_true rfl) (Nat.le_refl _) (Nat.le_refl _) (z_cI ?_) z_tI
  refine z_bif_ne 12 dX1_glides_7 (by decide) (fun _ => ?_) (fun q => by first | exact absurd hc q | exact absurd q hc)
  refine z_aload_n dX1_glides_12 rfl rfl ?_
  refine z_dup dX1_glides_13 rfl ?_
  refine z_getI dX1_glides_14 fl_X1_9_1 (hF.1 21 _ rfl) rfl ?_
  refine z_eqi (f 21 1) rfl ?_
  refine z_aload_n dX1_glides_17 rfl rfl ?_
  refine z_iload_n dX1_glides_18 rfl rfl ?_
  refine z_iload_n dX1_glides_19 rfl rfl ?_
  refine z_vcall vl_X1_30_1 (c_X1_needs_21 hF hm ht) dX1_glides_20 rfl rfl (hF.1 21 _ rfl) ⟨by decide, by decide⟩ (Nat.le_of_ble_eq_true rfl) (Nat.le_refl _) (Nat.le_refl _) (z_cI ?_) z_tI
  refine z_isub dX1_glides_23 ?_
  refine z_putI dX1_glides_24 (pl_X1_9_1 rfl) (hF.1 21 _ rfl) (by decide) rfl ?_
  refine z_meq (z_cy h (z_u f 21 1 ((f 21 1) - (m_X6_falls h (f 21 0) t p)))) (z_cy_s (by decide)) ?_
  refine z_aload_n dX1_glides_27 rfl rfl ?_
  refine z_dup dX1_glides_28 rfl ?_
  refine z_getI dX1_glides_29 fl_X1_21_1 (hF.1 21 _ rfl) rfl ?_
  refine z_eqi (f 21 2) rfl ?_
  refine z_iload_n dX1_glides_32 rfl rfl ?_
  refine z_aload_n dX1_glides_33 rfl rfl ?_
  refine z_getI dX1_glides_34 fl_X1_18_1 (hF.1 21 _ rfl) rfl ?_
  refine z_eqi (f 21 0) rfl ?_
  refine z_isub dX1_glides_37 ?_
  refine z_scall sl_X1_24 (c_J3_abs) dX1_glides_38 rfl rfl ⟨by decide, by decide⟩ (Nat.le_of_ble_eq_true rfl) (Nat.le_refl _) (Nat.le_refl _) (z_cI ?_) z_tI
  refine z_eqi (m_X6_apart h (f 21 0) t) (z_abs_a hm ht) ?_
  refine z_bipush (v := 10) dX1_glides_41 rfl ?_
  refine z_iload_n dX1_glides_43 rfl rfl ?_
  refine z_isub dX1_glides_44 ?_
  refine z_imul dX1_glides_45 ?_
  refine z_iadd dX1_glides_46 ?_
  refine z_putI dX1_glides_47 (pl_X1_21_1 rfl) (hF.1 21 _ rfl) (by decide) rfl ?_
  refine z_meq (z_cy h (z_u (z_u f 21 1 ((f 21 1) - (m_X6_falls h (f 21 0) t p))) 21 2 ((f 21 2) + ((m_X6_apart h (f 21 0) t) * (10 - p))))) (z_cy_s (by decide)) ?_
  refine z_aload_n dX1_glides_50 rfl rfl ?_
  refine z_iload_n dX1_glides_51 rfl rfl ?_
  refine z_putI dX1_glides_52 (pl_X1_18_1 rfl) (hF.1 21 _ rfl) (by decide) rfl ?_
  refine z_meq (z_cy h (z_u (z_u (z_u f 21 1 ((f 21 1) - (m_X6_falls h (f 21 0) t p))) 21 2 ((f 21 2) + ((m_X6_apart h (f 21 0) t) * (10 - p)))) 21 0 t)) (z_cy_s (by decide)) ?_
  refine z_aload_n dX1_glides_55 rfl rfl ?_
  refine z_iconst (v := (-1)) dX1_glides_56 rfl ?_
  refine z_putI dX1_glides_57 (pl_X1_15_1 rfl) (hF.1 21 _ rfl) (by decide) rfl ?_
  refine z_meq (z_cy h (z_u (z_u (z_u (z_u f 21 1 ((f 21 1) - (m_X6_falls h (f 21 0) t p))) 21 2 ((f 21 2) + ((m_X6_apart h (f 21 0) t) * (10 - p)))) 21 0 t) 21 3 (-1))) (z_cy_s (by decide)) ?_
  refine z_iconst (v := 1) dX1_glides_60 rfl ?_
  refine z_iret dX1_glides_61 rfl rfl (Nat.le_refl _) (Nat.le_refl _) (z_ri_i ?_ ?_)
  · rfl
  · rfl
theorem c_X1_glides_21_n {Γ : z_W} {h : z_H} {f : Nat → Nat → Int32} {t p : Int32} (hF : z_F h) (hm : z_in (f 21 0) 0 99) (ht : z_in t 0 99) (hc : ¬ ¬ (f 21 1 - m_X6_falls h (f 21 0) t p < 0)) : z_C Γ M_X1_glides (z_rm 4 0 0) [.ref 21, .int t, .int p] (z_cy h f) (z_ri 0 (z_cy h f)) := by
  refine z_C.of (by decide +kernel) rfl [some (.ref 21), some (.int t), some (.int p)] (Nat.le_of_ble_eq_true rfl) rfl ?_
  refine z_aload_n dX1_glides_0 rfl rfl ?_
  refine z_iload_n dX1_glides_1 rfl rfl ?_
  refine z_iload_n dX1_glides_2 rfl rfl ?_
  refine z_iconst (v := 0) dX1_glides_3 rfl ?_
  refine z_vcall vl_X1_34_1 (c_X1_reaches_21 hF hm ht) dX1_glides_4 rfl rfl (hF.1 21 _ rfl) ⟨by decide, by decide⟩ (Nat.le_of_ble_eq_true rfl) (Nat.le_refl _) (Nat.le_refl _) (z_cI ?_) z_tI
  refine z_bif_ne 12 dX1_glides_7 (by decide) (fun q => by first | exact absurd q hc | exact absurd hc q) (fun _ => ?_)
  refine z_iconst (v := 0) dX1_glides_10 rfl ?_
  refine z_iret dX1_glides_11 rfl rfl (Nat.le_refl _) (Nat.le_refl _) (z_ri_i ?_ ?_)
  · rfl
  · rfl
theorem c_X1_climbs_21 {Γ : z_W} {h : z_H} {f : Nat → Nat → Int32} {c t : Int32} (hF : z_F h)  : z_C Γ M_X1_climbs (z_rm 2 0 0) [.ref 21, .int c, .int t] (z_cy h f) (z_rv (z_cy h (z_u (z_u f 21 1 (a_ch c t (f 21 1))) 21 2 (f 21 2 + 1)))) := by
  refine z_C.of (by decide +kernel) rfl [some (.ref 21), some (.int c), some (.int t)] (Nat.le_of_ble_eq_true rfl) rfl ?_
  refine z_aload_n dX1_climbs_0 rfl rfl ?_
  refine z_iload_n dX1_climbs_1 rfl rfl ?_
  refine z_if_le 25 dX1_climbs_2 (by decide) (fun c2 => ?_) (fun c2 => ?_)
  · refine z_iconst (v := 0) dX1_climbs_25 rfl ?_
    refine z_aload_n dX1_climbs_26 rfl rfl ?_
    refine z_getI dX1_climbs_27 fl_X1_9_1 (hF.1 21 _ rfl) rfl ?_
    refine z_eqi (f 21 1) rfl ?_
    refine z_iload_n dX1_climbs_30 rfl rfl ?_
    refine z_iadd dX1_climbs_31 ?_
    refine z_scall sl_X1_38 (c_J3_max) dX1_climbs_32 rfl rfl ⟨by decide, by decide⟩ (Nat.le_of_ble_eq_true rfl) (Nat.le_refl _) (Nat.le_refl _) (z_cI ?_) z_tI
    refine z_putI dX1_climbs_35 (pl_X1_9_1 rfl) (hF.1 21 _ rfl) (by decide) rfl ?_
    refine z_meq (z_cy h (z_u f 21 1 (m_J3_max h 0 ((f 21 1) + c)))) (z_cy_s (by decide)) ?_
    refine z_aload_n dX1_climbs_38 rfl rfl ?_
    refine z_dup dX1_climbs_39 rfl ?_
    refine z_getI dX1_climbs_40 fl_X1_21_1 (hF.1 21 _ rfl) rfl ?_
    refine z_eqi (f 21 2) rfl ?_
    refine z_iconst (v := 1) dX1_climbs_43 rfl ?_
    refine z_iadd dX1_climbs_44 ?_
    refine z_putI dX1_climbs_45 (pl_X1_21_1 rfl) (hF.1 21 _ rfl) (by decide) rfl ?_
    refine z_meq (z_cy h (z_u (z_u f 21 1 (m_J3_max h 0 ((f 21 1) + c))) 21 2 ((f 21 2) + 1))) (z_cy_s (by decide)) ?_
    refine z_vret dX1_climbs_48 rfl (Nat.le_refl _) (Nat.le_refl _) (z_rv_i ?_)
    refine congrArg (fun x => z_cy h (z_u (z_u f 21 1 x) 21 2 (f 21 2 + 1))) ?_
    unfold a_ch m_J3_max
    rw [if_pos (show c ≤ 0 from c2)]
  · refine z_aload_n dX1_climbs_5 rfl rfl ?_
    refine z_getI dX1_climbs_6 fl_X1_9_1 (hF.1 21 _ rfl) rfl ?_
    refine z_eqi (f 21 1) rfl ?_
    refine z_iload_n dX1_climbs_9 rfl rfl ?_
    refine z_iadd dX1_climbs_10 ?_
    refine z_iload_n dX1_climbs_11 rfl rfl ?_
    refine z_aload_n dX1_climbs_12 rfl rfl ?_
    refine z_getI dX1_climbs_13 fl_X1_9_1 (hF.1 21 _ rfl) rfl ?_
    refine z_eqi (f 21 1) rfl ?_
    refine z_scall sl_X1_38 (c_J3_max) dX1_climbs_16 rfl rfl ⟨by decide, by decide⟩ (Nat.le_of_ble_eq_true rfl) (Nat.le_refl _) (Nat.le_refl _) (z_cI ?_) z_tI
    refine z_scall sl_X1_41 (c_J3_min) dX1_climbs_19 rfl rfl ⟨by decide, by decide⟩ (Nat.le_of_ble_eq_true rfl) (Nat.le_refl _) (Nat.le_refl _) (z_cI ?_) z_tI
    refine z_goto 35 dX1_climbs_22 (by decide) ?_
    refine z_putI dX1_climbs_35 (pl_X1_9_1 rfl) (hF.1 21 _ rfl) (by decide) rfl ?_
    refine z_meq (z_cy h (z_u f 21 1 (m_J3_min h ((f 21 1) + c) (m_J3_max h t (f 21 1))))) (z_cy_s (by decide)) ?_
    refine z_aload_n dX1_climbs_38 rfl rfl ?_
    refine z_dup dX1_climbs_39 rfl ?_
    refine z_getI dX1_climbs_40 fl_X1_21_1 (hF.1 21 _ rfl) rfl ?_
    refine z_eqi (f 21 2) rfl ?_
    refine z_iconst (v := 1) dX1_climbs_43 rfl ?_
    refine z_iadd dX1_climbs_44 ?_
    refine z_putI dX1_climbs_45 (pl_X1_21_1 rfl) (hF.1 21 _ rfl) (by decide) rfl ?_
    refine z_meq (z_cy h (z_u (z_u f 21 1 (m_J3_min h ((f 21 1) + c) (m_J3_max h t (f 21 1)))) 21 2 ((f 21 2) + 1))) (z_cy_s (by decide)) ?_
    refine z_vret dX1_climbs_48 rfl (Nat.le_refl _) (Nat.le_refl _) (z_rv_i ?_)
    refine congrArg (fun x => z_cy h (z_u (z_u f 21 1 x) 21 2 (f 21 2 + 1))) ?_
    unfold a_ch m_J3_max m_J3_min
    rw [if_neg (show ¬ (c ≤ 0) from c2)]
theorem c_X1_takes_21_20 {Γ : z_W} {h : z_H} {f : Nat → Nat → Int32}  (hF : z_F h)  : z_C Γ M_X1_takes (z_rm 1 0 0) [.ref 21, .ref 20] (z_cy h f) (z_rv (z_cy h (z_u (z_u (z_u (z_u f 21 0 (f 20 0)) 21 1 (f 20 1)) 21 2 (f 20 2)) 21 3 (f 20 3)))) := by
  refine z_C.of (by decide +kernel) rfl [some (.ref 21), some (.ref 20)] (Nat.le_of_ble_eq_true rfl) rfl ?_
  refine z_aload_n dX1_takes_0 rfl rfl ?_
  refine z_aload_n dX1_takes_1 rfl rfl ?_
  refine z_getI dX1_takes_2 fl_X1_18_1 (hF.1 20 _ rfl) rfl ?_
  refine z_eqi (f 20 0) rfl ?_
  refine z_putI dX1_takes_5 (pl_X1_18_1 rfl) (hF.1 21 _ rfl) (by decide) rfl ?_
  refine z_meq (z_cy h (z_u f 21 0 (f 20 0))) (z_cy_s (by decide)) ?_
  refine z_aload_n dX1_takes_8 rfl rfl ?_
  refine z_aload_n dX1_takes_9 rfl rfl ?_
  refine z_getI dX1_takes_10 fl_X1_9_1 (hF.1 20 _ rfl) rfl ?_
  refine z_eqi (f 20 1) rfl ?_
  refine z_putI dX1_takes_13 (pl_X1_9_1 rfl) (hF.1 21 _ rfl) (by decide) rfl ?_
  refine z_meq (z_cy h (z_u (z_u f 21 0 (f 20 0)) 21 1 (f 20 1))) (z_cy_s (by decide)) ?_
  refine z_aload_n dX1_takes_16 rfl rfl ?_
  refine z_aload_n dX1_takes_17 rfl rfl ?_
  refine z_getI dX1_takes_18 fl_X1_21_1 (hF.1 20 _ rfl) rfl ?_
  refine z_eqi (f 20 2) rfl ?_
  refine z_putI dX1_takes_21 (pl_X1_21_1 rfl) (hF.1 21 _ rfl) (by decide) rfl ?_
  refine z_meq (z_cy h (z_u (z_u (z_u f 21 0 (f 20 0)) 21 1 (f 20 1)) 21 2 (f 20 2))) (z_cy_s (by decide)) ?_
  refine z_aload_n dX1_takes_24 rfl rfl ?_
  refine z_aload_n dX1_takes_25 rfl rfl ?_
  refine z_getI dX1_takes_26 fl_X1_15_1 (hF.1 20 _ rfl) rfl ?_
  refine z_eqi (f 20 3) rfl ?_
  refine z_putI dX1_takes_29 (pl_X1_15_1 rfl) (hF.1 21 _ rfl) (by decide) rfl ?_
  refine z_meq (z_cy h (z_u (z_u (z_u (z_u f 21 0 (f 20 0)) 21 1 (f 20 1)) 21 2 (f 20 2)) 21 3 (f 20 3))) (z_cy_s (by decide)) ?_
  refine z_vret dX1_takes_32 rfl (Nat.le_refl _) (Nat.le_refl _) (z_rv_i ?_)
  rfl
theorem c_X1_takes_20_21 {Γ : z_W} {h : z_H} {f : Nat → Nat → Int32}  (hF : z_F h)  : z_C Γ M_X1_takes (z_rm 1 0 0) [.ref 20, .ref 21] (z_cy h f) (z_rv (z_cy h (z_u (z_u (z_u (z_u f 20 0 (f 21 0)) 20 1 (f 21 1)) 20 2 (f 21 2)) 20 3 (f 21 3)))) := by
  refine z_C.of (by decide +kernel) rfl [some (.ref 20), some (.ref 21)] (Nat.le_of_ble_eq_true rfl) rfl ?_
  refine z_aload_n dX1_takes_0 rfl rfl ?_
  refine z_aload_n dX1_takes_1 rfl rfl ?_
  refine z_getI dX1_takes_2 fl_X1_18_1 (hF.1 21 _ rfl) rfl ?_
  refine z_eqi (f 21 0) rfl ?_
  refine z_putI dX1_takes_5 (pl_X1_18_1 rfl) (hF.1 20 _ rfl) (by decide) rfl ?_
  refine z_meq (z_cy h (z_u f 20 0 (f 21 0))) (z_cy_s (by decide)) ?_
  refine z_aload_n dX1_takes_8 rfl rfl ?_
  refine z_aload_n dX1_takes_9 rfl rfl ?_
  refine z_getI dX1_takes_10 fl_X1_9_1 (hF.1 21 _ rfl) rfl ?_
  refine z_eqi (f 21 1) rfl ?_
  refine z_putI dX1_takes_13 (pl_X1_9_1 rfl) (hF.1 20 _ rfl) (by decide) rfl ?_
  refine z_meq (z_cy h (z_u (z_u f 20 0 (f 21 0)) 20 1 (f 21 1))) (z_cy_s (by decide)) ?_
  refine z_aload_n dX1_takes_16 rfl rfl ?_
  refine z_aload_n dX1_takes_17 rfl rfl ?_
  refine z_getI dX1_takes_18 fl_X1_21_1 (hF.1 21 _ rfl) rfl ?_
  refine z_eqi (f 21 2) rfl ?_
  refine z_putI dX1_takes_21 (pl_X1_21_1 rfl) (hF.1 20 _ rfl) (by decide) rfl ?_
  refine z_meq (z_cy h (z_u (z_u (z_u f 20 0 (f 21 0)) 20 1 (f 21 1)) 20 2 (f 21 2))) (z_cy_s (by decide)) ?_
  refine z_aload_n dX1_takes_24 rfl rfl ?_
  refine z_aload_n dX1_takes_25 rfl rfl ?_
  refine z_getI dX1_takes_26 fl_X1_15_1 (hF.1 21 _ rfl) rfl ?_
  refine z_eqi (f 21 3) rfl ?_
  refine z_putI dX1_takes_29 (pl_X1_15_1 rfl) (hF.1 20 _ rfl) (by decide) rfl ?_
  refine z_meq (z_cy h (z_u (z_u (z_u (z_u f 20 0 (f 21 0)) 20 1 (f 21 1)) 20 2 (f 21 2)) 20 3 (f 21 3))) (z_cy_s (by decide)) ?_
  refine z_vret dX1_takes_32 rfl (Nat.le_refl _) (Nat.le_refl _) (z_rv_i ?_)
  rfl
theorem c_X1_takes_34_20 {Γ : z_W} {h : z_H} {f : Nat → Nat → Int32}  (hF : z_F h)  : z_C Γ M_X1_takes (z_rm 1 0 0) [.ref 34, .ref 20] (z_cy h f) (z_rv (z_cy h (z_u (z_u (z_u (z_u f 34 0 (f 20 0)) 34 1 (f 20 1)) 34 2 (f 20 2)) 34 3 (f 20 3)))) := by
  refine z_C.of (by decide +kernel) rfl [some (.ref 34), some (.ref 20)] (Nat.le_of_ble_eq_true rfl) rfl ?_
  refine z_aload_n dX1_takes_0 rfl rfl ?_
  refine z_aload_n dX1_takes_1 rfl rfl ?_
  refine z_getI dX1_takes_2 fl_X1_18_1 (hF.1 20 _ rfl) rfl ?_
  refine z_eqi (f 20 0) rfl ?_
  refine z_putI dX1_takes_5 (pl_X1_18_1 rfl) (hF.1 34 _ rfl) (by decide) rfl ?_
  refine z_meq (z_cy h (z_u f 34 0 (f 20 0))) (z_cy_s (by decide)) ?_
  refine z_aload_n dX1_takes_8 rfl rfl ?_
  refine z_aload_n dX1_takes_9 rfl rfl ?_
  refine z_getI dX1_takes_10 fl_X1_9_1 (hF.1 20 _ rfl) rfl ?_
  refine z_eqi (f 20 1) rfl ?_
  refine z_putI dX1_takes_13 (pl_X1_9_1 rfl) (hF.1 34 _ rfl) (by decide) rfl ?_
  refine z_meq (z_cy h (z_u (z_u f 34 0 (f 20 0)) 34 1 (f 20 1))) (z_cy_s (by decide)) ?_
  refine z_aload_n dX1_takes_16 rfl rfl ?_
  refine z_aload_n dX1_takes_17 rfl rfl ?_
  refine z_getI dX1_takes_18 fl_X1_21_1 (hF.1 20 _ rfl) rfl ?_
  refine z_eqi (f 20 2) rfl ?_
  refine z_putI dX1_takes_21 (pl_X1_21_1 rfl) (hF.1 34 _ rfl) (by decide) rfl ?_
  refine z_meq (z_cy h (z_u (z_u (z_u f 34 0 (f 20 0)) 34 1 (f 20 1)) 34 2 (f 20 2))) (z_cy_s (by decide)) ?_
  refine z_aload_n dX1_takes_24 rfl rfl ?_
  refine z_aload_n dX1_takes_25 rfl rfl ?_
  refine z_getI dX1_takes_26 fl_X1_15_1 (hF.1 20 _ rfl) rfl ?_
  refine z_eqi (f 20 3) rfl ?_
  refine z_putI dX1_takes_29 (pl_X1_15_1 rfl) (hF.1 34 _ rfl) (by decide) rfl ?_
  refine z_meq (z_cy h (z_u (z_u (z_u (z_u f 34 0 (f 20 0)) 34 1 (f 20 1)) 34 2 (f 20 2)) 34 3 (f 20 3))) (z_cy_s (by decide)) ?_
  refine z_vret dX1_takes_32 rfl (Nat.le_refl _) (Nat.le_refl _) (z_rv_i ?_)
  rfl
theorem c_X1_takes_20_34 {Γ : z_W} {h : z_H} {f : Nat → Nat → Int32}  (hF : z_F h)  : z_C Γ M_X1_takes (z_rm 1 0 0) [.ref 20, .ref 34] (z_cy h f) (z_rv (z_cy h (z_u (z_u (z_u (z_u f 20 0 (f 34 0)) 20 1 (f 34 1)) 20 2 (f 34 2)) 20 3 (f 34 3)))) := by
  refine z_C.of (by decide +kernel) rfl [some (.ref 20), some (.ref 34)] (Nat.le_of_ble_eq_true rfl) rfl ?_
  refine z_aload_n dX1_takes_0 rfl rfl ?_
  refine z_aload_n dX1_takes_1 rfl rfl ?_
  refine z_getI dX1_takes_2 fl_X1_18_1 (hF.1 34 _ rfl) rfl ?_
  refine z_eqi (f 34 0) rfl ?_
  refine z_putI dX1_takes_5 (pl_X1_18_1 rfl) (hF.1 20 _ rfl) (by decide) rfl ?_
  refine z_meq (z_cy h (z_u f 20 0 (f 34 0))) (z_cy_s (by decide)) ?_
  refine z_aload_n dX1_takes_8 rfl rfl ?_
  refine z_aload_n dX1_takes_9 rfl rfl ?_
  refine z_getI dX1_takes_10 fl_X1_9_1 (hF.1 34 _ rfl) rfl ?_
  refine z_eqi (f 34 1) rfl ?_
  refine z_putI dX1_takes_13 (pl_X1_9_1 rfl) (hF.1 20 _ rfl) (by decide) rfl ?_
  refine z_meq (z_cy h (z_u (z_u f 20 0 (f 34 0)) 20 1 (f 34 1))) (z_cy_s (by decide)) ?_
  refine z_aload_n dX1_takes_16 rfl rfl ?_
  refine z_aload_n dX1_takes_17 rfl rfl ?_
  refine z_getI dX1_takes_18 fl_X1_21_1 (hF.1 34 _ rfl) rfl ?_
  refine z_eqi (f 34 2) rfl ?_
  refine z_putI dX1_takes_21 (pl_X1_21_1 rfl) (hF.1 20 _ rfl) (by decide) rfl ?_
  refine z_meq (z_cy h (z_u (z_u (z_u f 20 0 (f 34 0)) 20 1 (f 34 1)) 20 2 (f 34 2))) (z_cy_s (by decide)) ?_
  refine z_aload_n dX1_takes_24 rfl rfl ?_
  refine z_aload_n dX1_takes_25 rfl rfl ?_
  refine z_getI dX1_takes_26 fl_X1_15_1 (hF.1 34 _ rfl) rfl ?_
  refine z_eqi (f 34 3) rfl ?_
  refine z_putI dX1_takes_29 (pl_X1_15_1 rfl) (hF.1 20 _ rfl) (by decide) rfl ?_
  refine z_meq (z_cy h (z_u (z_u (z_u (z_u f 20 0 (f 34 0)) 20 1 (f 34 1)) 20 2 (f 34 2)) 20 3 (f 34 3))) (z_cy_s (by decide)) ?_
  refine z_vret dX1_takes_32 rfl (Nat.le_refl _) (Nat.le_refl _) (z_rv_i ?_)
  rfl
