/-! THE CLASS: by two lifts, flights (printed by class14.py) -/
set_option maxRecDepth 20000
theorem z_by2_5 {h : z_H} {u l p m hi mi : Int32} (hk : z_ok h) (hu : u = nI (z_c u) ∧ z_c u < z_c (z_I h 49 0)) (hl : l = nI (z_c l) ∧ z_c l < z_c (z_I h 49 0)) (hp : z_in p 1 9) (hmm : z_in m 0 99) : m_X6_byOf2 h u l p m hi mi < 0 ↔ m_X6_byOf2 h u l p m hi mi = -5 := by
  obtain ⟨hF, ha, hm, hvs, hws, hho⟩ := id hk
  have h5 : ((-5 : Int32) < 0 ↔ (-5 : Int32) = -5) := ⟨fun _ => rfl, fun _ => by decide⟩
  unfold m_X6_byOf2
  repeat' split
  · obtain ⟨k1, l1, e1⟩ := z_ap_k (h := h) hmm (hws _ hu.2) hp
    obtain ⟨k2, l2, e2⟩ := z_ap_k (h := h) (hws _ hu.2) (hws _ hl.2) hp
    obtain ⟨k3, l3, e3⟩ := z_ap_k (h := h) (hws _ hl.2) hho hp
    rw [e1, e2, e3]
    generalize hX : (a_rs h u _ _ 40 _ (mi + nI k1)) = X
    have q1 : ∃ k4, k4 ≤ 40 ∧ X.2 = mi + nI k1 + nI k4 := by rw [← hX]; exact a_rs_k _ _ _
    obtain ⟨k4, l4, e4⟩ := q1
    rw [e4]
    generalize hY : (a_rs h l _ _ 40 _ _) = Y
    have q2 : ∃ k5, k5 ≤ 40 ∧ Y.2 = mi + nI k1 + nI k4 + nI k2 + nI k5 := by rw [← hY]; exact a_rs_k _ _ _
    obtain ⟨k5, l5, e5⟩ := q2
    rw [e5, Int32.add_assoc, Int32.add_assoc, Int32.add_assoc, Int32.add_assoc, z_cxl, nI_add, nI_add, nI_add, nI_add]
    exact z_n5 (by omega)
  all_goals exact h5
theorem c_X0_minutesByTwo {Γ : z_W} {h : z_H} {f : Nat → Nat → Int32} {u l p : Int32} (hS : z_S h f) (hu : u = nI (z_c u) ∧ z_c u < z_c (z_I h 49 0)) (hl : l = nI (z_c l) ∧ z_c l < z_c (z_I h 49 0)) (hp : z_in p 1 9) : z_C Γ M_X0_minutesByTwo (z_rm 36 0 0) [.ref 16, .int u, .int l, .int p] (z_cy h f) (z_ask h f (m_X6_byOf2 h u l p (f 20 0) (f 20 1) (f 20 2))) := by
  obtain ⟨hS3, hS6, hm99, hh4, hmi, hk, hb, hc⟩ := id hS
  obtain ⟨hF, ha, hm, hvs, hws, hho⟩ := id hk
  obtain ⟨c1, -, -, a, Cs, c4, c5x, -⟩ := id hc
  have hl6u : u = nI (z_c u) ∧ z_c u < 6 := ⟨hu.1, by have := hu.2; have := hm.2; omega⟩
  obtain ⟨idu, ku, hidu, hlfu⟩ := c1 _ hu.2
  obtain ⟨h85u, hk6u, hkdu, hTLu, -, hn1u, hvLu, hmLu, h46u⟩ := hlfu
  have hl6l : l = nI (z_c l) ∧ z_c l < 6 := ⟨hl.1, by have := hl.2; have := hm.2; omega⟩
  obtain ⟨idl, kl, hidl, hlfl⟩ := c1 _ hl.2
  obtain ⟨h85l, hk6l, hkdl, hTLl, -, hn1l, hvLl, hmLl, h46l⟩ := hlfl
  have hwu := hws _ hu.2
  have hwl := hws _ hl.2
  have hf1 := z_falls_r (h := h) hm99 hwu hp
  have hf2 := z_falls_r (h := h) hwu hwl hp
  have hf3 := z_falls_r (h := h) hwl hho hp
  have hsf := z_safe_r hb
  have hmi3 := z_cn_gl (h := h) hmi hm99 hwu hp (by decide)
  refine z_C.of (by decide +kernel) rfl [some (.ref 16), some (.int u), some (.int l), some (.int p)] (Nat.le_of_ble_eq_true rfl) rfl ?_
  refine z_meq (z_cy h (z_t1 f (f 21 0) (f 21 1) (f 21 2) (f 21 3) (f 25))) (congrArg (z_cy h) (z_t1_0 f)) ?_
  refine z_aload_n dX0_minutesByTwo_0 rfl rfl ?_
  refine z_getR 21 dX0_minutesByTwo_1 fl_X0_35_0 (hF.1 16 _ rfl) rfl (hF.2.1 16 5 21 rfl) ?_
  refine z_aload_n dX0_minutesByTwo_4 rfl rfl ?_
  refine z_getR 20 dX0_minutesByTwo_5 fl_X0_31_0 (hF.1 16 _ rfl) rfl (hF.2.1 16 4 20 rfl) ?_
  refine z_vcall vl_X0_242_1 (t_takes hF) dX0_minutesByTwo_8 rfl rfl (hF.1 21 _ rfl) ⟨by decide, by decide⟩ (Nat.le_of_ble_eq_true rfl) (Nat.le_refl _) (Nat.le_refl _) (z_cV ?_) z_tV
  refine z_aload_n dX0_minutesByTwo_11 rfl rfl ?_
  refine z_getR 21 dX0_minutesByTwo_12 fl_X0_35_0 (hF.1 16 _ rfl) rfl (hF.2.1 16 5 21 rfl) ?_
  refine z_aload_n dX0_minutesByTwo_15 rfl rfl ?_
  refine z_getR 17 dX0_minutesByTwo_16 fl_X0_17_0 (hF.1 16 _ rfl) rfl (hF.2.1 16 0 17 rfl) ?_
  refine z_iload_n dX0_minutesByTwo_19 rfl rfl ?_
  refine z_aald (z_c u) idu dX0_minutesByTwo_20 (hF.1 17 _ rfl) (by simp [z_at]) hl6u.1 hl6u.2 (by decide) hidu ?_
  refine z_getm rfl hk6u hTLu dX0_minutesByTwo_21 <| z_eqi (z_I h 52 (z_c u)) (by rw [z_cy_hi h85u, hmLu]) ?_
  refine z_iload_n dX0_minutesByTwo_24 rfl rfl ?_
  by_cases g25 : ¬ (f 20 1 - m_X6_falls h (f 20 0) (z_I h 52 (z_c u)) p < 0)
  · refine z_vcall vl_X0_246_1 (t_gl_y hF hm99 hwu g25) dX0_minutesByTwo_25 rfl rfl (hF.1 21 _ rfl) ⟨by decide, by decide⟩ (Nat.le_of_ble_eq_true rfl) (Nat.le_refl _) (Nat.le_refl _) (z_cI ?_) z_tI
    refine z_if_eq 51 dX0_minutesByTwo_28 (by decide) (fun q => absurd q (by decide)) (fun _ => ?_)
    refine z_aload_n dX0_minutesByTwo_31 rfl rfl ?_
    refine z_iload_n dX0_minutesByTwo_32 rfl rfl ?_
    refine z_aload_n dX0_minutesByTwo_33 rfl rfl ?_
    refine z_getR 17 dX0_minutesByTwo_34 fl_X0_17_0 (hF.1 16 _ rfl) rfl (hF.2.1 16 0 17 rfl) ?_
    refine z_iload_n dX0_minutesByTwo_37 rfl rfl ?_
    refine z_aald (z_c l) idl dX0_minutesByTwo_38 (hF.1 17 _ rfl) (by simp [z_at]) hl6l.1 hl6l.2 (by decide) hidl ?_
    refine z_getm rfl hk6l hTLl dX0_minutesByTwo_39 <| z_eqi (z_I h 52 (z_c l)) (by rw [z_cy_hi h85l, hmLl]) ?_
    refine z_iload_n dX0_minutesByTwo_42 rfl rfl ?_
    refine z_bipush (v := 40) dX0_minutesByTwo_43 rfl ?_
    refine z_eqi (nI 40) rfl ?_
    refine z_vcall vl_X0_259_0 (c_X0_climbsTill (N := 40) hS hu hwu hwl hp (by decide) (by decide) (z_gl_r hh4 hf1 g25) hmi3) dX0_minutesByTwo_45 rfl rfl (hF.1 16 _ rfl) ⟨by decide, by decide⟩ (Nat.le_of_ble_eq_true rfl) (Nat.le_refl _) (Nat.le_refl _) (z_cPI (fun r h' hq => ?_)) z_tPI
    obtain ⟨hi2, mi2, L2, rfl, rfl, hq⟩ := hq
    refine z_bif_ne 54 dX0_minutesByTwo_48 (by decide) (fun c48 => ?_) (fun c48 => ?_)
    · obtain ⟨rfl, rfl⟩ := hq c48
      have hr2 := z_rs_r (due := m_X6_falls h (z_I h 52 (z_c u)) (z_I h 52 (z_c l)) p + m_X6_safe h) hk hb hu (m := z_I h 52 (z_c u)) 40 _ _ _ hmi3 (by decide) (z_gl_r hh4 hf1 g25)
      have hg2 := z_due0 hr2 hf2 hsf c48
      have hmi5 := z_cn_gl (h := h) (z_cn_rs (h := h) (l := u) (m := z_I h 52 (z_c u)) (due := m_X6_falls h (z_I h 52 (z_c u)) (z_I h 52 (z_c l)) p + m_X6_safe h) 40 (f 20 1 - m_X6_falls h (f 20 0) (z_I h 52 (z_c u)) p) _ _ hmi3 (by decide)) hwu hwl hp (by decide)
      refine z_aload_n dX0_minutesByTwo_54 rfl rfl ?_
      refine z_meq (z_cy h (z_t1 f (z_I h 52 (z_c u)) ((a_rs h u (z_I h 52 (z_c u)) (m_X6_falls h (z_I h 52 (z_c u)) (z_I h 52 (z_c l)) p + m_X6_safe h) 40 (f 20 1 - m_X6_falls h (f 20 0) (z_I h 52 (z_c u)) p) (f 20 2 + m_X6_apart h (f 20 0) (z_I h 52 (z_c u)) * (10 - p))).1) ((a_rs h u (z_I h 52 (z_c u)) (m_X6_falls h (z_I h 52 (z_c u)) (z_I h 52 (z_c l)) p + m_X6_safe h) 40 (f 20 1 - m_X6_falls h (f 20 0) (z_I h 52 (z_c u)) p) (f 20 2 + m_X6_apart h (f 20 0) (z_I h 52 (z_c u)) * (10 - p))).2) (-1) L2)) rfl ?_
      refine z_getR 21 dX0_minutesByTwo_55 fl_X0_35_0 (hF.1 16 _ rfl) rfl (hF.2.1 16 5 21 rfl) ?_
      refine z_aload_n dX0_minutesByTwo_58 rfl rfl ?_
      refine z_getR 17 dX0_minutesByTwo_59 fl_X0_17_0 (hF.1 16 _ rfl) rfl (hF.2.1 16 0 17 rfl) ?_
      refine z_iload_n dX0_minutesByTwo_62 rfl rfl ?_
      refine z_aald (z_c l) idl dX0_minutesByTwo_63 (hF.1 17 _ rfl) (by simp [z_at]) hl6l.1 hl6l.2 (by decide) hidl ?_
      refine z_getm rfl hk6l hTLl dX0_minutesByTwo_64 <| z_eqi (z_I h 52 (z_c l)) (by rw [z_cy_hi h85l, hmLl]) ?_
      refine z_iload_n dX0_minutesByTwo_67 rfl rfl ?_
      refine z_vcall vl_X0_246_1 (t_gl_y hF hwu hwl hg2) dX0_minutesByTwo_68 rfl rfl (hF.1 21 _ rfl) ⟨by decide, by decide⟩ (Nat.le_of_ble_eq_true rfl) (Nat.le_refl _) (Nat.le_refl _) (z_cI ?_) z_tI
      refine z_pop dX0_minutesByTwo_71 rfl ?_
      refine z_aload_n dX0_minutesByTwo_72 rfl rfl ?_
      refine z_iload_n dX0_minutesByTwo_73 rfl rfl ?_
      refine z_aload_n dX0_minutesByTwo_74 rfl rfl ?_
      refine z_getI dX0_minutesByTwo_75 fl_X0_38_0 (hF.1 16 _ rfl) rfl ?_
      refine z_eqi (z_I h 49 5) hS6 ?_
      refine z_iload_n dX0_minutesByTwo_78 rfl rfl ?_
      refine z_bipush (v := 40) dX0_minutesByTwo_79 rfl ?_
      refine z_eqi (nI 40) rfl ?_
      refine z_vcall vl_X0_259_0 (c_X0_climbsTill (N := 40) hS hl hwl hho hp (by decide) (by decide) (z_gl_r hr2 hf2 hg2) hmi5) dX0_minutesByTwo_81 rfl rfl (hF.1 16 _ rfl) ⟨by decide, by decide⟩ (Nat.le_of_ble_eq_true rfl) (Nat.le_refl _) (Nat.le_refl _) (z_cPI (fun r h' hq => ?_)) z_tPI
      obtain ⟨hi4, mi4, L4, rfl, rfl, hq⟩ := hq
      refine z_bif_ne 90 dX0_minutesByTwo_84 (by decide) (fun c84 => ?_) (fun c84 => ?_)
      · obtain ⟨rfl, rfl⟩ := hq c84
        have hr4 := z_rs_r (due := m_X6_falls h (z_I h 52 (z_c l)) (z_I h 49 5) p + m_X6_safe h) hk hb hl (m := z_I h 52 (z_c l)) 40 _ _ _ hmi5 (by decide) (z_gl_r hr2 hf2 hg2)
        have hg4 := z_due0 hr4 hf3 hsf c84
        refine z_aload_n dX0_minutesByTwo_90 rfl rfl ?_
        refine z_meq (z_cy h (z_t1 f (z_I h 52 (z_c l)) ((a_rs h l (z_I h 52 (z_c l)) (m_X6_falls h (z_I h 52 (z_c l)) (z_I h 49 5) p + m_X6_safe h) 40 ((a_rs h u (z_I h 52 (z_c u)) (m_X6_falls h (z_I h 52 (z_c u)) (z_I h 52 (z_c l)) p + m_X6_safe h) 40 (f 20 1 - m_X6_falls h (f 20 0) (z_I h 52 (z_c u)) p) (f 20 2 + m_X6_apart h (f 20 0) (z_I h 52 (z_c u)) * (10 - p))).1 - m_X6_falls h (z_I h 52 (z_c u)) (z_I h 52 (z_c l)) p) ((a_rs h u (z_I h 52 (z_c u)) (m_X6_falls h (z_I h 52 (z_c u)) (z_I h 52 (z_c l)) p + m_X6_safe h) 40 (f 20 1 - m_X6_falls h (f 20 0) (z_I h 52 (z_c u)) p) (f 20 2 + m_X6_apart h (f 20 0) (z_I h 52 (z_c u)) * (10 - p))).2 + m_X6_apart h (z_I h 52 (z_c u)) (z_I h 52 (z_c l)) * (10 - p))).1) ((a_rs h l (z_I h 52 (z_c l)) (m_X6_falls h (z_I h 52 (z_c l)) (z_I h 49 5) p + m_X6_safe h) 40 ((a_rs h u (z_I h 52 (z_c u)) (m_X6_falls h (z_I h 52 (z_c u)) (z_I h 52 (z_c l)) p + m_X6_safe h) 40 (f 20 1 - m_X6_falls h (f 20 0) (z_I h 52 (z_c u)) p) (f 20 2 + m_X6_apart h (f 20 0) (z_I h 52 (z_c u)) * (10 - p))).1 - m_X6_falls h (z_I h 52 (z_c u)) (z_I h 52 (z_c l)) p) ((a_rs h u (z_I h 52 (z_c u)) (m_X6_falls h (z_I h 52 (z_c u)) (z_I h 52 (z_c l)) p + m_X6_safe h) 40 (f 20 1 - m_X6_falls h (f 20 0) (z_I h 52 (z_c u)) p) (f 20 2 + m_X6_apart h (f 20 0) (z_I h 52 (z_c u)) * (10 - p))).2 + m_X6_apart h (z_I h 52 (z_c u)) (z_I h 52 (z_c l)) * (10 - p))).2) (-1) L4)) rfl ?_
        refine z_getR 21 dX0_minutesByTwo_91 fl_X0_35_0 (hF.1 16 _ rfl) rfl (hF.2.1 16 5 21 rfl) ?_
        refine z_aload_n dX0_minutesByTwo_94 rfl rfl ?_
        refine z_getI dX0_minutesByTwo_95 fl_X0_38_0 (hF.1 16 _ rfl) rfl ?_
        refine z_eqi (z_I h 49 5) hS6 ?_
        refine z_iload_n dX0_minutesByTwo_98 rfl rfl ?_
        refine z_vcall vl_X0_246_1 (t_gl_y hF hwl hho hg4) dX0_minutesByTwo_99 rfl rfl (hF.1 21 _ rfl) ⟨by decide, by decide⟩ (Nat.le_of_ble_eq_true rfl) (Nat.le_refl _) (Nat.le_refl _) (z_cI ?_) z_tI
        refine z_pop dX0_minutesByTwo_102 rfl ?_
        refine z_aload_n dX0_minutesByTwo_103 rfl rfl ?_
        refine z_getR 21 dX0_minutesByTwo_104 fl_X0_35_0 (hF.1 16 _ rfl) rfl (hF.2.1 16 5 21 rfl) ?_
        refine z_getI dX0_minutesByTwo_107 fl_X0_163_1 (hF.1 21 _ rfl) rfl ?_
        refine z_eqi ((a_rs h l (z_I h 52 (z_c l)) (m_X6_falls h (z_I h 52 (z_c l)) (z_I h 49 5) p + m_X6_safe h) 40 ((a_rs h u (z_I h 52 (z_c u)) (m_X6_falls h (z_I h 52 (z_c u)) (z_I h 52 (z_c l)) p + m_X6_safe h) 40 (f 20 1 - m_X6_falls h (f 20 0) (z_I h 52 (z_c u)) p) (f 20 2 + m_X6_apart h (f 20 0) (z_I h 52 (z_c u)) * (10 - p))).1 - m_X6_falls h (z_I h 52 (z_c u)) (z_I h 52 (z_c l)) p) ((a_rs h u (z_I h 52 (z_c u)) (m_X6_falls h (z_I h 52 (z_c u)) (z_I h 52 (z_c l)) p + m_X6_safe h) 40 (f 20 1 - m_X6_falls h (f 20 0) (z_I h 52 (z_c u)) p) (f 20 2 + m_X6_apart h (f 20 0) (z_I h 52 (z_c u)) * (10 - p))).2 + m_X6_apart h (z_I h 52 (z_c u)) (z_I h 52 (z_c l)) * (10 - p))).2 + m_X6_apart h (z_I h 52 (z_c l)) (z_I h 49 5) * (10 - p)) rfl ?_
        refine z_aload_n dX0_minutesByTwo_110 rfl rfl ?_
        refine z_getR 20 dX0_minutesByTwo_111 fl_X0_31_0 (hF.1 16 _ rfl) rfl (hF.2.1 16 4 20 rfl) ?_
        refine z_getI dX0_minutesByTwo_114 fl_X0_163_1 (hF.1 20 _ rfl) rfl ?_
        refine z_eqi (f 20 2) rfl ?_
        refine z_isub dX0_minutesByTwo_117 ?_
        refine z_iret dX0_minutesByTwo_118 rfl rfl (Nat.le_refl _) (Nat.le_refl _) (z_ask_i ?_ ?_)
        · unfold m_X6_byOf2; rw [if_pos ((z_reach0 hh4 hf1).mp g25), if_pos c48, if_pos ((z_reach0 hr2 hf2).mp hg2), if_pos c84, if_pos ((z_reach0 hr4 hf3).mp hg4)]
        · exact (z_fm.refl _ _).t
      · refine z_bipush (v := (-5)) dX0_minutesByTwo_87 rfl ?_
        refine z_iret dX0_minutesByTwo_89 rfl rfl (Nat.le_refl _) (Nat.le_refl _) (z_ask_i ?_ ?_)
        · unfold m_X6_byOf2; rw [if_pos ((z_reach0 hh4 hf1).mp g25), if_pos c48, if_pos ((z_reach0 hr2 hf2).mp hg2), if_neg c84]
        · exact (z_fm.refl _ _).t
    · refine z_bipush (v := (-5)) dX0_minutesByTwo_51 rfl ?_
      refine z_iret dX0_minutesByTwo_53 rfl rfl (Nat.le_refl _) (Nat.le_refl _) (z_ask_i ?_ ?_)
      · unfold m_X6_byOf2; rw [if_pos ((z_reach0 hh4 hf1).mp g25), if_neg c48]
      · exact (z_fm.refl _ _).t
  · refine z_vcall vl_X0_246_1 (c_X1_glides_21_n hF hm99 hwu g25) dX0_minutesByTwo_25 rfl rfl (hF.1 21 _ rfl) ⟨by decide, by decide⟩ (Nat.le_of_ble_eq_true rfl) (Nat.le_refl _) (Nat.le_refl _) (z_cI ?_) z_tI
    refine z_if_eq 51 dX0_minutesByTwo_28 (by decide) (fun _ => ?_) (fun q => absurd q (by decide))
    refine z_bipush (v := (-5)) dX0_minutesByTwo_51 rfl ?_
    refine z_iret dX0_minutesByTwo_53 rfl rfl (Nat.le_refl _) (Nat.le_refl _) (z_ask_i ?_ ?_)
    · unfold m_X6_byOf2; rw [if_neg (fun q => g25 ((z_reach0 hh4 hf1).mpr q))]
    · exact (z_fm.refl _ _).t
/-- nothing found is -5 -/
def z_c5 (b : Int32 × Int32) : Prop := b.1 < 0 ↔ b.2 = -5
theorem a_t0_c {x n : Int32} {b : Int32 × Int32} (hn : n < 0 ↔ n = -5) (hb : z_c5 b) : a_t0 x n b = if n = -5 then b else if b.2 = -5 then (x, n) else if n < b.2 then (x, n) else b := by
  unfold a_t0
  unfold z_c5 at hb
  by_cases e : n = -5
  · rw [if_pos (hn.mpr e), if_pos e]
  · rw [if_neg (fun q => e (hn.mp q)), if_neg e]
    by_cases e2 : b.2 = -5
    · rw [if_pos (hb.mpr e2), if_pos e2]
    · rw [if_neg (fun q => e2 (hb.mp q)), if_neg e2]
theorem a_t0_5 {x n : Int32} {b : Int32 × Int32} (hx : ¬ x < 0) (hn : n < 0 ↔ n = -5) (hb : z_c5 b) : z_c5 (a_t0 x n b) := by
  rw [a_t0_c hn hb]
  by_cases e : n = -5
  · rw [if_pos e]; exact hb
  · rw [if_neg e]
    have : z_c5 (x, n) := ⟨fun q => absurd q hx, fun q => absurd q e⟩
    repeat' split
    · exact this
    · exact this
    · exact hb
theorem z_w5 {h : z_H} {u p m hi mi : Int32} {n : Nat} (hk : z_ok h) (hu : u = nI (z_c u) ∧ z_c u < z_c (z_I h 49 0)) (hn : n < z_c (z_I h 49 0)) (hp : z_in p 1 9) (hm : z_in m 0 99) : ((if u = nI n then -5 else m_X6_byOf2 h u (nI n) p m hi mi) < 0 ↔ (if u = nI n then -5 else m_X6_byOf2 h u (nI n) p m hi mi) = -5) := by
  split
  · exact ⟨fun _ => rfl, fun _ => by decide⟩
  · exact z_by2_5 hk hu (z_ixn hn (by have := hk.2.2.1.2; omega)) hp hm
theorem z_x10 {h : z_H} {u : Int32} {n : Nat} (hk : z_ok h) (hu : u = nI (z_c u) ∧ z_c u < z_c (z_I h 49 0)) (hn : n < z_c (z_I h 49 0)) : ¬ 10 * u + nI n < 0 := by
  have := hk.2.2.1.2
  have e : 10 * u + nI n = nI (10 * z_c u + n) := by
    conv => lhs; rw [hu.1]
    show nI 10 * nI (z_c u) + nI n = _
    rw [pk_mul, nI_add]
  rw [e]
  exact nI_pos (by omega)
theorem a_t2_5 {h : z_H} {u p m hi mi : Int32} {b : Int32 × Int32} (hk : z_ok h) (hu : u = nI (z_c u) ∧ z_c u < z_c (z_I h 49 0)) (hp : z_in p 1 9) (hm : z_in m 0 99) (hb : z_c5 b) : ∀ n, n ≤ z_c (z_I h 49 0) → z_c5 (a_t2 h u p m hi mi b n)
  | 0, _ => hb
  | n + 1, hn => a_t0_5 (z_x10 hk hu (by omega)) (z_w5 hk hu (by omega) hp hm) (a_t2_5 hk hu hp hm hb n (by omega))
theorem a_t1_5 {h : z_H} {p m hi mi : Int32} (hk : z_ok h) (hp : z_in p 1 9) (hm : z_in m 0 99) : ∀ n, n ≤ z_c (z_I h 49 0) → z_c5 (a_t1 h p m hi mi n)
  | 0, _ => ⟨fun _ => rfl, fun _ => (show (-5 : Int32) < 0 by decide)⟩
  | n + 1, hn => a_t2_5 hk (z_ixn (by omega) (by have := hk.2.2.1.2; omega)) hp hm (a_t1_5 hk hp hm n (by omega)) _ (Nat.le_refl _)
theorem lp2_X0_two {Γ : z_W} {h : z_H} {f : Nat → Nat → Int32} {u p w : Int32} (hS : z_S h f) (hu : u = nI (z_c u) ∧ z_c u < z_c (z_I h 49 0)) (hp : z_in p 1 9) {t : Int32 × Int32} (ht5 : z_c5 t) (k : ∀ f' b o, z_fm z_cn0 f f' → z_G Γ M_X0_two (z_rm 37 0 0) (z_ask h f (if w = 0 then (a_t1 h p (f 20 0) (f 20 1) (f 20 2) (z_c (z_I h 49 0))).1 else (a_t1 h p (f 20 0) (f 20 1) (f 20 2) (z_c (z_I h 49 0))).2)) 0 0 118 [some (.ref 16), some (.int p), some (.int w), some (.int (a_t2 h u p (f 20 0) (f 20 1) (f 20 2) t (z_c (z_I h 49 0))).1), some (.int (a_t2 h u p (f 20 0) (f 20 1) (f 20 2) t (z_c (z_I h 49 0))).2), some (.int u), b, o] [] (z_cy h f')) : ∀ (r i : Nat) (f' : Nat → Nat → Int32) (o : Option Value), i + r = z_c (z_I h 49 0) → z_fm z_cn0 f f' → z_G Γ M_X0_two (z_rm 37 0 0) (z_ask h f (if w = 0 then (a_t1 h p (f 20 0) (f 20 1) (f 20 2) (z_c (z_I h 49 0))).1 else (a_t1 h p (f 20 0) (f 20 1) (f 20 2) (z_c (z_I h 49 0))).2)) 0 0 43 [some (.ref 16), some (.int p), some (.int w), some (.int (a_t2 h u p (f 20 0) (f 20 1) (f 20 2) t i).1), some (.int (a_t2 h u p (f 20 0) (f 20 1) (f 20 2) t i).2), some (.int u), some (.int (nI i)), o] [] (z_cy h f') := by
  obtain ⟨hS3, hS6, hm99, hh4, hmi, hk, hb, hc⟩ := id hS
  obtain ⟨hF, ha, hm, hvs, hws, hho⟩ := id hk
  intro r
  induction r with
  | zero =>
    intro i f' o hi0 hff
    have hi1 : i = z_c (z_I h 49 0) := by omega
    subst hi1
    have hS' := hS.fm hff
    have hS3' := hS'.1
    have hS6' := hS'.2.1
    have e20 := z_e20 hff

    refine z_iload dX0_two_43 rfl ?_
    refine z_aload_n dX0_two_45 rfl rfl ?_
    refine z_getI dX0_two_46 fl_X0_116_0 (hF.1 16 _ rfl) rfl ?_
    refine z_eqi (z_I h 49 0) hS3' ?_
    refine z_icmp_ge 118 dX0_two_49 (by decide) (fun _ => ?_) (fun q => by first | exact absurd (z_lif hm rfl) q | exact absurd q (z_lif hm rfl))
    exact k f' _ o hff
  | succ r ih =>
    intro i f' o hi0 hff
    have hS' := hS.fm hff
    have hS3' := hS'.1
    have hS6' := hS'.2.1
    have e20 := z_e20 hff
    have hl : nI i = nI (z_c (nI i)) ∧ z_c (nI i) < z_c (z_I h 49 0) := z_ixn (by omega) (by have := hm.2; omega)
    have h5c : a_t2 h u p (f 20 0) (f 20 1) (f 20 2) t (i + 1) = _ := a_t0_c (z_w5 hk hu (show i < _ by omega) hp hm99) (a_t2_5 hk hu hp hm99 ht5 i (by omega))
    refine z_iload dX0_two_43 rfl ?_
    refine z_aload_n dX0_two_45 rfl rfl ?_
    refine z_getI dX0_two_46 fl_X0_116_0 (hF.1 16 _ rfl) rfl ?_
    refine z_eqi (z_I h 49 0) hS3' ?_
    refine z_icmp_ge 118 dX0_two_49 (by decide) (fun q => by first | exact absurd q (z_lin hm (by omega)) | exact absurd (z_lin hm (by omega)) q) (fun _ => ?_)
    refine z_iload dX0_two_52 rfl ?_
    refine z_iload dX0_two_54 rfl ?_
    refine z_icmp_ne 64 dX0_two_56 (by decide) (fun c56 => ?_) (fun c56 => ?_)
    · refine z_aload_n dX0_two_64 rfl rfl ?_
      refine z_iload dX0_two_65 rfl ?_
      refine z_iload dX0_two_67 rfl ?_
      refine z_iload_n dX0_two_69 rfl rfl ?_
      refine z_vcall vl_X0_281_0 (c_X0_minutesByTwo hS' hu hl hp) dX0_two_70 rfl rfl (hF.1 16 _ rfl) ⟨by decide, by decide⟩ (Nat.le_of_ble_eq_true rfl) (Nat.le_refl _) (Nat.le_refl _) (z_cA (fun f1 hf1 => ?_)) z_tA
      rw [e20]
      refine z_istore dX0_two_73 (by decide) rfl ?_
      refine z_iload dX0_two_75 rfl ?_
      refine z_bipush (v := (-5)) dX0_two_77 rfl ?_
      refine z_icmp_eq 112 dX0_two_79 (by decide) (fun c79 => ?_) (fun c79 => ?_)
      · refine z_iinc (v := nI (i + 1)) dX0_two_112 rfl (nI_succ _).symm (by decide) rfl ?_
        refine z_goto 43 dX0_two_115 (by decide) ?_
        rw [if_neg c56, if_pos c79] at h5c
        have fin := ih (i + 1) f1 (some (.int (m_X6_byOf2 h u (nI i) p (f 20 0) (f 20 1) (f 20 2)))) (by omega) (hff.tr hf1 (fun _ _ q => q))
        rw [h5c] at fin
        exact fin
      · refine z_iload dX0_two_82 rfl ?_
        refine z_bipush (v := (-5)) dX0_two_84 rfl ?_
        refine z_icmp_eq 99 dX0_two_86 (by decide) (fun c86 => ?_) (fun c86 => ?_)
        · refine z_iload dX0_two_99 rfl ?_
          refine z_istore dX0_two_101 (by decide) rfl ?_
          refine z_bipush (v := 10) dX0_two_103 rfl ?_
          refine z_iload dX0_two_105 rfl ?_
          refine z_imul dX0_two_107 ?_
          refine z_iload dX0_two_108 rfl ?_
          refine z_iadd dX0_two_110 ?_
          refine z_istore_n dX0_two_111 rfl (by decide) rfl ?_
          refine z_iinc (v := nI (i + 1)) dX0_two_112 rfl (nI_succ _).symm (by decide) rfl ?_
          refine z_goto 43 dX0_two_115 (by decide) ?_
          rw [if_neg c56, if_neg c79, if_pos c86] at h5c
          have fin := ih (i + 1) f1 (some (.int (m_X6_byOf2 h u (nI i) p (f 20 0) (f 20 1) (f 20 2)))) (by omega) (hff.tr hf1 (fun _ _ q => q))
          rw [h5c] at fin
          exact fin
        · refine z_iload dX0_two_89 rfl ?_
          refine z_iload dX0_two_91 rfl ?_
          refine z_icmp_lt 99 dX0_two_93 (by decide) (fun c93 => ?_) (fun c93 => ?_)
          · refine z_iload dX0_two_99 rfl ?_
            refine z_istore dX0_two_101 (by decide) rfl ?_
            refine z_bipush (v := 10) dX0_two_103 rfl ?_
            refine z_iload dX0_two_105 rfl ?_
            refine z_imul dX0_two_107 ?_
            refine z_iload dX0_two_108 rfl ?_
            refine z_iadd dX0_two_110 ?_
            refine z_istore_n dX0_two_111 rfl (by decide) rfl ?_
            refine z_iinc (v := nI (i + 1)) dX0_two_112 rfl (nI_succ _).symm (by decide) rfl ?_
            refine z_goto 43 dX0_two_115 (by decide) ?_
            rw [if_neg c56, if_neg c79, if_neg c86, if_pos c93] at h5c
            have fin := ih (i + 1) f1 (some (.int (m_X6_byOf2 h u (nI i) p (f 20 0) (f 20 1) (f 20 2)))) (by omega) (hff.tr hf1 (fun _ _ q => q))
            rw [h5c] at fin
            exact fin
          · refine z_goto 112 dX0_two_96 (by decide) ?_
            refine z_iinc (v := nI (i + 1)) dX0_two_112 rfl (nI_succ _).symm (by decide) rfl ?_
            refine z_goto 43 dX0_two_115 (by decide) ?_
            rw [if_neg c56, if_neg c79, if_neg c86, if_neg c93] at h5c
            have fin := ih (i + 1) f1 (some (.int (m_X6_byOf2 h u (nI i) p (f 20 0) (f 20 1) (f 20 2)))) (by omega) (hff.tr hf1 (fun _ _ q => q))
            rw [h5c] at fin
            exact fin
    · refine z_bipush (v := (-5)) dX0_two_59 rfl ?_
      refine z_goto 73 dX0_two_61 (by decide) ?_
      refine z_istore dX0_two_73 (by decide) rfl ?_
      refine z_iload dX0_two_75 rfl ?_
      refine z_bipush (v := (-5)) dX0_two_77 rfl ?_
      refine z_icmp_eq 112 dX0_two_79 (by decide) (fun _ => ?_) (fun q => absurd q (by decide))
      refine z_iinc (v := nI (i + 1)) dX0_two_112 rfl (nI_succ _).symm (by decide) rfl ?_
      refine z_goto 43 dX0_two_115 (by decide) ?_
      rw [if_pos c56, if_pos rfl] at h5c
      have fin := ih (i + 1) f' (some (.int (-5))) (by omega) hff
      rw [h5c] at fin
      exact fin
theorem lp1_X0_two {Γ : z_W} {h : z_H} {f : Nat → Nat → Int32} {p w : Int32} (hS : z_S h f) (hp : z_in p 1 9) : ∀ (r i : Nat) (f' : Nat → Nat → Int32) (b o : Option Value), i + r = z_c (z_I h 49 0) → z_fm z_cn0 f f' → z_G Γ M_X0_two (z_rm 37 0 0) (z_ask h f (if w = 0 then (a_t1 h p (f 20 0) (f 20 1) (f 20 2) (z_c (z_I h 49 0))).1 else (a_t1 h p (f 20 0) (f 20 1) (f 20 2) (z_c (z_I h 49 0))).2)) 0 0 31 [some (.ref 16), some (.int p), some (.int w), some (.int (a_t1 h p (f 20 0) (f 20 1) (f 20 2) i).1), some (.int (a_t1 h p (f 20 0) (f 20 1) (f 20 2) i).2), some (.int (nI i)), b, o] [] (z_cy h f') := by
  obtain ⟨hS3, hS6, hm99, hh4, hmi, hk, hb, hc⟩ := id hS
  obtain ⟨hF, ha, hm, hvs, hws, hho⟩ := id hk
  intro r
  induction r with
  | zero =>
    intro i f' b o hi0 hff
    have hi1 : i = z_c (z_I h 49 0) := by omega
    subst hi1
    have hS' := hS.fm hff
    have hS3' := hS'.1
    have hS6' := hS'.2.1
    have e20 := z_e20 hff

    refine z_iload dX0_two_31 rfl ?_
    refine z_aload_n dX0_two_33 rfl rfl ?_
    refine z_getI dX0_two_34 fl_X0_116_0 (hF.1 16 _ rfl) rfl ?_
    refine z_eqi (z_I h 49 0) hS3' ?_
    refine z_icmp_ge 124 dX0_two_37 (by decide) (fun _ => ?_) (fun q => by first | exact absurd (z_lif hm rfl) q | exact absurd q (z_lif hm rfl))
    refine z_iload_n dX0_two_124 rfl rfl ?_
    refine z_if_ne 132 dX0_two_125 (by decide) (fun c125 => ?_) (fun c125 => ?_)
    · refine z_iload dX0_two_132 rfl ?_
      refine z_iret dX0_two_134 rfl rfl (Nat.le_refl _) (Nat.le_refl _) (z_ask_i ?_ ?_)
      · rw [if_neg (show ¬ (w = 0) from c125)]
      · exact hff
    · refine z_iload_n dX0_two_128 rfl rfl ?_
      refine z_goto 134 dX0_two_129 (by decide) ?_
      refine z_iret dX0_two_134 rfl rfl (Nat.le_refl _) (Nat.le_refl _) (z_ask_i ?_ ?_)
      · rw [if_pos (show w = 0 from c125)]
      · exact hff
  | succ r ih =>
    intro i f' b o hi0 hff
    have hS' := hS.fm hff
    have hS3' := hS'.1
    have hS6' := hS'.2.1
    have e20 := z_e20 hff
    have hl : nI i = nI (z_c (nI i)) ∧ z_c (nI i) < z_c (z_I h 49 0) := z_ixn (by omega) (by have := hm.2; omega)
    refine z_iload dX0_two_31 rfl ?_
    refine z_aload_n dX0_two_33 rfl rfl ?_
    refine z_getI dX0_two_34 fl_X0_116_0 (hF.1 16 _ rfl) rfl ?_
    refine z_eqi (z_I h 49 0) hS3' ?_
    refine z_icmp_ge 124 dX0_two_37 (by decide) (fun q => by first | exact absurd q (z_lin hm (by omega)) | exact absurd (z_lin hm (by omega)) q) (fun _ => ?_)
    refine z_iconst (v := 0) dX0_two_40 rfl ?_
    refine z_istore dX0_two_41 (by decide) rfl ?_
    refine lp2_X0_two hS hl hp (t := a_t1 h p (f 20 0) (f 20 1) (f 20 2) i) (a_t1_5 hk hp hm99 i (by omega)) (fun f'' b o hff => ?_) _ 0 f' o (Nat.zero_add _) hff
    refine z_iinc (v := nI (i + 1)) dX0_two_118 rfl (nI_succ _).symm (by decide) rfl ?_
    refine z_goto 31 dX0_two_121 (by decide) ?_
    exact ih (i + 1) f'' b o (by omega) hff
theorem c_X0_two {Γ : z_W} {h : z_H} {f : Nat → Nat → Int32} {p w : Int32} (hS : z_S h f)  : z_C Γ M_X0_two (z_rm 37 0 0) [.ref 16, .int p, .int w] (z_cy h f) (z_ask h f (m_X6_two h p w (f 20 0) (f 20 1) (f 20 2))) := by
  obtain ⟨hS3, hS6, hm99, hh4, hmi, hk, hb, hc⟩ := id hS
  obtain ⟨hF, ha, hm, hvs, hws, hho⟩ := id hk
  refine z_C.of (by decide +kernel) rfl [some (.ref 16), some (.int p), some (.int w), none, none, none, none, none] (Nat.le_of_ble_eq_true rfl) rfl ?_
  refine z_iload_n dX0_two_0 rfl rfl ?_
  refine z_iconst (v := 0) dX0_two_1 rfl ?_
  refine z_iconst (v := 1) dX0_two_2 rfl ?_
  refine z_scall sl_X0_5 (c_X0_in) dX0_two_3 rfl rfl ⟨by decide, by decide⟩ (Nat.le_of_ble_eq_true rfl) (Nat.le_refl _) (Nat.le_refl _) (z_cI ?_) z_tI
  refine z_bif_ne 11 dX0_two_6 (by decide) (fun c6 => ?_) (fun c6 => ?_)
  · refine z_iload_n dX0_two_11 rfl rfl ?_
    refine z_scall sl_X0_235 (c_X0_isPace) dX0_two_12 rfl rfl ⟨by decide, by decide⟩ (Nat.le_of_ble_eq_true rfl) (Nat.le_refl _) (Nat.le_refl _) (z_cI ?_) z_tI
    refine z_bif_ne 21 dX0_two_15 (by decide) (fun c15 => ?_) (fun c15 => ?_)
    · refine z_bipush (v := (-5)) dX0_two_21 rfl ?_
      refine z_istore_n dX0_two_23 rfl (by decide) rfl ?_
      refine z_bipush (v := (-5)) dX0_two_24 rfl ?_
      refine z_istore dX0_two_26 (by decide) rfl ?_
      refine z_iconst (v := 0) dX0_two_28 rfl ?_
      refine z_istore dX0_two_29 (by decide) rfl ?_
      unfold m_X6_two
      rw [if_pos c6, if_pos c15]
      exact lp1_X0_two hS c15 _ 0 f none none (Nat.zero_add _) (z_fm.refl _ _)
    · refine z_bipush (v := (-2)) dX0_two_18 rfl ?_
      refine z_iret dX0_two_20 rfl rfl (Nat.le_refl _) (Nat.le_refl _) (z_ask_i ?_ ?_)
      · unfold m_X6_two; rw [if_pos (show z_in w 0 1 from c6), if_neg (show ¬ (m_X0_isPace h p) from c15)]
      · exact z_fm.refl _ _
  · refine z_iconst (v := (-1)) dX0_two_9 rfl ?_
    refine z_iret dX0_two_10 rfl rfl (Nat.le_refl _) (Nat.le_refl _) (z_ask_i ?_ ?_)
    · unfold m_X6_two; rw [if_neg (show ¬ (z_in w 0 1) from c6)]
    · exact z_fm.refl _ _
