/-! THE CLASS: the ways home (printed by class13.py) -/
set_option maxRecDepth 20000
theorem z_gl_r {x y : Int32} (hx : z_r x 0 400) (hy : z_r y 0 1386) (h : ¬ (x - y < 0)) : z_r (x - y) 0 400 := by
  unfold z_r at *
  have e := z_ts (x := x) (y := y) (by omega) (by omega)
  rw [Int32.lt_iff_toInt_lt, z_i0] at h
  omega
theorem z_due0 {x y s : Int32} (hx : z_r x 0 400) (hy : z_r y 0 1386) (hs : z_r s 0 990) (h : y + s ≤ x) : ¬ (x - y < 0) := by
  unfold z_r at *
  have e := z_ts (x := x) (y := y) (by omega) (by omega)
  have e2 := z_ta (x := y) (y := s) (by omega) (by omega)
  rw [Int32.le_iff_toInt_le] at h
  rw [Int32.lt_iff_toInt_lt, z_i0]
  omega
/-- what a way by a lift may leave changed -/
def z_n1 (a k : Nat) : Prop := a = 21 ∨ a = 25 ∨ (a = 16 ∧ k = 22)
theorem z_n1_0 : ∀ a k, z_n1 a k → z_cn0 a k := fun a k q => by unfold z_n1 at q; unfold z_cn0; omega
theorem z_fm.t1n {f f' : Nat → Nat → Int32} {m hi mi x : Int32} {L : Nat → Int32} (k : z_fm z_n1 f f') : z_fm z_n1 f (z_t1 f' m hi mi x L) := k.t1 (fun _ => Or.inl rfl) (fun _ => Or.inr (Or.inl rfl))
theorem a_rs_k {h : z_H} {l m due : Int32} : ∀ (n : Nat) (hi mi : Int32), ∃ k, k ≤ n ∧ (a_rs h l m due n hi mi).2 = mi + nI k
  | 0, hi, mi => ⟨0, Nat.le_refl _, by show mi = mi + nI 0; rw [nI_0, Int32.add_zero]⟩
  | n + 1, hi, mi => by
    rw [a_rs]
    split
    · exact ⟨0, Nat.zero_le _, by rw [nI_0, Int32.add_zero]⟩
    · obtain ⟨k, h1, h2⟩ := a_rs_k (h := h) (l := l) (m := m) (due := due) n (a_hi h l m hi mi) (mi + 1)
      exact ⟨k + 1, by omega, by rw [h2, nI_succ, Int32.add_assoc, Int32.add_comm 1 (nI k)]⟩
theorem z_ap_k {h : z_H} {a b p : Int32} (ha : z_in a 0 99) (hb : z_in b 0 99) (hp : z_in p 1 9) : ∃ k, k ≤ 891 ∧ m_X6_apart h a b * (10 - p) = nI k := by
  obtain ⟨n, hn, e⟩ := z_apart_n (h := h) ha hb
  obtain ⟨e2, l2⟩ := z_ixb (l := p) 9 (by decide) ⟨Int32.le_trans (by decide) hp.1, hp.2⟩
  have e4 : 1 ≤ z_c p := by
    have := hp.1
    rw [e2] at this
    exact (nI_leI (a := 1) (by decide) (by omega)).mp this
  have e3 : (10 : Int32) - p = nI (10 - z_c p) := by
    have : nI 10 - nI (z_c p) = nI (10 - z_c p) := pk_sub (by omega)
    rw [← e2] at this
    exact this
  rw [e, e3, pk_mul]
  have h3 : n * (10 - z_c p) ≤ 99 * 9 := Nat.mul_le_mul hn (by omega)
  exact ⟨_, h3, rfl⟩
theorem z_n5 {k : Nat} (h : k < 2 ^ 31) : (nI k < 0 ↔ nI k = -5) := ⟨fun q => absurd q (nI_pos h), fun q => by rw [q]; decide⟩
theorem z_cxl (x y : Int32) : x + y - x = y := by rw [Int32.add_comm, Int32.add_sub_cancel]
theorem z_by1_5 {h : z_H} {l p m hi mi : Int32} (hk : z_ok h) (hl : l = nI (z_c l) ∧ z_c l < z_c (z_I h 49 0)) (hp : z_in p 1 9) (hmm : z_in m 0 99) : m_X6_byOf1 h l p m hi mi < 0 ↔ m_X6_byOf1 h l p m hi mi = -5 := by
  obtain ⟨hF, ha, hm, hvs, hws, hho⟩ := id hk
  have h5 : ((-5 : Int32) < 0 ↔ (-5 : Int32) = -5) := ⟨fun _ => rfl, fun _ => by decide⟩
  unfold m_X6_byOf1
  repeat' split
  · obtain ⟨k1, l1, e1⟩ := z_ap_k (h := h) hmm (hws _ hl.2) hp
    obtain ⟨k2, l2, e2⟩ := z_ap_k (h := h) (hws _ hl.2) hho hp
    obtain ⟨k3, l3, e3⟩ := a_rs_k (h := h) (l := l) (m := z_I h 52 (z_c l)) (due := m_X6_falls h (z_I h 52 (z_c l)) (z_I h 49 5) p + m_X6_safe h) 60 (hi - m_X6_falls h m (z_I h 52 (z_c l)) p) (mi + m_X6_apart h m (z_I h 52 (z_c l)) * (10 - p))
    rw [e3, e1, e2, Int32.add_assoc, Int32.add_assoc, z_cxl, nI_add, nI_add]
    exact z_n5 (by omega)
  · exact h5
  · exact h5
  · exact h5
theorem c_X0_minutesBy {Γ : z_W} {h : z_H} {f : Nat → Nat → Int32} {l p : Int32} (hS : z_S h f) (hl : l = nI (z_c l) ∧ z_c l < z_c (z_I h 49 0)) (hp : z_in p 1 9) : z_C Γ M_X0_minutesBy (z_rm 36 0 0) [.ref 16, .int l, .int p] (z_cy h f) (z_rI (fun r h' => r = m_X6_byOf1 h l p (f 20 0) (f 20 1) (f 20 2) ∧ ∃ f', h' = z_cy h f' ∧ z_fm z_n1 f f' ∧ (¬ m_X6_byOf1 h l p (f 20 0) (f 20 1) (f 20 2) = -5 → ∀ s, f' 16 22 = m_X6_byOf1_l h s l p (f 20 0) (f 20 1) (f 20 2)))) := by
  obtain ⟨hS3, hS6, hm99, hh4, hmi, hk, hb, hc⟩ := id hS
  obtain ⟨hF, ha, hm, hvs, hws, hho⟩ := id hk
  obtain ⟨c1, -, -, a, Cs, c4, c5x, -⟩ := id hc
  have hl6 : l = nI (z_c l) ∧ z_c l < 6 := ⟨hl.1, by have := hl.2; have := hm.2; omega⟩
  obtain ⟨id, k, hid, hlf⟩ := c1 _ hl.2
  obtain ⟨h85, hk6, hkd, hTL, -, hn1, hvL, hmL, h46⟩ := hlf
  have hw := hws _ hl.2
  have hf1 := z_falls_r (h := h) hm99 hw hp
  have hf2 := z_falls_r (h := h) hw hho hp
  have hsf := z_safe_r hb
  have hmi3 := z_cn_gl (h := h) hmi hm99 hw hp (by decide)
  refine z_C.of (by decide +kernel) rfl [some (.ref 16), some (.int l), some (.int p)] (Nat.le_of_ble_eq_true rfl) rfl ?_
  refine z_meq (z_cy h (z_t1 f (f 21 0) (f 21 1) (f 21 2) (f 21 3) (f 25))) (congrArg (z_cy h) (z_t1_0 f)) ?_
  refine z_aload_n dX0_minutesBy_0 rfl rfl ?_
  refine z_getR 21 dX0_minutesBy_1 fl_X0_35_0 (hF.1 16 _ rfl) rfl (hF.2.1 16 5 21 rfl) ?_
  refine z_aload_n dX0_minutesBy_4 rfl rfl ?_
  refine z_getR 20 dX0_minutesBy_5 fl_X0_31_0 (hF.1 16 _ rfl) rfl (hF.2.1 16 4 20 rfl) ?_
  refine z_vcall vl_X0_242_1 (t_takes hF) dX0_minutesBy_8 rfl rfl (hF.1 21 _ rfl) ⟨by decide, by decide⟩ (Nat.le_of_ble_eq_true rfl) (Nat.le_refl _) (Nat.le_refl _) (z_cV ?_) z_tV
  refine z_aload_n dX0_minutesBy_11 rfl rfl ?_
  refine z_getR 21 dX0_minutesBy_12 fl_X0_35_0 (hF.1 16 _ rfl) rfl (hF.2.1 16 5 21 rfl) ?_
  refine z_aload_n dX0_minutesBy_15 rfl rfl ?_
  refine z_getR 17 dX0_minutesBy_16 fl_X0_17_0 (hF.1 16 _ rfl) rfl (hF.2.1 16 0 17 rfl) ?_
  refine z_iload_n dX0_minutesBy_19 rfl rfl ?_
  refine z_aald (z_c l) id dX0_minutesBy_20 (hF.1 17 _ rfl) (by simp [z_at]) hl6.1 hl6.2 (by decide) hid ?_
  refine z_getm rfl hk6 hTL dX0_minutesBy_21 <| z_eqi (z_I h 52 (z_c l)) (by rw [z_cy_hi h85, hmL]) ?_
  refine z_iload_n dX0_minutesBy_24 rfl rfl ?_
  by_cases g25 : ¬ (f 20 1 - m_X6_falls h (f 20 0) (z_I h 52 (z_c l)) p < 0)
  · refine z_vcall vl_X0_246_1 (t_gl_y hF hm99 hw g25) dX0_minutesBy_25 rfl rfl (hF.1 21 _ rfl) ⟨by decide, by decide⟩ (Nat.le_of_ble_eq_true rfl) (Nat.le_refl _) (Nat.le_refl _) (z_cI ?_) z_tI
    refine z_if_eq 46 dX0_minutesBy_28 (by decide) (fun q => absurd q (by decide)) (fun _ => ?_)
    refine z_aload_n dX0_minutesBy_31 rfl rfl ?_
    refine z_iload_n dX0_minutesBy_32 rfl rfl ?_
    refine z_aload_n dX0_minutesBy_33 rfl rfl ?_
    refine z_getI dX0_minutesBy_34 fl_X0_38_0 (hF.1 16 _ rfl) rfl ?_
    refine z_eqi (z_I h 49 5) hS6 ?_
    refine z_iload_n dX0_minutesBy_37 rfl rfl ?_
    refine z_bipush (v := 60) dX0_minutesBy_38 rfl ?_
    refine z_eqi (nI 60) rfl ?_
    refine z_vcall vl_X0_259_0 (c_X0_climbsTill (N := 60) hS hl hw hho hp (by decide) (by decide) (z_gl_r hh4 hf1 g25) hmi3) dX0_minutesBy_40 rfl rfl (hF.1 16 _ rfl) ⟨by decide, by decide⟩ (Nat.le_of_ble_eq_true rfl) (Nat.le_refl _) (Nat.le_refl _) (z_cPI (fun r h' hq => ?_)) z_tPI
    obtain ⟨hi2, mi2, L2, rfl, rfl, hq⟩ := hq
    refine z_bif_ne 49 dX0_minutesBy_43 (by decide) (fun c43 => ?_) (fun c43 => ?_)
    · obtain ⟨rfl, rfl⟩ := hq c43
      have hr2 := z_rs_r (due := m_X6_falls h (z_I h 52 (z_c l)) (z_I h 49 5) p + m_X6_safe h) hk hb hl (m := z_I h 52 (z_c l)) 60 _ _ _ hmi3 (by decide) (z_gl_r hh4 hf1 g25)
      have hg2 := z_due0 hr2 hf2 hsf c43
      refine z_aload_n dX0_minutesBy_49 rfl rfl ?_
      refine z_meq (z_cy h (z_t1 f (z_I h 52 (z_c l)) ((a_rs h l (z_I h 52 (z_c l)) (m_X6_falls h (z_I h 52 (z_c l)) (z_I h 49 5) p + m_X6_safe h) 60 (f 20 1 - m_X6_falls h (f 20 0) (z_I h 52 (z_c l)) p) (f 20 2 + m_X6_apart h (f 20 0) (z_I h 52 (z_c l)) * (10 - p))).1) ((a_rs h l (z_I h 52 (z_c l)) (m_X6_falls h (z_I h 52 (z_c l)) (z_I h 49 5) p + m_X6_safe h) 60 (f 20 1 - m_X6_falls h (f 20 0) (z_I h 52 (z_c l)) p) (f 20 2 + m_X6_apart h (f 20 0) (z_I h 52 (z_c l)) * (10 - p))).2) (-1) L2)) rfl ?_
      refine z_aload_n dX0_minutesBy_50 rfl rfl ?_
      refine z_getR 21 dX0_minutesBy_51 fl_X0_35_0 (hF.1 16 _ rfl) rfl (hF.2.1 16 5 21 rfl) ?_
      refine z_getI dX0_minutesBy_54 fl_X0_159_1 (hF.1 21 _ rfl) rfl ?_
      refine z_eqi ((a_rs h l (z_I h 52 (z_c l)) (m_X6_falls h (z_I h 52 (z_c l)) (z_I h 49 5) p + m_X6_safe h) 60 (f 20 1 - m_X6_falls h (f 20 0) (z_I h 52 (z_c l)) p) (f 20 2 + m_X6_apart h (f 20 0) (z_I h 52 (z_c l)) * (10 - p))).1) rfl ?_
      refine z_putI dX0_minutesBy_57 (pl_X0_263_0 rfl) (hF.1 16 _ rfl) (by decide) rfl ?_
      refine z_meq (z_cy h (z_u (z_t1 f (z_I h 52 (z_c l)) ((a_rs h l (z_I h 52 (z_c l)) (m_X6_falls h (z_I h 52 (z_c l)) (z_I h 49 5) p + m_X6_safe h) 60 (f 20 1 - m_X6_falls h (f 20 0) (z_I h 52 (z_c l)) p) (f 20 2 + m_X6_apart h (f 20 0) (z_I h 52 (z_c l)) * (10 - p))).1) ((a_rs h l (z_I h 52 (z_c l)) (m_X6_falls h (z_I h 52 (z_c l)) (z_I h 49 5) p + m_X6_safe h) 60 (f 20 1 - m_X6_falls h (f 20 0) (z_I h 52 (z_c l)) p) (f 20 2 + m_X6_apart h (f 20 0) (z_I h 52 (z_c l)) * (10 - p))).2) (-1) L2) 16 22 ((a_rs h l (z_I h 52 (z_c l)) (m_X6_falls h (z_I h 52 (z_c l)) (z_I h 49 5) p + m_X6_safe h) 60 (f 20 1 - m_X6_falls h (f 20 0) (z_I h 52 (z_c l)) p) (f 20 2 + m_X6_apart h (f 20 0) (z_I h 52 (z_c l)) * (10 - p))).1))) (z_cy_s (by decide)) ?_
      refine z_meq (z_cy h (z_t1 (z_u f 16 22 ((a_rs h l (z_I h 52 (z_c l)) (m_X6_falls h (z_I h 52 (z_c l)) (z_I h 49 5) p + m_X6_safe h) 60 (f 20 1 - m_X6_falls h (f 20 0) (z_I h 52 (z_c l)) p) (f 20 2 + m_X6_apart h (f 20 0) (z_I h 52 (z_c l)) * (10 - p))).1)) (z_I h 52 (z_c l)) ((a_rs h l (z_I h 52 (z_c l)) (m_X6_falls h (z_I h 52 (z_c l)) (z_I h 49 5) p + m_X6_safe h) 60 (f 20 1 - m_X6_falls h (f 20 0) (z_I h 52 (z_c l)) p) (f 20 2 + m_X6_apart h (f 20 0) (z_I h 52 (z_c l)) * (10 - p))).1) ((a_rs h l (z_I h 52 (z_c l)) (m_X6_falls h (z_I h 52 (z_c l)) (z_I h 49 5) p + m_X6_safe h) 60 (f 20 1 - m_X6_falls h (f 20 0) (z_I h 52 (z_c l)) p) (f 20 2 + m_X6_apart h (f 20 0) (z_I h 52 (z_c l)) * (10 - p))).2) (-1) L2)) (congrArg (z_cy h) z_t1_u) ?_
      refine z_aload_n dX0_minutesBy_60 rfl rfl ?_
      refine z_getR 21 dX0_minutesBy_61 fl_X0_35_0 (hF.1 16 _ rfl) rfl (hF.2.1 16 5 21 rfl) ?_
      refine z_aload_n dX0_minutesBy_64 rfl rfl ?_
      refine z_getI dX0_minutesBy_65 fl_X0_38_0 (hF.1 16 _ rfl) rfl ?_
      refine z_eqi (z_I h 49 5) hS6 ?_
      refine z_iload_n dX0_minutesBy_68 rfl rfl ?_
      refine z_vcall vl_X0_246_1 (t_gl_y hF hw hho hg2) dX0_minutesBy_69 rfl rfl (hF.1 21 _ rfl) ⟨by decide, by decide⟩ (Nat.le_of_ble_eq_true rfl) (Nat.le_refl _) (Nat.le_refl _) (z_cI ?_) z_tI
      refine z_pop dX0_minutesBy_72 rfl ?_
      refine z_aload_n dX0_minutesBy_73 rfl rfl ?_
      refine z_getR 21 dX0_minutesBy_74 fl_X0_35_0 (hF.1 16 _ rfl) rfl (hF.2.1 16 5 21 rfl) ?_
      refine z_getI dX0_minutesBy_77 fl_X0_163_1 (hF.1 21 _ rfl) rfl ?_
      refine z_eqi ((a_rs h l (z_I h 52 (z_c l)) (m_X6_falls h (z_I h 52 (z_c l)) (z_I h 49 5) p + m_X6_safe h) 60 (f 20 1 - m_X6_falls h (f 20 0) (z_I h 52 (z_c l)) p) (f 20 2 + m_X6_apart h (f 20 0) (z_I h 52 (z_c l)) * (10 - p))).2 + m_X6_apart h (z_I h 52 (z_c l)) (z_I h 49 5) * (10 - p)) rfl ?_
      refine z_aload_n dX0_minutesBy_80 rfl rfl ?_
      refine z_getR 20 dX0_minutesBy_81 fl_X0_31_0 (hF.1 16 _ rfl) rfl (hF.2.1 16 4 20 rfl) ?_
      refine z_getI dX0_minutesBy_84 fl_X0_163_1 (hF.1 20 _ rfl) rfl ?_
      refine z_eqi (f 20 2) rfl ?_
      refine z_isub dX0_minutesBy_87 ?_
      refine z_iret dX0_minutesBy_88 rfl rfl (Nat.le_refl _) (Nat.le_refl _) (z_rI_i ⟨?_, _, rfl, ?_, ?_⟩)
      · unfold m_X6_byOf1; rw [if_pos ((z_reach0 hh4 hf1).mp g25), if_pos c43, if_pos ((z_reach0 hr2 hf2).mp hg2)]
      · exact ((z_fm.refl _ _).u (Or.inr (Or.inr ⟨rfl, rfl⟩))).t1n
      · exact fun _ s => by unfold m_X6_byOf1_l; rw [if_pos ((z_reach0 hh4 hf1).mp g25), if_pos c43, if_pos ((z_reach0 hr2 hf2).mp hg2)]; rfl
    · refine z_bipush (v := (-5)) dX0_minutesBy_46 rfl ?_
      refine z_iret dX0_minutesBy_48 rfl rfl (Nat.le_refl _) (Nat.le_refl _) (z_rI_i ⟨?_, _, rfl, ?_, ?_⟩)
      · unfold m_X6_byOf1; rw [if_pos ((z_reach0 hh4 hf1).mp g25), if_neg c43]
      · exact (z_fm.refl _ _).t1n
      · exact fun q => absurd (by unfold m_X6_byOf1; rw [if_pos ((z_reach0 hh4 hf1).mp g25), if_neg c43]) q
  · refine z_vcall vl_X0_246_1 (c_X1_glides_21_n hF hm99 hw g25) dX0_minutesBy_25 rfl rfl (hF.1 21 _ rfl) ⟨by decide, by decide⟩ (Nat.le_of_ble_eq_true rfl) (Nat.le_refl _) (Nat.le_refl _) (z_cI ?_) z_tI
    refine z_if_eq 46 dX0_minutesBy_28 (by decide) (fun _ => ?_) (fun q => absurd q (by decide))
    refine z_bipush (v := (-5)) dX0_minutesBy_46 rfl ?_
    refine z_iret dX0_minutesBy_48 rfl rfl (Nat.le_refl _) (Nat.le_refl _) (z_rI_i ⟨?_, _, rfl, ?_, ?_⟩)
    · unfold m_X6_byOf1; rw [if_neg (fun q => g25 ((z_reach0 hh4 hf1).mpr q))]
    · exact (z_fm.refl _ _).t1n
    · exact fun q => absurd (by unfold m_X6_byOf1; rw [if_neg (fun q => g25 ((z_reach0 hh4 hf1).mpr q))]) q
theorem c_X0_by {Γ : z_W} {h : z_H} {f : Nat → Nat → Int32} {l p w : Int32} (hS : z_S h f) (s : Nat → Int32) : z_C Γ M_X0_by (z_rm 37 0 0) [.ref 16, .int l, .int p, .int w] (z_cy h f) (z_ask h f (m_X6_by h s l p w (f 20 0) (f 20 1) (f 20 2))) := by
  obtain ⟨hS3, hS6, hm99, hh4, hmi, hk, hb, hc⟩ := id hS
  obtain ⟨hF, ha, hm, hvs, hws, hho⟩ := id hk
  refine z_C.of (by decide +kernel) rfl [some (.ref 16), some (.int l), some (.int p), some (.int w), none] (Nat.le_of_ble_eq_true rfl) rfl ?_
  refine z_aload_n dX0_by_0 rfl rfl ?_
  refine z_iload_n dX0_by_1 rfl rfl ?_
  refine z_vcall vl_X0_193_0 (c_X0_isLift hF hS3) dX0_by_2 rfl rfl (hF.1 16 _ rfl) ⟨by decide, by decide⟩ (Nat.le_of_ble_eq_true rfl) (Nat.le_refl _) (Nat.le_refl _) (z_cI ?_) z_tI
  refine z_bif_eq 17 dX0_by_5 (by decide) (fun c5 => ?_) (fun c5 => ?_)
  · refine z_iconst (v := (-1)) dX0_by_17 rfl ?_
    refine z_iret dX0_by_18 rfl rfl (Nat.le_refl _) (Nat.le_refl _) (z_ask_i ?_ ?_)
    · unfold m_X6_by; rw [if_neg c5]
    · exact (z_fm.refl _ _)
  · have hl := z_ix hm (by decide) c5
    refine z_iload_n dX0_by_8 rfl rfl ?_
    refine z_iconst (v := 0) dX0_by_9 rfl ?_
    refine z_iconst (v := 1) dX0_by_10 rfl ?_
    refine z_scall sl_X0_5 (c_X0_in) dX0_by_11 rfl rfl ⟨by decide, by decide⟩ (Nat.le_of_ble_eq_true rfl) (Nat.le_refl _) (Nat.le_refl _) (z_cI ?_) z_tI
    refine z_bif_ne 19 dX0_by_14 (by decide) (fun c14 => ?_) (fun c14 => ?_)
    · refine z_iload_n dX0_by_19 rfl rfl ?_
      refine z_scall sl_X0_235 (c_X0_isPace) dX0_by_20 rfl rfl ⟨by decide, by decide⟩ (Nat.le_of_ble_eq_true rfl) (Nat.le_refl _) (Nat.le_refl _) (z_cI ?_) z_tI
      refine z_bif_ne 29 dX0_by_23 (by decide) (fun c23 => ?_) (fun c23 => ?_)
      · have h5 := z_by1_5 (hi := f 20 1) (mi := f 20 2) hk hl c23 hm99
        refine z_aload_n dX0_by_29 rfl rfl ?_
        refine z_iload_n dX0_by_30 rfl rfl ?_
        refine z_iload_n dX0_by_31 rfl rfl ?_
        refine z_vcall vl_X0_266_0 (c_X0_minutesBy hS hl c23) dX0_by_32 rfl rfl (hF.1 16 _ rfl) ⟨by decide, by decide⟩ (Nat.le_of_ble_eq_true rfl) (Nat.le_refl _) (Nat.le_refl _) (z_cPI (fun r h' hq => ?_)) z_tPI
        obtain ⟨rfl, f1, rfl, hf1, hq⟩ := hq
        refine z_istore dX0_by_35 (by decide) rfl ?_
        refine z_iload_n dX0_by_37 rfl rfl ?_
        refine z_if_eq 48 dX0_by_38 (by decide) (fun c38 => ?_) (fun c38 => ?_)
        · refine z_iload dX0_by_48 rfl ?_
          refine z_goto 57 dX0_by_50 (by decide) ?_
          refine z_iret dX0_by_57 rfl rfl (Nat.le_refl _) (Nat.le_refl _) (z_ask_i ?_ ?_)
          · unfold m_X6_by; rw [if_pos c5, if_pos c14, if_pos c23]
            by_cases e : m_X6_byOf1 h l p (f 20 0) (f 20 1) (f 20 2) < 0
            · rw [if_pos e]
            · rw [if_neg e, if_pos c38]
          · exact (hf1.le z_n1_0)
        · refine z_iload dX0_by_41 rfl ?_
          refine z_bipush (v := (-5)) dX0_by_43 rfl ?_
          refine z_icmp_ne 53 dX0_by_45 (by decide) (fun c45 => ?_) (fun c45 => ?_)
          · refine z_aload_n dX0_by_53 rfl rfl ?_
            refine z_getI dX0_by_54 fl_X0_263_0 (hF.1 16 _ rfl) rfl ?_
            refine z_eqi (f1 16 22) rfl ?_
            refine z_iret dX0_by_57 rfl rfl (Nat.le_refl _) (Nat.le_refl _) (z_ask_i ?_ ?_)
            · unfold m_X6_by; rw [if_pos c5, if_pos c14, if_pos c23, if_neg (fun e => c45 (h5.mp e)), if_neg c38]
              exact hq c45 s
            · exact (hf1.le z_n1_0)
          · refine z_iload dX0_by_48 rfl ?_
            refine z_goto 57 dX0_by_50 (by decide) ?_
            refine z_iret dX0_by_57 rfl rfl (Nat.le_refl _) (Nat.le_refl _) (z_ask_i ?_ ?_)
            · unfold m_X6_by; rw [if_pos c5, if_pos c14, if_pos c23]
              by_cases e : m_X6_byOf1 h l p (f 20 0) (f 20 1) (f 20 2) < 0
              · rw [if_pos e]
              · exact absurd (h5.mpr c45) e
            · exact (hf1.le z_n1_0)
      · refine z_bipush (v := (-2)) dX0_by_26 rfl ?_
        refine z_iret dX0_by_28 rfl rfl (Nat.le_refl _) (Nat.le_refl _) (z_ask_i ?_ ?_)
        · unfold m_X6_by; rw [if_pos c5, if_pos c14, if_neg c23]
        · exact (z_fm.refl _ _)
    · refine z_iconst (v := (-1)) dX0_by_17 rfl ?_
      refine z_iret dX0_by_18 rfl rfl (Nat.le_refl _) (Nat.le_refl _) (z_ask_i ?_ ?_)
      · unfold m_X6_by; rw [if_pos c5, if_neg c14]
      · exact (z_fm.refl _ _)
theorem z_s5 {h : z_H} {p m hi mi : Int32} (hm : z_in m 0 99) (hho : z_in (z_I h 49 5) 0 99) (hp : z_in p 1 9) : m_X6_straightOf h p m hi mi < 0 ↔ m_X6_straightOf h p m hi mi = -5 := by
  have h5 : ((-5 : Int32) < 0 ↔ (-5 : Int32) = -5) := ⟨fun _ => rfl, fun _ => by decide⟩
  obtain ⟨k1, l1, e1⟩ := z_ap_k (h := h) hm hho hp
  unfold m_X6_straightOf
  repeat' split
  all_goals first | exact h5 | (rw [e1]; exact z_n5 (by omega))
/-- best so far: untold is -5 -/
def z_b5 (b : Int32 × Int32 × Int32) : Prop := b.2.2 < 0 ↔ b.2.2 = -5
theorem a_tb_5 {w p n : Int32} {b : Int32 × Int32 × Int32} (hn : n < 0 ↔ n = -5) (hb : z_b5 b) : z_b5 (a_tb w p n b) := by
  unfold a_tb
  repeat' split
  · exact hb
  · exact hn
  · exact hn
  · exact hb
/-- as a_tb, but told by -5 -/
theorem a_tb_c {w p n : Int32} {b : Int32 × Int32 × Int32} (hn : n < 0 ↔ n = -5) (hb : z_b5 b) : a_tb w p n b = if n = -5 then b else if b.2.2 = -5 then (w, p, n) else if n < b.2.2 then (w, p, n) else b := by
  unfold a_tb
  unfold z_b5 at hb
  by_cases e : n = -5
  · rw [if_pos (hn.mpr e), if_pos e]
  · rw [if_neg (fun q => e (hn.mp q)), if_neg e]
    by_cases e2 : b.2.2 = -5
    · rw [if_pos (hb.mpr e2), if_pos e2]
    · rw [if_neg (fun q => e2 (hb.mp q)), if_neg e2]
theorem z_e20 {f f' : Nat → Nat → Int32} (k : z_fm z_cn0 f f') : f' 20 = f 20 := funext fun j => k 20 j (by unfold z_cn0; omega)
theorem a_l1_5 {h : z_H} {m hi mi : Int32} (hm : z_in m 0 99) (hho : z_in (z_I h 49 5) 0 99) : ∀ n, n ≤ 9 → z_b5 (a_l1 h m hi mi n)
  | 0, _ => ⟨fun _ => rfl, fun _ => (show (-5 : Int32) < 0 by decide)⟩
  | n + 1, hn => a_tb_5 (z_s5 hm hho (z_pc (by omega))) (a_l1_5 hm hho n (by omega))
theorem a_l2_5 {h : z_H} {l m hi mi : Int32} {b : Int32 × Int32 × Int32} (hk : z_ok h) (hl : l = nI (z_c l) ∧ z_c l < z_c (z_I h 49 0)) (hm : z_in m 0 99) (hb : z_b5 b) : ∀ n, n ≤ 9 → z_b5 (a_l2 h l m hi mi b n)
  | 0, _ => hb
  | n + 1, hn => a_tb_5 (z_by1_5 hk hl (z_pc (by omega)) hm) (a_l2_5 hk hl hm hb n (by omega))
theorem a_l3_5 {h : z_H} {b m hi mi : Int32} (hk : z_ok h) (hm : z_in m 0 99) : ∀ n, n ≤ z_c (z_I h 49 0) → z_b5 (a_l3 h b m hi mi n)
  | 0, _ => a_l1_5 hm hk.2.2.2.2.2 9 (by decide)
  | n + 1, hn => by
    simp only [a_l3]
    split
    · exact a_l3_5 hk hm n (by omega)
    · exact a_l2_5 hk (z_ixn (by omega) (by have := hk.2.2.1.2; omega)) hm (a_l3_5 hk hm n (by omega)) 9 (Nat.le_refl _)
/-- fewestBut's end: fewest, and the best as noted -/
def z_fb (h : z_H) (f : Nat → Nat → Int32) (t : Int32 × Int32 × Int32) : Outcome → z_H → Prop := fun o h' => o = .returned (some (.int t.2.2)) ∧ ∃ f', h' = z_cy h f' ∧ z_fm z_cn0 f f' ∧ f' 16 23 = t.1 ∧ f' 16 24 = t.2.1
section ZFB
variable {Γ : z_W} {M : z_M} {rm : Room} {Q : Outcome → z_H → Prop} {cs ss pc : Nat} {ls : List (Option Value)} {rest : List Value} {h : z_H} {f : Nat → Nat → Int32} {t : Int32 × Int32 × Int32}
theorem z_cFB (kk : ∀ f', z_fm z_cn0 f f' → f' 16 23 = t.1 → f' 16 24 = t.2.1 → z_G Γ M rm Q cs ss pc ls (.int t.2.2 :: rest) (z_cy h f')) : ∀ v h', z_fb h f t (.returned v) h' → z_G Γ M rm Q cs ss pc ls (v.toList ++ rest) h' := by
  intro v h' q
  obtain ⟨q1, f', rfl, q2, q3, q4⟩ := q
  cases q1
  exact kk f' q2 q3 q4
theorem z_tFB {P : Nat → z_H → Prop} : ∀ x h', z_fb h f t (.threw x) h' → P x h' := fun x h' q => by cases q.1
end ZFB
theorem c_X0_minutesStraight0 {Γ : z_W} {h : z_H} {f : Nat → Nat → Int32} {p : Int32} (hS : z_S h f) (hp : z_in p 1 9) : z_C Γ M_X0_minutesStraight (z_rm 4 0 0) [.ref 16, .int p] (z_cy h f) (z_ri (m_X6_straightOf h p (f 20 0) (f 20 1) (f 20 2)) (z_cy h f)) := by
  obtain ⟨hS3, hS6, hm99, hh4, hmi, hk, hb, hc⟩ := id hS
  obtain ⟨hF, ha, hm, hvs, hws, hho⟩ := id hk
  obtain ⟨c1, -, -, a, Cs, c4, c5x, -⟩ := id hc
  refine z_C.of (by decide +kernel) rfl [some (.ref 16), some (.int p)] (Nat.le_of_ble_eq_true rfl) rfl ?_
  refine z_aload_n dX0_minutesStraight_0 rfl rfl ?_
  refine z_getR 20 dX0_minutesStraight_1 fl_X0_31_0 (hF.1 16 _ rfl) rfl (hF.2.1 16 4 20 rfl) ?_
  refine z_aload_n dX0_minutesStraight_4 rfl rfl ?_
  refine z_getI dX0_minutesStraight_5 fl_X0_38_0 (hF.1 16 _ rfl) rfl ?_
  refine z_eqi (z_I h 49 5) hS6 ?_
  refine z_iload_n dX0_minutesStraight_8 rfl rfl ?_
  refine z_aload_n dX0_minutesStraight_9 rfl rfl ?_
  refine z_getR a dX0_minutesStraight_10 fl_X0_49_0 (hF.1 16 _ rfl) rfl c4 ?_
  refine z_vcall vl_X0_224_2 (c_X2_safely (c5x (f) rfl rfl).1) dX0_minutesStraight_13 rfl rfl (c5x f rfl rfl).1 ⟨by decide, by decide⟩ (Nat.le_of_ble_eq_true rfl) (Nat.le_refl _) (Nat.le_refl _) (z_cI ?_) z_tI
  refine z_eqi (m_X6_safe h) (by rw [(c5x (f) rfl rfl).2.2.1]; rfl) ?_
  refine z_vcall vl_X0_253_1 (c_X1_reaches_20 hF hm99 hho) dX0_minutesStraight_16 rfl rfl (hF.1 20 _ rfl) ⟨by decide, by decide⟩ (Nat.le_of_ble_eq_true rfl) (Nat.le_refl _) (Nat.le_refl _) (z_cI ?_) z_tI
  refine z_bif_eq 45 dX0_minutesStraight_19 (by decide) (fun c19 => ?_) (fun c19 => ?_)
  · refine z_bipush (v := (-5)) dX0_minutesStraight_45 rfl ?_
    refine z_iret dX0_minutesStraight_47 rfl rfl (Nat.le_refl _) (Nat.le_refl _) (z_ri_i ?_ ?_)
    · rw [z_st_of hh4 hm99 hho hp hb, if_neg c19]
    · rfl
  · refine z_aload_n dX0_minutesStraight_22 rfl rfl ?_
    refine z_getI dX0_minutesStraight_23 fl_X0_38_0 (hF.1 16 _ rfl) rfl ?_
    refine z_eqi (z_I h 49 5) hS6 ?_
    refine z_aload_n dX0_minutesStraight_26 rfl rfl ?_
    refine z_getR 20 dX0_minutesStraight_27 fl_X0_31_0 (hF.1 16 _ rfl) rfl (hF.2.1 16 4 20 rfl) ?_
    refine z_getI dX0_minutesStraight_30 fl_X0_218_1 (hF.1 20 _ rfl) rfl ?_
    refine z_eqi (f 20 0) rfl ?_
    refine z_isub dX0_minutesStraight_33 ?_
    refine z_scall sl_X0_249 (c_J3_abs) dX0_minutesStraight_34 rfl rfl ⟨by decide, by decide⟩ (Nat.le_of_ble_eq_true rfl) (Nat.le_refl _) (Nat.le_refl _) (z_cI ?_) z_tI
    refine z_eqi (m_X6_apart h (f 20 0) (z_I h 49 5)) (z_abs_a hm99 hho) ?_
    refine z_bipush (v := 10) dX0_minutesStraight_37 rfl ?_
    refine z_iload_n dX0_minutesStraight_39 rfl rfl ?_
    refine z_isub dX0_minutesStraight_40 ?_
    refine z_imul dX0_minutesStraight_41 ?_
    refine z_goto 47 dX0_minutesStraight_42 (by decide) ?_
    refine z_iret dX0_minutesStraight_47 rfl rfl (Nat.le_refl _) (Nat.le_refl _) (z_ri_i ?_ ?_)
    · rw [z_st_of hh4 hm99 hho hp hb, if_pos c19]
    · rfl
theorem lp1_X0_fewestBut {Γ : z_W} {h : z_H} {f : Nat → Nat → Int32} {b : Int32} (hS : z_S h f)  (k : ∀ f' pp o5, z_fm z_cn0 f f' → f' 16 23 = (a_l1 h (f 20 0) (f 20 1) (f 20 2) 9).1 → f' 16 24 = (a_l1 h (f 20 0) (f 20 1) (f 20 2) 9).2.1 → z_G Γ M_X0_fewestBut (z_rm 37 0 0) (z_fb h f (a_lb h b (f 20 0) (f 20 1) (f 20 2))) 0 0 110 [some (.ref 16), some (.int b), some (.int ((a_l1 h (f 20 0) (f 20 1) (f 20 2) 9).2.2)), some (.int (-1)), pp, o5] [] (z_cy h f')) : ∀ (r i : Nat) (f' : Nat → Nat → Int32) (o5 : Option Value), i + r = 9 → z_fm z_cn0 f f' → f' 16 23 = (a_l1 h (f 20 0) (f 20 1) (f 20 2) i).1 → f' 16 24 = (a_l1 h (f 20 0) (f 20 1) (f 20 2) i).2.1 → z_G Γ M_X0_fewestBut (z_rm 37 0 0) (z_fb h f (a_lb h b (f 20 0) (f 20 1) (f 20 2))) 0 0 28 [some (.ref 16), some (.int b), some (.int ((a_l1 h (f 20 0) (f 20 1) (f 20 2) i).2.2)), some (.int (-1)), some (.int (nI (i + 1))), o5] [] (z_cy h f') := by
  obtain ⟨hS3, hS6, hm99, hh4, hmi, hk, hb, hc⟩ := id hS
  obtain ⟨hF, ha, hm, hvs, hws, hho⟩ := id hk
  intro r
  induction r with
  | zero =>
    intro i f' o5 hi0 hff g1 g2
    have hi1 : i = 9 := by omega
    subst hi1
    refine z_iload dX0_fewestBut_28 rfl ?_
    refine z_bipush (v := 9) dX0_fewestBut_30 rfl ?_
    refine z_icmp_gt 110 dX0_fewestBut_32 (by decide) (fun _ => ?_) (fun q => by first | exact absurd (show (9 : Int32) < nI (9 + 1) by decide) q | exact absurd q (show (9 : Int32) < nI (9 + 1) by decide))
    exact k f' _ o5 hff g1 g2
  | succ r ih =>
    intro i f' o5 hi0 hff g1 g2
    have hp := z_pc (i := i) (by omega)
    have hS' := hS.fm hff
    have hS3' := hS'.1
    have hS6' := hS'.2.1
    have e20 := z_e20 hff

    have h5c : a_l1 h (f 20 0) (f 20 1) (f 20 2) (i + 1) = _ := a_tb_c (z_s5 hm99 hho hp) (a_l1_5 hm99 hho i (by omega))
    refine z_iload dX0_fewestBut_28 rfl ?_
    refine z_bipush (v := 9) dX0_fewestBut_30 rfl ?_
    refine z_icmp_gt 110 dX0_fewestBut_32 (by decide) (fun q => by first | exact absurd q (nI_nlt (a := 9) (show i + 1 ≤ 9 by omega) (by decide)) | exact absurd (nI_nlt (a := 9) (show i + 1 ≤ 9 by omega) (by decide)) q) (fun _ => ?_)
    refine z_iload_n dX0_fewestBut_35 rfl rfl ?_
    refine z_iconst (v := (-1)) dX0_fewestBut_36 rfl ?_
    refine z_icmp_eq 45 dX0_fewestBut_37 (by decide) (fun _ => ?_) (fun q => by first | exact absurd rfl q | exact absurd q rfl)
    refine z_iload_n dX0_fewestBut_45 rfl rfl ?_
    refine z_iconst (v := (-1)) dX0_fewestBut_46 rfl ?_
    refine z_icmp_ne 59 dX0_fewestBut_47 (by decide) (fun q => by first | exact absurd q rfl | exact absurd rfl q) (fun _ => ?_)
    refine z_aload_n dX0_fewestBut_50 rfl rfl ?_
    refine z_iload dX0_fewestBut_51 rfl ?_
    refine z_vcall vl_X0_269_0 (c_X0_minutesStraight0 hS' hp) dX0_fewestBut_53 rfl rfl (hF.1 16 _ rfl) ⟨by decide, by decide⟩ (Nat.le_of_ble_eq_true rfl) (Nat.le_refl _) (Nat.le_refl _) (z_cI ?_) z_tI
    refine z_eqi (m_X6_straightOf h (nI (i + 1)) (f 20 0) (f 20 1) (f 20 2)) (by rw [e20]) ?_
    refine z_goto 66 dX0_fewestBut_56 (by decide) ?_
    refine z_istore dX0_fewestBut_66 (by decide) rfl ?_
    refine z_iload dX0_fewestBut_68 rfl ?_
    refine z_bipush (v := (-5)) dX0_fewestBut_70 rfl ?_
    refine z_icmp_eq 104 dX0_fewestBut_72 (by decide) (fun c72 => ?_) (fun c72 => ?_)
    · refine z_iinc (v := nI (i + 1 + 1)) dX0_fewestBut_104 rfl (nI_succ _).symm (by decide) rfl ?_
      refine z_goto 28 dX0_fewestBut_107 (by decide) ?_
      rw [if_pos c72] at h5c
      have fin := ih (i + 1) f' (some (.int (m_X6_straightOf h (nI (i + 1)) (f 20 0) (f 20 1) (f 20 2)))) (by omega) hff (by rw [h5c]; exact g1) (by rw [h5c]; exact g2)
      rw [h5c] at fin
      exact fin
    · refine z_iload_n dX0_fewestBut_75 rfl rfl ?_
      refine z_bipush (v := (-5)) dX0_fewestBut_76 rfl ?_
      refine z_icmp_eq 90 dX0_fewestBut_78 (by decide) (fun c78 => ?_) (fun c78 => ?_)
      · refine z_iload dX0_fewestBut_90 rfl ?_
        refine z_istore_n dX0_fewestBut_92 rfl (by decide) rfl ?_
        refine z_aload_n dX0_fewestBut_93 rfl rfl ?_
        refine z_iload_n dX0_fewestBut_94 rfl rfl ?_
        refine z_putI dX0_fewestBut_95 (pl_X0_272_0 rfl) (hF.1 16 _ rfl) (by decide) rfl ?_
        refine z_meq (z_cy h (z_u f' 16 23 (-1))) (z_cy_s (by decide)) ?_
        refine z_aload_n dX0_fewestBut_98 rfl rfl ?_
        refine z_iload dX0_fewestBut_99 rfl ?_
        refine z_putI dX0_fewestBut_101 (pl_X0_275_0 rfl) (hF.1 16 _ rfl) (by decide) rfl ?_
        refine z_meq (z_cy h (z_u (z_u f' 16 23 (-1)) 16 24 (nI (i + 1)))) (z_cy_s (by decide)) ?_
        refine z_iinc (v := nI (i + 1 + 1)) dX0_fewestBut_104 rfl (nI_succ _).symm (by decide) rfl ?_
        refine z_goto 28 dX0_fewestBut_107 (by decide) ?_
        rw [if_neg c72, if_pos c78] at h5c
        have fin := ih (i + 1) (z_u (z_u f' 16 23 (-1)) 16 24 (nI (i + 1))) (some (.int (m_X6_straightOf h (nI (i + 1)) (f 20 0) (f 20 1) (f 20 2)))) (by omega) (hff.u (Or.inr (Or.inr ⟨rfl, by decide⟩)) |>.u (Or.inr (Or.inr ⟨rfl, by decide⟩))) (by rw [h5c]; rfl) (by rw [h5c]; rfl)
        rw [h5c] at fin
        exact fin
      · refine z_iload dX0_fewestBut_81 rfl ?_
        refine z_iload_n dX0_fewestBut_83 rfl rfl ?_
        refine z_icmp_lt 90 dX0_fewestBut_84 (by decide) (fun c84 => ?_) (fun c84 => ?_)
        · refine z_iload dX0_fewestBut_90 rfl ?_
          refine z_istore_n dX0_fewestBut_92 rfl (by decide) rfl ?_
          refine z_aload_n dX0_fewestBut_93 rfl rfl ?_
          refine z_iload_n dX0_fewestBut_94 rfl rfl ?_
          refine z_putI dX0_fewestBut_95 (pl_X0_272_0 rfl) (hF.1 16 _ rfl) (by decide) rfl ?_
          refine z_meq (z_cy h (z_u f' 16 23 (-1))) (z_cy_s (by decide)) ?_
          refine z_aload_n dX0_fewestBut_98 rfl rfl ?_
          refine z_iload dX0_fewestBut_99 rfl ?_
          refine z_putI dX0_fewestBut_101 (pl_X0_275_0 rfl) (hF.1 16 _ rfl) (by decide) rfl ?_
          refine z_meq (z_cy h (z_u (z_u f' 16 23 (-1)) 16 24 (nI (i + 1)))) (z_cy_s (by decide)) ?_
          refine z_iinc (v := nI (i + 1 + 1)) dX0_fewestBut_104 rfl (nI_succ _).symm (by decide) rfl ?_
          refine z_goto 28 dX0_fewestBut_107 (by decide) ?_
          rw [if_neg c72, if_neg c78, if_pos c84] at h5c
          have fin := ih (i + 1) (z_u (z_u f' 16 23 (-1)) 16 24 (nI (i + 1))) (some (.int (m_X6_straightOf h (nI (i + 1)) (f 20 0) (f 20 1) (f 20 2)))) (by omega) (hff.u (Or.inr (Or.inr ⟨rfl, by decide⟩)) |>.u (Or.inr (Or.inr ⟨rfl, by decide⟩))) (by rw [h5c]; rfl) (by rw [h5c]; rfl)
          rw [h5c] at fin
          exact fin
        · refine z_goto 104 dX0_fewestBut_87 (by decide) ?_
          refine z_iinc (v := nI (i + 1 + 1)) dX0_fewestBut_104 rfl (nI_succ _).symm (by decide) rfl ?_
          refine z_goto 28 dX0_fewestBut_107 (by decide) ?_
          rw [if_neg c72, if_neg c78, if_neg c84] at h5c
          have fin := ih (i + 1) f' (some (.int (m_X6_straightOf h (nI (i + 1)) (f 20 0) (f 20 1) (f 20 2)))) (by omega) hff (by rw [h5c]; exact g1) (by rw [h5c]; exact g2)
          rw [h5c] at fin
          exact fin
theorem lp2_X0_fewestBut {Γ : z_W} {h : z_H} {f : Nat → Nat → Int32} {b l : Int32} (hS : z_S h f) (hl : l = nI (z_c l) ∧ z_c l < z_c (z_I h 49 0)) (hlb : ¬ l = b) {t : Int32 × Int32 × Int32} (ht5 : z_b5 t) (k : ∀ f' pp o5, z_fm z_cn0 f f' → f' 16 23 = (a_l2 h l (f 20 0) (f 20 1) (f 20 2) t 9).1 → f' 16 24 = (a_l2 h l (f 20 0) (f 20 1) (f 20 2) t 9).2.1 → z_G Γ M_X0_fewestBut (z_rm 37 0 0) (z_fb h f (a_lb h b (f 20 0) (f 20 1) (f 20 2))) 0 0 110 [some (.ref 16), some (.int b), some (.int ((a_l2 h l (f 20 0) (f 20 1) (f 20 2) t 9).2.2)), some (.int l), pp, o5] [] (z_cy h f')) : ∀ (r i : Nat) (f' : Nat → Nat → Int32) (o5 : Option Value), i + r = 9 → z_fm z_cn0 f f' → f' 16 23 = (a_l2 h l (f 20 0) (f 20 1) (f 20 2) t i).1 → f' 16 24 = (a_l2 h l (f 20 0) (f 20 1) (f 20 2) t i).2.1 → z_G Γ M_X0_fewestBut (z_rm 37 0 0) (z_fb h f (a_lb h b (f 20 0) (f 20 1) (f 20 2))) 0 0 28 [some (.ref 16), some (.int b), some (.int ((a_l2 h l (f 20 0) (f 20 1) (f 20 2) t i).2.2)), some (.int l), some (.int (nI (i + 1))), o5] [] (z_cy h f') := by
  obtain ⟨hS3, hS6, hm99, hh4, hmi, hk, hb, hc⟩ := id hS
  obtain ⟨hF, ha, hm, hvs, hws, hho⟩ := id hk
  intro r
  induction r with
  | zero =>
    intro i f' o5 hi0 hff g1 g2
    have hi1 : i = 9 := by omega
    subst hi1
    refine z_iload dX0_fewestBut_28 rfl ?_
    refine z_bipush (v := 9) dX0_fewestBut_30 rfl ?_
    refine z_icmp_gt 110 dX0_fewestBut_32 (by decide) (fun _ => ?_) (fun q => by first | exact absurd (show (9 : Int32) < nI (9 + 1) by decide) q | exact absurd q (show (9 : Int32) < nI (9 + 1) by decide))
    exact k f' _ o5 hff g1 g2
  | succ r ih =>
    intro i f' o5 hi0 hff g1 g2
    have hp := z_pc (i := i) (by omega)
    have hS' := hS.fm hff
    have hS3' := hS'.1
    have hS6' := hS'.2.1
    have e20 := z_e20 hff

    have h5c : a_l2 h l (f 20 0) (f 20 1) (f 20 2) t (i + 1) = _ := a_tb_c (z_by1_5 hk hl hp hm99) (a_l2_5 hk hl hm99 ht5 i (by omega))
    have hl1 : ¬ l = -1 := fun q => absurd (nI_pos' (n := z_c l) (by have := hl.2; have := hm.2; omega)) (by rw [← hl.1, q]; decide)
    refine z_iload dX0_fewestBut_28 rfl ?_
    refine z_bipush (v := 9) dX0_fewestBut_30 rfl ?_
    refine z_icmp_gt 110 dX0_fewestBut_32 (by decide) (fun q => by first | exact absurd q (nI_nlt (a := 9) (show i + 1 ≤ 9 by omega) (by decide)) | exact absurd (nI_nlt (a := 9) (show i + 1 ≤ 9 by omega) (by decide)) q) (fun _ => ?_)
    refine z_iload_n dX0_fewestBut_35 rfl rfl ?_
    refine z_iconst (v := (-1)) dX0_fewestBut_36 rfl ?_
    refine z_icmp_eq 45 dX0_fewestBut_37 (by decide) (fun q => by first | exact absurd q hl1 | exact absurd hl1 q) (fun _ => ?_)
    refine z_iload_n dX0_fewestBut_40 rfl rfl ?_
    refine z_iload_n dX0_fewestBut_41 rfl rfl ?_
    refine z_icmp_eq 110 dX0_fewestBut_42 (by decide) (fun q => by first | exact absurd q hlb | exact absurd hlb q) (fun _ => ?_)
    refine z_iload_n dX0_fewestBut_45 rfl rfl ?_
    refine z_iconst (v := (-1)) dX0_fewestBut_46 rfl ?_
    refine z_icmp_ne 59 dX0_fewestBut_47 (by decide) (fun _ => ?_) (fun q => by first | exact absurd hl1 q | exact absurd q hl1)
    refine z_aload_n dX0_fewestBut_59 rfl rfl ?_
    refine z_iload_n dX0_fewestBut_60 rfl rfl ?_
    refine z_iload dX0_fewestBut_61 rfl ?_
    refine z_vcall vl_X0_266_0 (c_X0_minutesBy hS' hl hp) dX0_fewestBut_63 rfl rfl (hF.1 16 _ rfl) ⟨by decide, by decide⟩ (Nat.le_of_ble_eq_true rfl) (Nat.le_refl _) (Nat.le_refl _) (z_cPI (fun r h' hq => ?_)) z_tPI
    obtain ⟨rfl, f1, rfl, hf1, -⟩ := hq
    rw [e20]
    have k23 : f1 16 23 = f' 16 23 := hf1 16 23 (by unfold z_n1; omega)
    have k24 : f1 16 24 = f' 16 24 := hf1 16 24 (by unfold z_n1; omega)
    refine z_istore dX0_fewestBut_66 (by decide) rfl ?_
    refine z_iload dX0_fewestBut_68 rfl ?_
    refine z_bipush (v := (-5)) dX0_fewestBut_70 rfl ?_
    refine z_icmp_eq 104 dX0_fewestBut_72 (by decide) (fun c72 => ?_) (fun c72 => ?_)
    · refine z_iinc (v := nI (i + 1 + 1)) dX0_fewestBut_104 rfl (nI_succ _).symm (by decide) rfl ?_
      refine z_goto 28 dX0_fewestBut_107 (by decide) ?_
      rw [if_pos c72] at h5c
      have fin := ih (i + 1) f1 (some (.int (m_X6_byOf1 h l (nI (i + 1)) (f 20 0) (f 20 1) (f 20 2)))) (by omega) (hff.tr hf1 z_n1_0) (by rw [h5c]; exact k23.trans g1) (by rw [h5c]; exact k24.trans g2)
      rw [h5c] at fin
      exact fin
    · refine z_iload_n dX0_fewestBut_75 rfl rfl ?_
      refine z_bipush (v := (-5)) dX0_fewestBut_76 rfl ?_
      refine z_icmp_eq 90 dX0_fewestBut_78 (by decide) (fun c78 => ?_) (fun c78 => ?_)
      · refine z_iload dX0_fewestBut_90 rfl ?_
        refine z_istore_n dX0_fewestBut_92 rfl (by decide) rfl ?_
        refine z_aload_n dX0_fewestBut_93 rfl rfl ?_
        refine z_iload_n dX0_fewestBut_94 rfl rfl ?_
        refine z_putI dX0_fewestBut_95 (pl_X0_272_0 rfl) (hF.1 16 _ rfl) (by decide) rfl ?_
        refine z_meq (z_cy h (z_u f1 16 23 l)) (z_cy_s (by decide)) ?_
        refine z_aload_n dX0_fewestBut_98 rfl rfl ?_
        refine z_iload dX0_fewestBut_99 rfl ?_
        refine z_putI dX0_fewestBut_101 (pl_X0_275_0 rfl) (hF.1 16 _ rfl) (by decide) rfl ?_
        refine z_meq (z_cy h (z_u (z_u f1 16 23 l) 16 24 (nI (i + 1)))) (z_cy_s (by decide)) ?_
        refine z_iinc (v := nI (i + 1 + 1)) dX0_fewestBut_104 rfl (nI_succ _).symm (by decide) rfl ?_
        refine z_goto 28 dX0_fewestBut_107 (by decide) ?_
        rw [if_neg c72, if_pos c78] at h5c
        have fin := ih (i + 1) (z_u (z_u f1 16 23 l) 16 24 (nI (i + 1))) (some (.int (m_X6_byOf1 h l (nI (i + 1)) (f 20 0) (f 20 1) (f 20 2)))) (by omega) ((hff.tr hf1 z_n1_0).u (Or.inr (Or.inr ⟨rfl, by decide⟩)) |>.u (Or.inr (Or.inr ⟨rfl, by decide⟩))) (by rw [h5c]; rfl) (by rw [h5c]; rfl)
        rw [h5c] at fin
        exact fin
      · refine z_iload dX0_fewestBut_81 rfl ?_
        refine z_iload_n dX0_fewestBut_83 rfl rfl ?_
        refine z_icmp_lt 90 dX0_fewestBut_84 (by decide) (fun c84 => ?_) (fun c84 => ?_)
        · refine z_iload dX0_fewestBut_90 rfl ?_
          refine z_istore_n dX0_fewestBut_92 rfl (by decide) rfl ?_
          refine z_aload_n dX0_fewestBut_93 rfl rfl ?_
          refine z_iload_n dX0_fewestBut_94 rfl rfl ?_
          refine z_putI dX0_fewestBut_95 (pl_X0_272_0 rfl) (hF.1 16 _ rfl) (by decide) rfl ?_
          refine z_meq (z_cy h (z_u f1 16 23 l)) (z_cy_s (by decide)) ?_
          refine z_aload_n dX0_fewestBut_98 rfl rfl ?_
          refine z_iload dX0_fewestBut_99 rfl ?_
          refine z_putI dX0_fewestBut_101 (pl_X0_275_0 rfl) (hF.1 16 _ rfl) (by decide) rfl ?_
          refine z_meq (z_cy h (z_u (z_u f1 16 23 l) 16 24 (nI (i + 1)))) (z_cy_s (by decide)) ?_
          refine z_iinc (v := nI (i + 1 + 1)) dX0_fewestBut_104 rfl (nI_succ _).symm (by decide) rfl ?_
          refine z_goto 28 dX0_fewestBut_107 (by decide) ?_
          rw [if_neg c72, if_neg c78, if_pos c84] at h5c
          have fin := ih (i + 1) (z_u (z_u f1 16 23 l) 16 24 (nI (i + 1))) (some (.int (m_X6_byOf1 h l (nI (i + 1)) (f 20 0) (f 20 1) (f 20 2)))) (by omega) ((hff.tr hf1 z_n1_0).u (Or.inr (Or.inr ⟨rfl, by decide⟩)) |>.u (Or.inr (Or.inr ⟨rfl, by decide⟩))) (by rw [h5c]; rfl) (by rw [h5c]; rfl)
          rw [h5c] at fin
          exact fin
        · refine z_goto 104 dX0_fewestBut_87 (by decide) ?_
          refine z_iinc (v := nI (i + 1 + 1)) dX0_fewestBut_104 rfl (nI_succ _).symm (by decide) rfl ?_
          refine z_goto 28 dX0_fewestBut_107 (by decide) ?_
          rw [if_neg c72, if_neg c78, if_neg c84] at h5c
          have fin := ih (i + 1) f1 (some (.int (m_X6_byOf1 h l (nI (i + 1)) (f 20 0) (f 20 1) (f 20 2)))) (by omega) (hff.tr hf1 z_n1_0) (by rw [h5c]; exact k23.trans g1) (by rw [h5c]; exact k24.trans g2)
          rw [h5c] at fin
          exact fin
theorem lp3_X0_fewestBut {Γ : z_W} {h : z_H} {f : Nat → Nat → Int32} {b : Int32} (hS : z_S h f) : ∀ (r i : Nat) (f' : Nat → Nat → Int32) (pp o5 : Option Value), i + r = z_c (z_I h 49 0) → z_fm z_cn0 f f' → f' 16 23 = (a_l3 h b (f 20 0) (f 20 1) (f 20 2) i).1 → f' 16 24 = (a_l3 h b (f 20 0) (f 20 1) (f 20 2) i).2.1 → z_G Γ M_X0_fewestBut (z_rm 37 0 0) (z_fb h f (a_lb h b (f 20 0) (f 20 1) (f 20 2))) 0 0 17 [some (.ref 16), some (.int b), some (.int ((a_l3 h b (f 20 0) (f 20 1) (f 20 2) i).2.2)), some (.int (nI i)), pp, o5] [] (z_cy h f') := by
  obtain ⟨hS3, hS6, hm99, hh4, hmi, hk, hb, hc⟩ := id hS
  obtain ⟨hF, ha, hm, hvs, hws, hho⟩ := id hk
  intro r
  induction r with
  | zero =>
    intro i f' pp o5 hi0 hff g1 g2
    have hi1 : i = z_c (z_I h 49 0) := by omega
    subst hi1
    have hS' := hS.fm hff
    have hS3' := hS'.1
    have hS6' := hS'.2.1
    have e20 := z_e20 hff

    refine z_iload_n dX0_fewestBut_17 rfl rfl ?_
    refine z_aload_n dX0_fewestBut_18 rfl rfl ?_
    refine z_getI dX0_fewestBut_19 fl_X0_116_0 (hF.1 16 _ rfl) rfl ?_
    refine z_eqi (z_I h 49 0) hS3' ?_
    refine z_icmp_ge 116 dX0_fewestBut_22 (by decide) (fun _ => ?_) (fun q => by first | exact absurd (z_lif hm rfl) q | exact absurd q (z_lif hm rfl))
    refine z_iload_n dX0_fewestBut_116 rfl rfl ?_
    refine z_iret dX0_fewestBut_117 rfl rfl (Nat.le_refl _) (Nat.le_refl _) ⟨?_, f', rfl, ?_, ?_, ?_⟩
    · rfl
    · exact hff
    · exact g1
    · exact g2
  | succ r ih =>
    intro i f' pp o5 hi0 hff g1 g2
    have hS' := hS.fm hff
    have hS3' := hS'.1
    have hS6' := hS'.2.1
    have e20 := z_e20 hff
    have hl : nI i = nI (z_c (nI i)) ∧ z_c (nI i) < z_c (z_I h 49 0) := z_ixn (by omega) (by have := hm.2; omega)
    have hl1 : ¬ nI i = -1 := fun q => absurd (nI_pos' (n := i) (by have := hm.2; omega)) (by rw [q]; decide)
    have e3 : a_l3 h b (f 20 0) (f 20 1) (f 20 2) (i + 1) = if nI i = b then a_l3 h b (f 20 0) (f 20 1) (f 20 2) i else a_l2 h (nI i) (f 20 0) (f 20 1) (f 20 2) (a_l3 h b (f 20 0) (f 20 1) (f 20 2) i) 9 := rfl
    by_cases hlb : nI i = b
    · rw [if_pos hlb] at e3
      refine z_iload_n dX0_fewestBut_17 rfl rfl ?_
      refine z_aload_n dX0_fewestBut_18 rfl rfl ?_
      refine z_getI dX0_fewestBut_19 fl_X0_116_0 (hF.1 16 _ rfl) rfl ?_
      refine z_eqi (z_I h 49 0) hS3' ?_
      refine z_icmp_ge 116 dX0_fewestBut_22 (by decide) (fun q => by first | exact absurd q (z_lin hm (by omega)) | exact absurd (z_lin hm (by omega)) q) (fun _ => ?_)
      refine z_iconst (v := 1) dX0_fewestBut_25 rfl ?_
      refine z_istore dX0_fewestBut_26 (by decide) rfl ?_
      refine z_iload dX0_fewestBut_28 rfl ?_
      refine z_bipush (v := 9) dX0_fewestBut_30 rfl ?_
      refine z_icmp_gt 110 dX0_fewestBut_32 (by decide) (fun q => by first | exact absurd q (show ¬ (9 : Int32) < 1 by decide) | exact absurd (show ¬ (9 : Int32) < 1 by decide) q) (fun _ => ?_)
      refine z_iload_n dX0_fewestBut_35 rfl rfl ?_
      refine z_iconst (v := (-1)) dX0_fewestBut_36 rfl ?_
      refine z_icmp_eq 45 dX0_fewestBut_37 (by decide) (fun q => by first | exact absurd q hl1 | exact absurd hl1 q) (fun _ => ?_)
      refine z_iload_n dX0_fewestBut_40 rfl rfl ?_
      refine z_iload_n dX0_fewestBut_41 rfl rfl ?_
      refine z_icmp_eq 110 dX0_fewestBut_42 (by decide) (fun _ => ?_) (fun q => by first | exact absurd hlb q | exact absurd q hlb)
      refine z_iinc (v := nI (i + 1)) dX0_fewestBut_110 rfl (nI_succ _).symm (by decide) rfl ?_
      refine z_goto 17 dX0_fewestBut_113 (by decide) ?_
      have fin := ih (i + 1) f' (some (.int 1)) o5 (by omega) hff (by rw [e3]; exact g1) (by rw [e3]; exact g2)
      rw [e3] at fin
      exact fin
    · rw [if_neg hlb] at e3
      refine z_iload_n dX0_fewestBut_17 rfl rfl ?_
      refine z_aload_n dX0_fewestBut_18 rfl rfl ?_
      refine z_getI dX0_fewestBut_19 fl_X0_116_0 (hF.1 16 _ rfl) rfl ?_
      refine z_eqi (z_I h 49 0) hS3' ?_
      refine z_icmp_ge 116 dX0_fewestBut_22 (by decide) (fun q => by first | exact absurd q (z_lin hm (by omega)) | exact absurd (z_lin hm (by omega)) q) (fun _ => ?_)
      refine z_iconst (v := 1) dX0_fewestBut_25 rfl ?_
      refine z_istore dX0_fewestBut_26 (by decide) rfl ?_
      refine lp2_X0_fewestBut hS hl hlb (t := a_l3 h b (f 20 0) (f 20 1) (f 20 2) i) (a_l3_5 hk hm99 i (by omega)) (fun f'' pp o5 hff g1 g2 => ?_) 9 0 f' o5 rfl hff g1 g2
      refine z_iinc (v := nI (i + 1)) dX0_fewestBut_110 rfl (nI_succ _).symm (by decide) rfl ?_
      refine z_goto 17 dX0_fewestBut_113 (by decide) ?_
      have fin := ih (i + 1) f'' pp o5 (by omega) hff (by rw [e3]; exact g1) (by rw [e3]; exact g2)
      rw [e3] at fin
      exact fin
theorem c_X0_fewestBut {Γ : z_W} {h : z_H} {f : Nat → Nat → Int32} {b : Int32} (hS : z_S h f) : z_C Γ M_X0_fewestBut (z_rm 37 0 0) [.ref 16, .int b] (z_cy h f) (z_fb h f (a_lb h b (f 20 0) (f 20 1) (f 20 2))) := by
  obtain ⟨hS3, hS6, hm99, hh4, hmi, hk, hb, hc⟩ := id hS
  obtain ⟨hF, ha, hm, hvs, hws, hho⟩ := id hk
  refine z_C.of (by decide +kernel) rfl [some (.ref 16), some (.int b), none, none, none, none] (Nat.le_of_ble_eq_true rfl) rfl ?_
  refine z_aload_n dX0_fewestBut_0 rfl rfl ?_
  refine z_bipush (v := (-5)) dX0_fewestBut_1 rfl ?_
  refine z_putI dX0_fewestBut_3 (pl_X0_272_0 rfl) (hF.1 16 _ rfl) (by decide) rfl ?_
  refine z_meq (z_cy h (z_u f 16 23 (-5))) (z_cy_s (by decide)) ?_
  refine z_aload_n dX0_fewestBut_6 rfl rfl ?_
  refine z_bipush (v := (-5)) dX0_fewestBut_7 rfl ?_
  refine z_putI dX0_fewestBut_9 (pl_X0_275_0 rfl) (hF.1 16 _ rfl) (by decide) rfl ?_
  refine z_meq (z_cy h (z_u (z_u f 16 23 (-5)) 16 24 (-5))) (z_cy_s (by decide)) ?_
  refine z_bipush (v := (-5)) dX0_fewestBut_12 rfl ?_
  refine z_istore_n dX0_fewestBut_14 rfl (by decide) rfl ?_
  refine z_iconst (v := (-1)) dX0_fewestBut_15 rfl ?_
  refine z_istore_n dX0_fewestBut_16 rfl (by decide) rfl ?_
  refine z_iload_n dX0_fewestBut_17 rfl rfl ?_
  refine z_aload_n dX0_fewestBut_18 rfl rfl ?_
  refine z_getI dX0_fewestBut_19 fl_X0_116_0 (hF.1 16 _ rfl) rfl ?_
  refine z_eqi (z_I h 49 0) hS3 ?_
  refine z_icmp_ge 116 dX0_fewestBut_22 (by decide) (fun q => by first | exact absurd q (show ¬ z_I h 49 0 ≤ -1 from fun q => absurd (Int32.le_trans (nI_pos' (n := z_c (z_I h 49 0)) (by have := hm.2; omega)) (by rw [← hm.1]; exact q)) (by decide)) | exact absurd (show ¬ z_I h 49 0 ≤ -1 from fun q => absurd (Int32.le_trans (nI_pos' (n := z_c (z_I h 49 0)) (by have := hm.2; omega)) (by rw [← hm.1]; exact q)) (by decide)) q) (fun _ => ?_)
  refine z_iconst (v := 1) dX0_fewestBut_25 rfl ?_
  refine z_istore dX0_fewestBut_26 (by decide) rfl ?_
  refine lp1_X0_fewestBut hS (fun f'' pp o5 hff g1 g2 => ?_) 9 0 _ none rfl (((z_fm.refl _ _).u (Or.inr (Or.inr ⟨rfl, by decide⟩))).u (Or.inr (Or.inr ⟨rfl, by decide⟩))) rfl rfl
  refine z_iinc (v := 0) dX0_fewestBut_110 rfl (by decide) (by decide) rfl ?_
  refine z_goto 17 dX0_fewestBut_113 (by decide) ?_
  exact lp3_X0_fewestBut hS _ 0 f'' pp o5 (Nat.zero_add _) hff g1 g2
theorem c_X0_best {Γ : z_W} {h : z_H} {f : Nat → Nat → Int32} {w : Int32} (hS : z_S h f)  : z_C Γ M_X0_best (z_rm 38 0 0) [.ref 16, .int w] (z_cy h f) (z_ask h f (m_X6_best h w (f 20 0) (f 20 1) (f 20 2))) := by
  obtain ⟨hS3, hS6, hm99, hh4, hmi, hk, hb, hc⟩ := id hS
  obtain ⟨hF, ha, hm, hvs, hws, hho⟩ := id hk
  refine z_C.of (by decide +kernel) rfl [some (.ref 16), some (.int w), none] (Nat.le_of_ble_eq_true rfl) rfl ?_
  refine z_iload_n dX0_best_0 rfl rfl ?_
  refine z_iconst (v := 0) dX0_best_1 rfl ?_
  refine z_iconst (v := 2) dX0_best_2 rfl ?_
  refine z_scall sl_X0_5 (c_X0_in) dX0_best_3 rfl rfl ⟨by decide, by decide⟩ (Nat.le_of_ble_eq_true rfl) (Nat.le_refl _) (Nat.le_refl _) (z_cI ?_) z_tI
  refine z_bif_ne 13 dX0_best_6 (by decide) (fun c6 => ?_) (fun c6 => ?_)
  · refine z_aload_n dX0_best_13 rfl rfl ?_
    refine z_iconst (v := (-1)) dX0_best_14 rfl ?_
    refine z_vcall vl_X0_278_0 (c_X0_fewestBut hS) dX0_best_15 rfl rfl (hF.1 16 _ rfl) ⟨by decide, by decide⟩ (Nat.le_of_ble_eq_true rfl) (Nat.le_refl _) (Nat.le_refl _) (z_cFB (fun f1 hf1 hf1_1 hf1_2 => ?_)) z_tFB
    refine z_istore_n dX0_best_18 rfl (by decide) rfl ?_
    refine z_iload_n dX0_best_19 rfl rfl ?_
    refine z_if_ne 30 dX0_best_20 (by decide) (fun c20 => ?_) (fun c20 => ?_)
    · refine z_iload_n dX0_best_30 rfl rfl ?_
      refine z_iconst (v := 1) dX0_best_31 rfl ?_
      refine z_icmp_ne 42 dX0_best_32 (by decide) (fun c32 => ?_) (fun c32 => ?_)
      · refine z_iload_n dX0_best_42 rfl rfl ?_
        refine z_iret dX0_best_43 rfl rfl (Nat.le_refl _) (Nat.le_refl _) (z_ask_i ?_ ?_)
        · unfold m_X6_best; rw [if_pos (show z_in w 0 2 from c6), if_neg (show ¬ (w = 0) from c20), if_neg (show ¬ (w = 1) from c32)]
        · exact hf1
      · refine z_aload_n dX0_best_35 rfl rfl ?_
        refine z_getI dX0_best_36 fl_X0_275_0 (hF.1 16 _ rfl) rfl ?_
        refine z_eqi ((a_lb h (-1) (f 20 0) (f 20 1) (f 20 2)).2.1) hf1_2 ?_
        refine z_goto 43 dX0_best_39 (by decide) ?_
        refine z_iret dX0_best_43 rfl rfl (Nat.le_refl _) (Nat.le_refl _) (z_ask_i ?_ ?_)
        · unfold m_X6_best; rw [if_pos (show z_in w 0 2 from c6), if_neg (show ¬ (w = 0) from c20), if_pos (show w = 1 from c32)]
        · exact hf1
    · refine z_aload_n dX0_best_23 rfl rfl ?_
      refine z_getI dX0_best_24 fl_X0_272_0 (hF.1 16 _ rfl) rfl ?_
      refine z_eqi ((a_lb h (-1) (f 20 0) (f 20 1) (f 20 2)).1) hf1_1 ?_
      refine z_goto 43 dX0_best_27 (by decide) ?_
      refine z_iret dX0_best_43 rfl rfl (Nat.le_refl _) (Nat.le_refl _) (z_ask_i ?_ ?_)
      · unfold m_X6_best; rw [if_pos (show z_in w 0 2 from c6), if_pos (show w = 0 from c20)]
      · exact hf1
  · refine z_sipush (v := (-1001)) dX0_best_9 rfl ?_
    refine z_iret dX0_best_12 rfl rfl (Nat.le_refl _) (Nat.le_refl _) (z_ask_i ?_ ?_)
    · unfold m_X6_best; rw [if_neg (show ¬ (z_in w 0 2) from c6)]
    · exact z_fm.refl _ _
theorem z_nv5 {h : z_H} {n : Int32} (h5 : n < 0 ↔ n = -5) : m_X0_orNever h n = a_nv n := by
  unfold m_X0_orNever a_nv
  by_cases e : n = -5
  · rw [if_pos e, if_neg (Int32.not_le.mpr (h5.mpr e))]
  · rw [if_neg e, if_pos (Int32.not_lt.mp (fun q => e (h5.mp q)))]
theorem c_X0_worth {Γ : z_W} {h : z_H} {f : Nat → Nat → Int32} {l : Int32} (hS : z_S h f)  : z_C Γ M_X0_worth (z_rm 38 0 0) [.ref 16, .int l] (z_cy h f) (z_ask h f (m_X6_worth h l (f 20 0) (f 20 1) (f 20 2))) := by
  obtain ⟨hS3, hS6, hm99, hh4, hmi, hk, hb, hc⟩ := id hS
  obtain ⟨hF, ha, hm, hvs, hws, hho⟩ := id hk
  refine z_C.of (by decide +kernel) rfl [some (.ref 16), some (.int l), none] (Nat.le_of_ble_eq_true rfl) rfl ?_
  refine z_aload_n dX0_worth_0 rfl rfl ?_
  refine z_iload_n dX0_worth_1 rfl rfl ?_
  refine z_vcall vl_X0_193_0 (c_X0_isLift hF hS3) dX0_worth_2 rfl rfl (hF.1 16 _ rfl) ⟨by decide, by decide⟩ (Nat.le_of_ble_eq_true rfl) (Nat.le_refl _) (Nat.le_refl _) (z_cI ?_) z_tI
  refine z_bif_ne 10 dX0_worth_5 (by decide) (fun c5 => ?_) (fun c5 => ?_)
  · refine z_aload_n dX0_worth_10 rfl rfl ?_
    refine z_iload_n dX0_worth_11 rfl rfl ?_
    refine z_vcall vl_X0_278_0 (c_X0_fewestBut hS) dX0_worth_12 rfl rfl (hF.1 16 _ rfl) ⟨by decide, by decide⟩ (Nat.le_of_ble_eq_true rfl) (Nat.le_refl _) (Nat.le_refl _) (z_cFB (fun f1 hf1 hf1_1 hf1_2 => ?_)) z_tFB
    have hS1 := hS.fm hf1
    have e20 := z_e20 hf1
    refine z_scall sl_X0_284 (c_X0_orNever) dX0_worth_15 rfl rfl ⟨by decide, by decide⟩ (Nat.le_of_ble_eq_true rfl) (Nat.le_refl _) (Nat.le_refl _) (z_cI ?_) z_tI
    refine z_eqi (a_nv (a_lb h l (f 20 0) (f 20 1) (f 20 2)).2.2) (z_nv5 (a_l3_5 hk hm99 _ (Nat.le_refl _))) ?_
    refine z_istore_n dX0_worth_18 rfl (by decide) rfl ?_
    refine z_iload_n dX0_worth_19 rfl rfl ?_
    refine z_aload_n dX0_worth_20 rfl rfl ?_
    refine z_iconst (v := (-1)) dX0_worth_21 rfl ?_
    refine z_vcall vl_X0_278_0 (c_X0_fewestBut hS1) dX0_worth_22 rfl rfl (hF.1 16 _ rfl) ⟨by decide, by decide⟩ (Nat.le_of_ble_eq_true rfl) (Nat.le_refl _) (Nat.le_refl _) (z_cFB (fun f2 hf2 hf2_1 hf2_2 => ?_)) z_tFB
    rw [e20]
    refine z_scall sl_X0_284 (c_X0_orNever) dX0_worth_25 rfl rfl ⟨by decide, by decide⟩ (Nat.le_of_ble_eq_true rfl) (Nat.le_refl _) (Nat.le_refl _) (z_cI ?_) z_tI
    refine z_eqi (a_nv (a_lb h (-1) (f 20 0) (f 20 1) (f 20 2)).2.2) (z_nv5 (a_l3_5 hk hm99 _ (Nat.le_refl _))) ?_
    refine z_isub dX0_worth_28 ?_
    refine z_iret dX0_worth_29 rfl rfl (Nat.le_refl _) (Nat.le_refl _) (z_ask_i ?_ ?_)
    · unfold m_X6_worth; rw [if_pos (show m_X6_isLift h l from c5)]
    · exact hf1.tr hf2 (fun _ _ q => q)
  · refine z_iconst (v := (-1)) dX0_worth_8 rfl ?_
    refine z_iret dX0_worth_9 rfl rfl (Nat.le_refl _) (Nat.le_refl _) (z_ask_i ?_ ?_)
    · unfold m_X6_worth; rw [if_neg (show ¬ (m_X6_isLift h l) from c5)]
    · exact z_fm.refl _ _
