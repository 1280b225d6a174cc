/-! THE CLASS: flights, top, who (printed by class15.py) -/
set_option maxRecDepth 20000
theorem z_lif4 {x : Int32} {i : Nat} (hm : z_cn x 4) (h : i = z_c x) : x ≤ nI i := by
  subst h
  rw [← hm.1]
  exact Int32.le_refl _
theorem z_lin4 {x : Int32} {i : Nat} (hm : z_cn x 4) (h : i < z_c x) : ¬ x ≤ nI i := by
  rw [hm.1]
  have := hm.2
  exact nI_ge h (by omega)
theorem z_lif5 {x : Int32} {i : Nat} (hm : z_cn x 5) (h : i = z_c x) : x ≤ nI i := by
  subst h
  rw [← hm.1]
  exact Int32.le_refl _
theorem z_lin5 {x : Int32} {i : Nat} (hm : z_cn x 5) (h : i < z_c x) : ¬ x ≤ nI i := by
  rw [hm.1]
  have := hm.2
  exact nI_ge h (by omega)
/-- a flight's end: height, minutes -/
def a_fx (h : z_H) (p : Int32) : Option (Int32 × Int32 × Int32) → Option (Int32 × Int32)
  | none => none
  | some (m, hi, mi) => if m_X6_falls h m (z_I h 49 5) p ≤ hi then some (hi - m_X6_falls h m (z_I h 49 5) p, mi + m_X6_apart h m (z_I h 49 5) * (10 - p)) else none
theorem a_fx_n {h : z_H} {p w mi0 : Int32} : ∀ {R : Option (Int32 × Int32 × Int32)}, a_fx h p R = none → a_fr h p w mi0 R = -5
  | none, _ => rfl
  | some (m, hi, mi), e => by
    by_cases c : m_X6_falls h m (z_I h 49 5) p ≤ hi
    · exact absurd ((show a_fx h p (some (m, hi, mi)) = some _ from if_pos c).symm.trans e) (fun q => by cases q)
    · exact if_neg c
theorem a_fx_s {h : z_H} {p w mi0 hi' mi' : Int32} : ∀ {R : Option (Int32 × Int32 × Int32)}, a_fx h p R = some (hi', mi') → a_fr h p w mi0 R = if w = 0 then hi' else mi' - mi0
  | none, e => by cases e
  | some (m, hi, mi), e => by
    by_cases c : m_X6_falls h m (z_I h 49 5) p ≤ hi
    · have q := (show a_fx h p (some (m, hi, mi)) = some _ from if_pos c).symm.trans e
      cases q
      exact if_pos c
    · exact absurd ((show a_fx h p (some (m, hi, mi)) = none from if_neg c).symm.trans e) (fun q => by cases q)
theorem lp_X0_flies {Γ : z_W} {h : z_H} {f : Nat → Nat → Int32} {p : Int32} (hS : z_S h f) (hg : z_lg h) (hfm : f 16 18 = z_I h 49 36) (hfl : ∀ k, k < 4 → f 28 k = z_I h 65 k) (hfn : ∀ k, k < 4 → f 29 k = z_I h 66 k) (hp : z_in p 1 9) : ∀ (r k : Nat) (m hi mi x : Int32) (L : Nat → Int32) (B : Nat), k + r = z_c (z_I h 49 36) → z_in m 0 99 → z_r hi 0 400 → z_cn mi B → B + 951 * r < 2 ^ 30 → z_G Γ M_X0_flies (z_rm 35 0 0) (z_rI (fun q h' => ∃ m' hi' mi' x' L', h' = z_cy h (z_t1 f m' hi' mi' x' L') ∧ ((a_fx h p (a_fw h p r k m hi mi) = none ∧ q = 0) ∨ (a_fx h p (a_fw h p r k m hi mi) = some (hi', mi') ∧ q = 1)))) 0 0 13 [some (.ref 16), some (.int p), some (.int (nI k))] [] (z_cy h (z_t1 f m hi mi x L)) := by
  obtain ⟨hS3, hS6, hm99, hh4, hmi, hk, hb, hc⟩ := id hS
  obtain ⟨hF, ha, hm, hvs, hws, hho⟩ := id hk
  obtain ⟨c1, -, -, a, Cs, c4, c5x, -⟩ := id hc
  obtain ⟨hg4, hgl, -⟩ := id hg
  intro r
  induction r with
  | zero =>
    intro k m hi mi x L B hk0 hmm hh hmi2 hB
    have hi1 : k = z_c (z_I h 49 36) := by omega
    have hf1 := z_falls_r (h := h) hmm hho hp
    subst hi1
    refine z_iload_n dX0_flies_13 rfl rfl ?_
    refine z_aload_n dX0_flies_14 rfl rfl ?_
    refine z_getI dX0_flies_15 fl_X0_287_0 (hF.1 16 _ rfl) rfl ?_
    refine z_eqi (z_I h 49 36) hfm ?_
    refine z_icmp_ge 74 dX0_flies_18 (by decide) (fun _ => ?_) (fun q => by first | exact absurd (z_lif4 hg4 rfl) q | exact absurd q (z_lif4 hg4 rfl))
    refine z_aload_n dX0_flies_74 rfl rfl ?_
    refine z_getR 21 dX0_flies_75 fl_X0_35_0 (hF.1 16 _ rfl) rfl (hF.2.1 16 5 21 rfl) ?_
    refine z_aload_n dX0_flies_78 rfl rfl ?_
    refine z_getI dX0_flies_79 fl_X0_38_0 (hF.1 16 _ rfl) rfl ?_
    refine z_eqi (z_I h 49 5) hS6 ?_
    refine z_iload_n dX0_flies_82 rfl rfl ?_
    by_cases g83 : ¬ (hi - m_X6_falls h m (z_I h 49 5) p < 0)
    · refine z_vcall vl_X0_246_1 (t_gl_y hF hmm hho g83) dX0_flies_83 rfl rfl (hF.1 21 _ rfl) ⟨by decide, by decide⟩ (Nat.le_of_ble_eq_true rfl) (Nat.le_refl _) (Nat.le_refl _) (z_cI ?_) z_tI
      refine z_iret dX0_flies_86 rfl rfl (Nat.le_refl _) (Nat.le_refl _) (z_rI_i ⟨_, _, _, _, _, rfl, ?_⟩)
      exact Or.inr ⟨if_pos ((z_reach0 hh hf1).mp g83), rfl⟩
    · refine z_vcall vl_X0_246_1 (c_X1_glides_21_n hF hmm hho g83) dX0_flies_83 rfl rfl (hF.1 21 _ rfl) ⟨by decide, by decide⟩ (Nat.le_of_ble_eq_true rfl) (Nat.le_refl _) (Nat.le_refl _) (z_cI ?_) z_tI
      refine z_iret dX0_flies_86 rfl rfl (Nat.le_refl _) (Nat.le_refl _) (z_rI_i ⟨_, _, _, _, _, rfl, ?_⟩)
      exact Or.inl ⟨if_neg (fun q => g83 ((z_reach0 hh hf1).mpr q)), rfl⟩
  | succ r ih =>
    intro k m hi mi x L B hk0 hmm hh hmi2 hB
    obtain ⟨hl, hN⟩ := hgl k (by omega)
    have hk4 : k < 4 := by have := hg4.2; omega
    have hNN := z_pl2 (n := 60) rfl (by decide) hN
    have hw := hws _ hl.2
    have hf1 := z_falls_r (h := h) hmm hw hp
    have hmi3 := z_cn_gl (h := h) hmi2 hmm hw hp (by omega)
    have hl6x : (z_I h 65 k) = nI (z_c (z_I h 65 k)) ∧ z_c (z_I h 65 k) < 6 := ⟨hl.1, by have := hl.2; have := hm.2; omega⟩
    obtain ⟨idx, kx, hidx, hlfx⟩ := c1 _ hl.2
    obtain ⟨h85x, hk6x, hkdx, hTLx, -, hn1x, hvLx, hmLx, h46x⟩ := hlfx
    refine z_iload_n dX0_flies_13 rfl rfl ?_
    refine z_aload_n dX0_flies_14 rfl rfl ?_
    refine z_getI dX0_flies_15 fl_X0_287_0 (hF.1 16 _ rfl) rfl ?_
    refine z_eqi (z_I h 49 36) hfm ?_
    refine z_icmp_ge 74 dX0_flies_18 (by decide) (fun q => by first | exact absurd q (z_lin4 hg4 (by omega)) | exact absurd (z_lin4 hg4 (by omega)) q) (fun _ => ?_)
    refine z_aload_n dX0_flies_21 rfl rfl ?_
    refine z_getR 21 dX0_flies_22 fl_X0_35_0 (hF.1 16 _ rfl) rfl (hF.2.1 16 5 21 rfl) ?_
    refine z_aload_n dX0_flies_25 rfl rfl ?_
    refine z_getR 17 dX0_flies_26 fl_X0_17_0 (hF.1 16 _ rfl) rfl (hF.2.1 16 0 17 rfl) ?_
    refine z_aload_n dX0_flies_29 rfl rfl ?_
    refine z_getR 28 dX0_flies_30 fl_X0_67_0 (hF.1 16 _ rfl) rfl (hF.2.1 16 13 28 rfl) ?_
    refine z_iload_n dX0_flies_33 rfl rfl ?_
    refine z_iald k dX0_flies_34 (hF.1 28 _ rfl) rfl (by omega) (by decide) ?_
    refine z_eqi (z_I h 65 k) (hfl k hk4) ?_
    refine z_aald (z_c (z_I h 65 k)) idx dX0_flies_35 (hF.1 17 _ rfl) (by simp [z_at]) hl6x.1 hl6x.2 (by decide) hidx ?_
    refine z_getm rfl hk6x hTLx dX0_flies_36 <| z_eqi (z_I h 52 (z_c (z_I h 65 k))) (by rw [z_cy_hi h85x, hmLx]) ?_
    refine z_iload_n dX0_flies_39 rfl rfl ?_
    by_cases g40 : ¬ (hi - m_X6_falls h m (z_I h 52 (z_c (z_I h 65 k))) p < 0)
    · refine z_vcall vl_X0_246_1 (t_gl_y hF hmm hw g40) dX0_flies_40 rfl rfl (hF.1 21 _ rfl) ⟨by decide, by decide⟩ (Nat.le_of_ble_eq_true rfl) (Nat.le_refl _) (Nat.le_refl _) (z_cI ?_) z_tI
      refine z_if_ne 48 dX0_flies_43 (by decide) (fun _ => ?_) (fun q => absurd q (by decide))
      refine z_aload_n dX0_flies_48 rfl rfl ?_
      refine z_aload_n dX0_flies_49 rfl rfl ?_
      refine z_getR 21 dX0_flies_50 fl_X0_35_0 (hF.1 16 _ rfl) rfl (hF.2.1 16 5 21 rfl) ?_
      refine z_aload_n dX0_flies_53 rfl rfl ?_
      refine z_getR 28 dX0_flies_54 fl_X0_67_0 (hF.1 16 _ rfl) rfl (hF.2.1 16 13 28 rfl) ?_
      refine z_iload_n dX0_flies_57 rfl rfl ?_
      refine z_iald k dX0_flies_58 (hF.1 28 _ rfl) rfl (by omega) (by decide) ?_
      refine z_eqi (z_I h 65 k) (hfl k hk4) ?_
      refine z_aload_n dX0_flies_59 rfl rfl ?_
      refine z_getR 29 dX0_flies_60 fl_X0_70_0 (hF.1 16 _ rfl) rfl (hF.2.1 16 14 29 rfl) ?_
      refine z_iload_n dX0_flies_63 rfl rfl ?_
      refine z_iald k dX0_flies_64 (hF.1 29 _ rfl) rfl (by omega) (by decide) ?_
      refine z_eqi (nI (z_c (z_I h 66 k))) ((hfn k hk4).trans hNN.1) ?_
      refine z_vcall vl_X0_231_0 (t_turns hk hb hc hl (z_gl_r hh hf1 g40) hmi3 hNN.2 (by omega)) dX0_flies_65 rfl rfl (hF.1 16 _ rfl) ⟨by decide, by decide⟩ (Nat.le_of_ble_eq_true rfl) (Nat.le_refl _) (Nat.le_refl _) (z_cPV (fun h' hq => ?_)) z_tPV
      obtain ⟨L1, rfl⟩ := hq
      refine z_iinc (v := nI (k + 1)) dX0_flies_68 rfl (nI_succ _).symm (by decide) rfl ?_
      refine z_goto 13 dX0_flies_71 (by decide) ?_
      have e1 : a_fw h p (r + 1) k m hi mi = a_fw h p r (k + 1) (z_I h 52 (z_c (z_I h 65 k))) (a_it h (z_I h 65 k) (z_I h 52 (z_c (z_I h 65 k))) (hi - m_X6_falls h m (z_I h 52 (z_c (z_I h 65 k))) p) (mi + m_X6_apart h m (z_I h 52 (z_c (z_I h 65 k))) * (10 - p)) (z_c (z_I h 66 k))).1 (a_it h (z_I h 65 k) (z_I h 52 (z_c (z_I h 65 k))) (hi - m_X6_falls h m (z_I h 52 (z_c (z_I h 65 k))) p) (mi + m_X6_apart h m (z_I h 52 (z_c (z_I h 65 k))) * (10 - p)) (z_c (z_I h 66 k))).2 := if_pos ((z_reach0 hh hf1).mp g40)
      rw [e1]
      exact ih (k + 1) _ _ _ _ L1 (B + 891 + 60) (by omega) hw (z_it_r (m := z_I h 52 (z_c (z_I h 65 k))) hmi3 hk hb hl (z_gl_r hh hf1 g40) _ (by have := hNN.2; omega)) (z_cn_le (z_cn_it (h := h) (l := z_I h 65 k) (m := z_I h 52 (z_c (z_I h 65 k))) (hi := hi - m_X6_falls h m (z_I h 52 (z_c (z_I h 65 k))) p) (n := z_c (z_I h 66 k)) hmi3 (by have := hNN.2; omega)) (by have := hNN.2; omega)) (by omega)
    · refine z_vcall vl_X0_246_1 (c_X1_glides_21_n hF hmm hw g40) dX0_flies_40 rfl rfl (hF.1 21 _ rfl) ⟨by decide, by decide⟩ (Nat.le_of_ble_eq_true rfl) (Nat.le_refl _) (Nat.le_refl _) (z_cI ?_) z_tI
      refine z_if_ne 48 dX0_flies_43 (by decide) (fun q => absurd q (by decide)) (fun _ => ?_)
      refine z_iconst (v := 0) dX0_flies_46 rfl ?_
      refine z_iret dX0_flies_47 rfl rfl (Nat.le_refl _) (Nat.le_refl _) (z_rI_i ⟨_, _, _, _, _, rfl, ?_⟩)
      exact Or.inl ⟨by rw [show a_fw h p (r + 1) k m hi mi = none from if_neg (fun q => g40 ((z_reach0 hh hf1).mpr q))]; rfl, rfl⟩
theorem c_X0_flies {Γ : z_W} {h : z_H} {f : Nat → Nat → Int32} {p : Int32} (hS : z_S h f) (hg : z_lg h) (hfm : f 16 18 = z_I h 49 36) (hfl : ∀ k, k < 4 → f 28 k = z_I h 65 k) (hfn : ∀ k, k < 4 → f 29 k = z_I h 66 k) (hp : z_in p 1 9) : z_C Γ M_X0_flies (z_rm 35 0 0) [.ref 16, .int p] (z_cy h f) (z_rI (fun q h' => ∃ m' hi' mi' x' L', h' = z_cy h (z_t1 f m' hi' mi' x' L') ∧ ((a_fx h p (a_fw h p (z_c (z_I h 49 36)) 0 (f 20 0) (f 20 1) (f 20 2)) = none ∧ q = 0) ∨ (a_fx h p (a_fw h p (z_c (z_I h 49 36)) 0 (f 20 0) (f 20 1) (f 20 2)) = some (hi', mi') ∧ q = 1)))) := by
  obtain ⟨hS3, hS6, hm99, hh4, hmi, hk, hb, hc⟩ := id hS
  obtain ⟨hF, ha, hm, hvs, hws, hho⟩ := id hk
  refine z_C.of (by decide +kernel) rfl [some (.ref 16), some (.int p), none] (Nat.le_of_ble_eq_true rfl) rfl ?_
  refine z_meq (z_cy h (z_t1 f (f 21 0) (f 21 1) (f 21 2) (f 21 3) (f 25))) (congrArg (z_cy h) (z_t1_0 f)) ?_
  refine z_aload_n dX0_flies_0 rfl rfl ?_
  refine z_getR 21 dX0_flies_1 fl_X0_35_0 (hF.1 16 _ rfl) rfl (hF.2.1 16 5 21 rfl) ?_
  refine z_aload_n dX0_flies_4 rfl rfl ?_
  refine z_getR 20 dX0_flies_5 fl_X0_31_0 (hF.1 16 _ rfl) rfl (hF.2.1 16 4 20 rfl) ?_
  refine z_vcall vl_X0_242_1 (t_takes hF) dX0_flies_8 rfl rfl (hF.1 21 _ rfl) ⟨by decide, by decide⟩ (Nat.le_of_ble_eq_true rfl) (Nat.le_refl _) (Nat.le_refl _) (z_cV ?_) z_tV
  refine z_iconst (v := 0) dX0_flies_11 rfl ?_
  refine z_istore_n dX0_flies_12 rfl (by decide) rfl ?_
  exact lp_X0_flies hS hg hfm hfl hfn hp _ 0 _ _ _ _ _ 10000 (Nat.zero_add _) hm99 hh4 hmi (by have := hg.1.2; omega)
theorem c_X0_flown {Γ : z_W} {h : z_H} {f : Nat → Nat → Int32} {p w : Int32} (hS : z_S h f) (hg : z_lg h) (hfm : f 16 18 = z_I h 49 36) (hfl : ∀ k, k < 4 → f 28 k = z_I h 65 k) (hfn : ∀ k, k < 4 → f 29 k = z_I h 66 k) : z_C Γ M_X0_flown (z_rm 36 0 0) [.ref 16, .int p, .int w] (z_cy h f) (z_ask h f (m_X6_flown h p w (f 20 0) (f 20 1) (f 20 2))) := by
  obtain ⟨hS3, hS6, hm99, hh4, hmi, hk, hb, hc⟩ := id hS
  obtain ⟨hF, ha, hm, hvs, hws, hho⟩ := id hk
  refine z_C.of (by decide +kernel) rfl [some (.ref 16), some (.int p), some (.int w)] (Nat.le_of_ble_eq_true rfl) rfl ?_
  refine z_iload_n dX0_flown_0 rfl rfl ?_
  refine z_iconst (v := 0) dX0_flown_1 rfl ?_
  refine z_iconst (v := 1) dX0_flown_2 rfl ?_
  refine z_scall sl_X0_5 (c_X0_in) dX0_flown_3 rfl rfl ⟨by decide, by decide⟩ (Nat.le_of_ble_eq_true rfl) (Nat.le_refl _) (Nat.le_refl _) (z_cI ?_) z_tI
  refine z_bif_ne 11 dX0_flown_6 (by decide) (fun c6 => ?_) (fun c6 => ?_)
  · refine z_iload_n dX0_flown_11 rfl rfl ?_
    refine z_scall sl_X0_235 (c_X0_isPace) dX0_flown_12 rfl rfl ⟨by decide, by decide⟩ (Nat.le_of_ble_eq_true rfl) (Nat.le_refl _) (Nat.le_refl _) (z_cI ?_) z_tI
    refine z_bif_ne 21 dX0_flown_15 (by decide) (fun c15 => ?_) (fun c15 => ?_)
    · refine z_aload_n dX0_flown_21 rfl rfl ?_
      refine z_iload_n dX0_flown_22 rfl rfl ?_
      refine z_vcall vl_X0_290_0 (c_X0_flies hS hg hfm hfl hfn c15) dX0_flown_23 rfl rfl (hF.1 16 _ rfl) ⟨by decide, by decide⟩ (Nat.le_of_ble_eq_true rfl) (Nat.le_refl _) (Nat.le_refl _) (z_cPI (fun r h' hq => ?_)) z_tPI
      obtain ⟨m1, hi1, mi1, x1, L1, rfl, hq⟩ := hq
      refine z_if_ne 34 dX0_flown_26 (by decide) (fun c26 => ?_) (fun c26 => ?_)
      · refine z_iload_n dX0_flown_34 rfl rfl ?_
        refine z_if_ne 48 dX0_flown_35 (by decide) (fun c35 => ?_) (fun c35 => ?_)
        · refine z_aload_n dX0_flown_48 rfl rfl ?_
          refine z_getR 21 dX0_flown_49 fl_X0_35_0 (hF.1 16 _ rfl) rfl (hF.2.1 16 5 21 rfl) ?_
          refine z_getI dX0_flown_52 fl_X0_163_1 (hF.1 21 _ rfl) rfl ?_
          refine z_eqi (mi1) rfl ?_
          refine z_aload_n dX0_flown_55 rfl rfl ?_
          refine z_getR 20 dX0_flown_56 fl_X0_31_0 (hF.1 16 _ rfl) rfl (hF.2.1 16 4 20 rfl) ?_
          refine z_getI dX0_flown_59 fl_X0_163_1 (hF.1 20 _ rfl) rfl ?_
          refine z_eqi (f 20 2) rfl ?_
          refine z_isub dX0_flown_62 ?_
          refine z_iret dX0_flown_63 rfl rfl (Nat.le_refl _) (Nat.le_refl _) (z_ask_i ?_ ?_)
          · unfold m_X6_flown; rw [if_pos c6, if_pos c15]
            rcases hq with ⟨q1, q2⟩ | ⟨q1, q2⟩
            · exact absurd q2 c26
            · rw [a_fx_s q1, if_neg c35]
          · exact (z_fm.refl _ _).t
        · refine z_aload_n dX0_flown_38 rfl rfl ?_
          refine z_getR 21 dX0_flown_39 fl_X0_35_0 (hF.1 16 _ rfl) rfl (hF.2.1 16 5 21 rfl) ?_
          refine z_getI dX0_flown_42 fl_X0_159_1 (hF.1 21 _ rfl) rfl ?_
          refine z_eqi (hi1) rfl ?_
          refine z_goto 63 dX0_flown_45 (by decide) ?_
          refine z_iret dX0_flown_63 rfl rfl (Nat.le_refl _) (Nat.le_refl _) (z_ask_i ?_ ?_)
          · unfold m_X6_flown; rw [if_pos c6, if_pos c15]
            rcases hq with ⟨q1, q2⟩ | ⟨q1, q2⟩
            · exact absurd q2 c26
            · rw [a_fx_s q1, if_pos c35]
          · exact (z_fm.refl _ _).t
      · refine z_bipush (v := (-5)) dX0_flown_29 rfl ?_
        refine z_goto 63 dX0_flown_31 (by decide) ?_
        refine z_iret dX0_flown_63 rfl rfl (Nat.le_refl _) (Nat.le_refl _) (z_ask_i ?_ ?_)
        · unfold m_X6_flown; rw [if_pos c6, if_pos c15]
          rcases hq with ⟨q1, q2⟩ | ⟨q1, q2⟩
          · exact (a_fx_n q1).symm
          · exact absurd c26 (by rw [q2]; decide)
        · exact (z_fm.refl _ _).t
    · refine z_bipush (v := (-2)) dX0_flown_18 rfl ?_
      refine z_iret dX0_flown_20 rfl rfl (Nat.le_refl _) (Nat.le_refl _) (z_ask_i ?_ ?_)
      · unfold m_X6_flown; rw [if_pos (show z_in w 0 1 from c6), if_neg (show ¬ (m_X0_isPace h p) from c15)]
      · exact z_fm.refl _ _
  · refine z_iconst (v := (-1)) dX0_flown_9 rfl ?_
    refine z_iret dX0_flown_10 rfl rfl (Nat.le_refl _) (Nat.le_refl _) (z_ask_i ?_ ?_)
    · unfold m_X6_flown; rw [if_neg (show ¬ (z_in w 0 1) from c6)]
    · exact z_fm.refl _ _
def a_tq (h : z_H) (l m hi mi : Int32) : Nat → Int32 × Int32
  | 0 => (-1, 0)
  | n + 1 => a_tp h l m hi mi n
theorem a_tq_s {h : z_H} {l m hi mi : Int32} (hh : z_r hi 0 400) : ∀ i, a_tq h l m hi mi (i + 1) = if (a_tq h l m hi mi i).1 < (a_it h l m hi mi i).1 then ((a_it h l m hi mi i).1, nI i) else a_tq h l m hi mi i
  | 0 => by
    rw [if_pos]
    · rfl
    · show (-1 : Int32) < hi
      rw [Int32.lt_iff_toInt_lt]
      have := hh.1
      show (-1 : Int) < hi.toInt
      omega
  | n + 1 => rfl
theorem lp_X0_top {Γ : z_W} {h : z_H} {f : Nat → Nat → Int32} {l w : Int32} (hS : z_S h f) (hl : l = nI (z_c l) ∧ z_c l < z_c (z_I h 49 0)) : ∀ (r i : Nat) (x : Int32) (L : Nat → Int32), i + r = 61 → z_G Γ M_X0_top (z_rm 35 0 0) (z_ask h f (if w = 0 then (a_tq h l (f 20 0) (f 20 1) (f 20 2) 61).1 else (a_tq h l (f 20 0) (f 20 1) (f 20 2) 61).2)) 0 0 38 [some (.ref 16), some (.int l), some (.int w), some (.int (a_tq h l (f 20 0) (f 20 1) (f 20 2) i).2), some (.int (a_tq h l (f 20 0) (f 20 1) (f 20 2) i).1), some (.int (nI i))] [] (z_cy h (z_t1 f (f 20 0) ((a_it h l (f 20 0) (f 20 1) (f 20 2) i).1) ((a_it h l (f 20 0) (f 20 1) (f 20 2) i).2) x L)) := by
  obtain ⟨hS3, hS6, hm99, hh4, hmi, hk, hb, hc⟩ := id hS
  obtain ⟨hF, ha, hm, hvs, hws, hho⟩ := id hk
  intro r
  induction r with
  | zero =>
    intro i x L hi0
    have hi1 : i = 61 := by omega
    subst hi1
    refine z_iload dX0_top_38 rfl ?_
    refine z_bipush (v := 60) dX0_top_40 rfl ?_
    refine z_icmp_gt 85 dX0_top_42 (by decide) (fun _ => ?_) (fun q => by first | exact absurd (show (60 : Int32) < nI 61 by decide) q | exact absurd q (show (60 : Int32) < nI 61 by decide))
    refine z_iload_n dX0_top_85 rfl rfl ?_
    refine z_if_ne 94 dX0_top_86 (by decide) (fun c86 => ?_) (fun c86 => ?_)
    · refine z_iload_n dX0_top_94 rfl rfl ?_
      refine z_iret dX0_top_95 rfl rfl (Nat.le_refl _) (Nat.le_refl _) (z_ask_i ?_ ?_)
      · rw [if_neg (show ¬ (w = 0) from c86)]
      · exact (z_fm.refl _ _).t
    · refine z_iload dX0_top_89 rfl ?_
      refine z_goto 95 dX0_top_91 (by decide) ?_
      refine z_iret dX0_top_95 rfl rfl (Nat.le_refl _) (Nat.le_refl _) (z_ask_i ?_ ?_)
      · rw [if_pos (show w = 0 from c86)]
      · exact (z_fm.refl _ _).t
  | succ r ih =>
    intro i x L hi0
    have es := a_tq_s (l := l) (m := f 20 0) (mi := f 20 2) (h := h) hh4 i
    have hhi := z_it_r (m := f 20 0) hmi hk hb hl hh4 i (by omega)
    have hmi2 := z_cn_it (h := h) (l := l) (m := f 20 0) (hi := f 20 1) (n := i) hmi (by omega)
    refine z_iload dX0_top_38 rfl ?_
    refine z_bipush (v := 60) dX0_top_40 rfl ?_
    refine z_icmp_gt 85 dX0_top_42 (by decide) (fun q => by first | exact absurd q (nI_nlt (a := 60) (show i ≤ 60 by omega) (by decide)) | exact absurd (nI_nlt (a := 60) (show i ≤ 60 by omega) (by decide)) q) (fun _ => ?_)
    refine z_aload_n dX0_top_45 rfl rfl ?_
    refine z_getR 21 dX0_top_46 fl_X0_35_0 (hF.1 16 _ rfl) rfl (hF.2.1 16 5 21 rfl) ?_
    refine z_getI dX0_top_49 fl_X0_159_1 (hF.1 21 _ rfl) rfl ?_
    refine z_eqi ((a_it h l (f 20 0) (f 20 1) (f 20 2) i).1) rfl ?_
    refine z_iload dX0_top_52 rfl ?_
    refine z_icmp_le 69 dX0_top_54 (by decide) (fun c54 => ?_) (fun c54 => ?_)
    · refine z_aload_n dX0_top_69 rfl rfl ?_
      refine z_aload_n dX0_top_70 rfl rfl ?_
      refine z_getR 21 dX0_top_71 fl_X0_35_0 (hF.1 16 _ rfl) rfl (hF.2.1 16 5 21 rfl) ?_
      refine z_iload_n dX0_top_74 rfl rfl ?_
      refine z_iconst (v := 1) dX0_top_75 rfl ?_
      refine z_eqi (nI 1) rfl ?_
      refine z_vcall vl_X0_231_0 (t_turns (N := 1) hk hb hc hl hhi hmi2 (by decide) (by omega)) dX0_top_76 rfl rfl (hF.1 16 _ rfl) ⟨by decide, by decide⟩ (Nat.le_of_ble_eq_true rfl) (Nat.le_refl _) (Nat.le_refl _) (z_cPV (fun h' hq => ?_)) z_tPV
      obtain ⟨L1, rfl⟩ := hq
      refine z_iinc (v := nI (i + 1)) dX0_top_79 rfl (nI_succ _).symm (by decide) rfl ?_
      refine z_goto 38 dX0_top_82 (by decide) ?_
      rw [if_neg (Int32.not_lt.mpr c54)] at es
      have fin := ih (i + 1) x L1 (by omega)
      rw [es] at fin
      exact fin
    · refine z_aload_n dX0_top_57 rfl rfl ?_
      refine z_getR 21 dX0_top_58 fl_X0_35_0 (hF.1 16 _ rfl) rfl (hF.2.1 16 5 21 rfl) ?_
      refine z_getI dX0_top_61 fl_X0_159_1 (hF.1 21 _ rfl) rfl ?_
      refine z_eqi ((a_it h l (f 20 0) (f 20 1) (f 20 2) i).1) rfl ?_
      refine z_istore dX0_top_64 (by decide) rfl ?_
      refine z_iload dX0_top_66 rfl ?_
      refine z_istore_n dX0_top_68 rfl (by decide) rfl ?_
      refine z_aload_n dX0_top_69 rfl rfl ?_
      refine z_aload_n dX0_top_70 rfl rfl ?_
      refine z_getR 21 dX0_top_71 fl_X0_35_0 (hF.1 16 _ rfl) rfl (hF.2.1 16 5 21 rfl) ?_
      refine z_iload_n dX0_top_74 rfl rfl ?_
      refine z_iconst (v := 1) dX0_top_75 rfl ?_
      refine z_eqi (nI 1) rfl ?_
      refine z_vcall vl_X0_231_0 (t_turns (N := 1) hk hb hc hl hhi hmi2 (by decide) (by omega)) dX0_top_76 rfl rfl (hF.1 16 _ rfl) ⟨by decide, by decide⟩ (Nat.le_of_ble_eq_true rfl) (Nat.le_refl _) (Nat.le_refl _) (z_cPV (fun h' hq => ?_)) z_tPV
      obtain ⟨L1, rfl⟩ := hq
      refine z_iinc (v := nI (i + 1)) dX0_top_79 rfl (nI_succ _).symm (by decide) rfl ?_
      refine z_goto 38 dX0_top_82 (by decide) ?_
      rw [if_pos (Int32.not_le.mp c54)] at es
      have fin := ih (i + 1) x L1 (by omega)
      rw [es] at fin
      exact fin
theorem c_X0_top {Γ : z_W} {h : z_H} {f : Nat → Nat → Int32} {l w : Int32} (hS : z_S h f) : z_C Γ M_X0_top (z_rm 35 0 0) [.ref 16, .int l, .int w] (z_cy h f) (z_ask h f (m_X6_top h l w (f 20 0) (f 20 1) (f 20 2))) := by
  obtain ⟨hS3, hS6, hm99, hh4, hmi, hk, hb, hc⟩ := id hS
  obtain ⟨hF, ha, hm, hvs, hws, hho⟩ := id hk
  refine z_C.of (by decide +kernel) rfl [some (.ref 16), some (.int l), some (.int w), none, none, none] (Nat.le_of_ble_eq_true rfl) rfl ?_
  refine z_meq (z_cy h (z_t1 f (f 21 0) (f 21 1) (f 21 2) (f 21 3) (f 25))) (congrArg (z_cy h) (z_t1_0 f)) ?_
  refine z_aload_n dX0_top_0 rfl rfl ?_
  refine z_iload_n dX0_top_1 rfl rfl ?_
  refine z_vcall vl_X0_193_0 (c_X0_isLift hF hS3) dX0_top_2 rfl rfl (hF.1 16 _ rfl) ⟨by decide, by decide⟩ (Nat.le_of_ble_eq_true rfl) (Nat.le_refl _) (Nat.le_refl _) (z_cI ?_) z_tI
  refine z_bif_eq 17 dX0_top_5 (by decide) (fun c5 => ?_) (fun c5 => ?_)
  · refine z_iconst (v := (-1)) dX0_top_17 rfl ?_
    refine z_iret dX0_top_18 rfl rfl (Nat.le_refl _) (Nat.le_refl _) (z_ask_i ?_ ?_)
    · unfold m_X6_top; rw [if_neg (show ¬ (m_X6_isLift h l) from c5)]
    · exact (z_fm.refl _ _).t
  · have hl := z_ix hm (by decide) c5
    refine z_iload_n dX0_top_8 rfl rfl ?_
    refine z_iconst (v := 0) dX0_top_9 rfl ?_
    refine z_iconst (v := 1) dX0_top_10 rfl ?_
    refine z_scall sl_X0_5 (c_X0_in) dX0_top_11 rfl rfl ⟨by decide, by decide⟩ (Nat.le_of_ble_eq_true rfl) (Nat.le_refl _) (Nat.le_refl _) (z_cI ?_) z_tI
    refine z_bif_ne 19 dX0_top_14 (by decide) (fun c14 => ?_) (fun c14 => ?_)
    · refine z_aload_n dX0_top_19 rfl rfl ?_
      refine z_getR 21 dX0_top_20 fl_X0_35_0 (hF.1 16 _ rfl) rfl (hF.2.1 16 5 21 rfl) ?_
      refine z_aload_n dX0_top_23 rfl rfl ?_
      refine z_getR 20 dX0_top_24 fl_X0_31_0 (hF.1 16 _ rfl) rfl (hF.2.1 16 4 20 rfl) ?_
      refine z_vcall vl_X0_242_1 (t_takes hF) dX0_top_27 rfl rfl (hF.1 21 _ rfl) ⟨by decide, by decide⟩ (Nat.le_of_ble_eq_true rfl) (Nat.le_refl _) (Nat.le_refl _) (z_cV ?_) z_tV
      refine z_iconst (v := 0) dX0_top_30 rfl ?_
      refine z_istore_n dX0_top_31 rfl (by decide) rfl ?_
      refine z_iconst (v := (-1)) dX0_top_32 rfl ?_
      refine z_istore dX0_top_33 (by decide) rfl ?_
      refine z_iconst (v := 0) dX0_top_35 rfl ?_
      refine z_istore dX0_top_36 (by decide) rfl ?_
      unfold m_X6_top
      rw [if_pos c5, if_pos c14]
      exact lp_X0_top hS hl 61 0 (f 20 3) (f 25) rfl
    · refine z_iconst (v := (-1)) dX0_top_17 rfl ?_
      refine z_iret dX0_top_18 rfl rfl (Nat.le_refl _) (Nat.le_refl _) (z_ask_i ?_ ?_)
      · unfold m_X6_top; rw [if_pos (show m_X6_isLift h l from c5), if_neg (show ¬ (z_in w 0 1) from c14)]
      · exact (z_fm.refl _ _).t
theorem lp_X0_isAsSeen {Γ : z_W} {h : z_H} {f : Nat → Nat → Int32} {l m : Int32} (hS : z_S h f) (hl : l = nI (z_c l) ∧ z_c l < z_c (z_I h 49 0)) (hs5 : z_cn (z_I h 49 39) 5) (hsm : f 16 19 = z_I h 49 39) (hsn : ∀ k, k < 5 → f 30 k = z_I h 67 k) : ∀ (r k : Nat) (hi mi x : Int32) (L : Nat → Int32) (B : Nat) (o : Option Value), k + r = z_c (z_I h 49 39) → z_r hi 0 400 → z_cn mi B → B + r < 2 ^ 30 → z_G Γ M_X0_isAsSeen (z_rm 35 0 0) (z_ask h f (z_b (a_se h l m r k hi mi = true))) 0 0 13 [some (.ref 16), some (.int l), some (.int (nI k)), o] [] (z_cy h (z_t1 f m hi mi x L)) := by
  obtain ⟨hS3, hS6, hm99, hh4, hmi, hk, hb, hc⟩ := id hS
  obtain ⟨hF, ha, hm, hvs, hws, hho⟩ := id hk
  intro r
  induction r with
  | zero =>
    intro k hi mi x L B o hk0 hh hmi2 hB
    have hi1 : k = z_c (z_I h 49 39) := by omega
    subst hi1
    refine z_iload_n dX0_isAsSeen_13 rfl rfl ?_
    refine z_aload_n dX0_isAsSeen_14 rfl rfl ?_
    refine z_getI dX0_isAsSeen_15 fl_X0_293_0 (hF.1 16 _ rfl) rfl ?_
    refine z_eqi (z_I h 49 39) hsm ?_
    refine z_icmp_ge 65 dX0_isAsSeen_18 (by decide) (fun _ => ?_) (fun q => by first | exact absurd (z_lif5 hs5 rfl) q | exact absurd q (z_lif5 hs5 rfl))
    refine z_iconst (v := 1) dX0_isAsSeen_65 rfl ?_
    refine z_iret dX0_isAsSeen_66 rfl rfl (Nat.le_refl _) (Nat.le_refl _) (z_ask_i ?_ ?_)
    · exact (z_b1 rfl).symm
    · exact (z_fm.refl _ _).t
  | succ r ih =>
    intro k hi mi x L B o hk0 hh hmi2 hB
    have hk5 : k < 5 := by have := hs5.2; omega
    refine z_iload_n dX0_isAsSeen_13 rfl rfl ?_
    refine z_aload_n dX0_isAsSeen_14 rfl rfl ?_
    refine z_getI dX0_isAsSeen_15 fl_X0_293_0 (hF.1 16 _ rfl) rfl ?_
    refine z_eqi (z_I h 49 39) hsm ?_
    refine z_icmp_ge 65 dX0_isAsSeen_18 (by decide) (fun q => by first | exact absurd q (z_lin5 hs5 (by omega)) | exact absurd (z_lin5 hs5 (by omega)) q) (fun _ => ?_)
    refine z_aload_n dX0_isAsSeen_21 rfl rfl ?_
    refine z_getR 21 dX0_isAsSeen_22 fl_X0_35_0 (hF.1 16 _ rfl) rfl (hF.2.1 16 5 21 rfl) ?_
    refine z_getI dX0_isAsSeen_25 fl_X0_159_1 (hF.1 21 _ rfl) rfl ?_
    refine z_eqi (hi) rfl ?_
    refine z_istore_n dX0_isAsSeen_28 rfl (by decide) rfl ?_
    refine z_aload_n dX0_isAsSeen_29 rfl rfl ?_
    refine z_aload_n dX0_isAsSeen_30 rfl rfl ?_
    refine z_getR 21 dX0_isAsSeen_31 fl_X0_35_0 (hF.1 16 _ rfl) rfl (hF.2.1 16 5 21 rfl) ?_
    refine z_iload_n dX0_isAsSeen_34 rfl rfl ?_
    refine z_iconst (v := 1) dX0_isAsSeen_35 rfl ?_
    refine z_eqi (nI 1) rfl ?_
    refine z_vcall vl_X0_231_0 (t_turns (N := 1) hk hb hc hl hh hmi2 (by decide) (by omega)) dX0_isAsSeen_36 rfl rfl (hF.1 16 _ rfl) ⟨by decide, by decide⟩ (Nat.le_of_ble_eq_true rfl) (Nat.le_refl _) (Nat.le_refl _) (z_cPV (fun h' hq => ?_)) z_tPV
    obtain ⟨L1, rfl⟩ := hq
    refine z_aload_n dX0_isAsSeen_39 rfl rfl ?_
    refine z_getR 21 dX0_isAsSeen_40 fl_X0_35_0 (hF.1 16 _ rfl) rfl (hF.2.1 16 5 21 rfl) ?_
    refine z_getI dX0_isAsSeen_43 fl_X0_159_1 (hF.1 21 _ rfl) rfl ?_
    refine z_eqi (a_hi h l m hi mi) rfl ?_
    refine z_iload_n dX0_isAsSeen_46 rfl rfl ?_
    refine z_isub dX0_isAsSeen_47 ?_
    refine z_aload_n dX0_isAsSeen_48 rfl rfl ?_
    refine z_getR 30 dX0_isAsSeen_49 fl_X0_73_0 (hF.1 16 _ rfl) rfl (hF.2.1 16 15 30 rfl) ?_
    refine z_iload_n dX0_isAsSeen_52 rfl rfl ?_
    refine z_iald k dX0_isAsSeen_53 (hF.1 30 _ rfl) rfl (by omega) (by decide) ?_
    refine z_eqi (z_I h 67 k) (hsn k hk5) ?_
    refine z_icmp_eq 59 dX0_isAsSeen_54 (by decide) (fun c54 => ?_) (fun c54 => ?_)
    · refine z_iinc (v := nI (k + 1)) dX0_isAsSeen_59 rfl (nI_succ _).symm (by decide) rfl ?_
      refine z_goto 13 dX0_isAsSeen_62 (by decide) ?_
      have e1 : a_se h l m (r + 1) k hi mi = a_se h l m r (k + 1) (a_hi h l m hi mi) (mi + 1) := if_pos c54
      rw [e1]
      exact ih (k + 1) _ _ x L1 (B + 1) _ (by omega) (z_hi_r hmi2 hk hb hl hh) (z_cn_1 hmi2 (by omega)) (by omega)
    · refine z_iconst (v := 0) dX0_isAsSeen_57 rfl ?_
      refine z_iret dX0_isAsSeen_58 rfl rfl (Nat.le_refl _) (Nat.le_refl _) (z_ask_i ?_ ?_)
      · exact (z_b0 (fun q => by rw [show a_se h l m (r + 1) k hi mi = false from if_neg c54] at q; cases q)).symm
      · exact (z_fm.refl _ _).t
theorem c_X0_isAsSeen {Γ : z_W} {h : z_H} {f : Nat → Nat → Int32} {l : Int32} (hS : z_S h f) (hl : l = nI (z_c l) ∧ z_c l < z_c (z_I h 49 0)) (hs5 : z_cn (z_I h 49 39) 5) (hsm : f 16 19 = z_I h 49 39) (hsn : ∀ k, k < 5 → f 30 k = z_I h 67 k) : z_C Γ M_X0_isAsSeen (z_rm 35 0 0) [.ref 16, .int l] (z_cy h f) (z_ask h f (z_b (m_X6_isSeen h l (f 20 0) (f 20 1) (f 20 2)))) := by
  obtain ⟨hS3, hS6, hm99, hh4, hmi, hk, hb, hc⟩ := id hS
  obtain ⟨hF, ha, hm, hvs, hws, hho⟩ := id hk
  refine z_C.of (by decide +kernel) rfl [some (.ref 16), some (.int l), none, none] (Nat.le_of_ble_eq_true rfl) rfl ?_
  refine z_meq (z_cy h (z_t1 f (f 21 0) (f 21 1) (f 21 2) (f 21 3) (f 25))) (congrArg (z_cy h) (z_t1_0 f)) ?_
  refine z_aload_n dX0_isAsSeen_0 rfl rfl ?_
  refine z_getR 21 dX0_isAsSeen_1 fl_X0_35_0 (hF.1 16 _ rfl) rfl (hF.2.1 16 5 21 rfl) ?_
  refine z_aload_n dX0_isAsSeen_4 rfl rfl ?_
  refine z_getR 20 dX0_isAsSeen_5 fl_X0_31_0 (hF.1 16 _ rfl) rfl (hF.2.1 16 4 20 rfl) ?_
  refine z_vcall vl_X0_242_1 (t_takes hF) dX0_isAsSeen_8 rfl rfl (hF.1 21 _ rfl) ⟨by decide, by decide⟩ (Nat.le_of_ble_eq_true rfl) (Nat.le_refl _) (Nat.le_refl _) (z_cV ?_) z_tV
  refine z_iconst (v := 0) dX0_isAsSeen_11 rfl ?_
  refine z_istore_n dX0_isAsSeen_12 rfl (by decide) rfl ?_
  exact lp_X0_isAsSeen hS hl hs5 hsm hsn _ 0 _ _ _ _ 10000 none (Nat.zero_add _) hh4 hmi (by have := hs5.2; omega)
theorem lp_X0_who {Γ : z_W} {h : z_H} {f : Nat → Nat → Int32} (hS : z_S h f) (hs5 : z_cn (z_I h 49 39) 5) (hsm : f 16 19 = z_I h 49 39) (hsn : ∀ k, k < 5 → f 30 k = z_I h 67 k) : ∀ (r i : Nat) (f' : Nat → Nat → Int32), i + r = z_c (z_I h 49 0) → z_fm z_cn0 f f' → z_G Γ M_X0_who (z_rm 36 0 0) (z_ask h f (a_wh h (f 20 0) (f 20 1) (f 20 2) (z_c (z_I h 49 0)))) 0 0 4 [some (.ref 16), some (.int (a_wh h (f 20 0) (f 20 1) (f 20 2) i)), some (.int (nI i))] [] (z_cy h f') := by
  obtain ⟨hS3, hS6, hm99, hh4, hmi, hk, hb, hc⟩ := id hS
  obtain ⟨hF, ha, hm, hvs, hws, hho⟩ := id hk
  intro r
  induction r with
  | zero =>
    intro i f' hi0 hff
    have hi1 : i = z_c (z_I h 49 0) := by omega
    subst hi1
    have hS' := hS.fm hff
    have hS3' := hS'.1
    have hS6' := hS'.2.1
    have e20 := z_e20 hff

    refine z_iload_n dX0_who_4 rfl rfl ?_
    refine z_aload_n dX0_who_5 rfl rfl ?_
    refine z_getI dX0_who_6 fl_X0_116_0 (hF.1 16 _ rfl) rfl ?_
    refine z_eqi (z_I h 49 0) hS3' ?_
    refine z_icmp_ge 32 dX0_who_9 (by decide) (fun _ => ?_) (fun q => by first | exact absurd (z_lif hm rfl) q | exact absurd q (z_lif hm rfl))
    refine z_iload_n dX0_who_32 rfl rfl ?_
    refine z_iret dX0_who_33 rfl rfl (Nat.le_refl _) (Nat.le_refl _) (z_ask_i ?_ ?_)
    · rfl
    · exact hff
  | succ r ih =>
    intro i f' hi0 hff
    have hS' := hS.fm hff
    have hS3' := hS'.1
    have hS6' := hS'.2.1
    have e20 := z_e20 hff
    have hl : nI i = nI (z_c (nI i)) ∧ z_c (nI i) < z_c (z_I h 49 0) := z_ixn (by omega) (by have := hm.2; omega)
    have hsm' : f' 16 19 = z_I h 49 39 := (hff 16 19 (by unfold z_cn0; omega)).trans hsm
    have hsn' : ∀ k, k < 5 → f' 30 k = z_I h 67 k := fun k q => (hff 30 k (by unfold z_cn0; omega)).trans (hsn k q)
    refine z_iload_n dX0_who_4 rfl rfl ?_
    refine z_aload_n dX0_who_5 rfl rfl ?_
    refine z_getI dX0_who_6 fl_X0_116_0 (hF.1 16 _ rfl) rfl ?_
    refine z_eqi (z_I h 49 0) hS3' ?_
    refine z_icmp_ge 32 dX0_who_9 (by decide) (fun q => by first | exact absurd q (z_lin hm (by omega)) | exact absurd (z_lin hm (by omega)) q) (fun _ => ?_)
    refine z_aload_n dX0_who_12 rfl rfl ?_
    refine z_iload_n dX0_who_13 rfl rfl ?_
    refine z_vcall vl_X0_296_0 (c_X0_isAsSeen hS' hl hs5 hsm' hsn') dX0_who_14 rfl rfl (hF.1 16 _ rfl) ⟨by decide, by decide⟩ (Nat.le_of_ble_eq_true rfl) (Nat.le_refl _) (Nat.le_refl _) (z_cA (fun f1 hf1 => ?_)) z_tA
    rw [e20]
    refine z_bif_eq 26 dX0_who_17 (by decide) (fun c17 => ?_) (fun c17 => ?_)
    · refine z_iinc (v := nI (i + 1)) dX0_who_26 rfl (nI_succ _).symm (by decide) rfl ?_
      refine z_goto 4 dX0_who_29 (by decide) ?_
      have e1 : a_wh h (f 20 0) (f 20 1) (f 20 2) (i + 1) = a_wh h (f 20 0) (f 20 1) (f 20 2) i := by simp only [a_wh]; rw [if_neg c17, Int32.or_zero]
      have fin := ih (i + 1) f1 (by omega) (hff.tr hf1 (fun _ _ q => q))
      rw [e1] at fin
      exact fin
    · refine z_iload_n dX0_who_20 rfl rfl ?_
      refine z_iconst (v := 1) dX0_who_21 rfl ?_
      refine z_iload_n dX0_who_22 rfl rfl ?_
      refine z_ishl dX0_who_23 ?_
      refine z_ior dX0_who_24 ?_
      refine z_istore_n dX0_who_25 rfl (by decide) rfl ?_
      refine z_iinc (v := nI (i + 1)) dX0_who_26 rfl (nI_succ _).symm (by decide) rfl ?_
      refine z_goto 4 dX0_who_29 (by decide) ?_
      have e1 : a_wh h (f 20 0) (f 20 1) (f 20 2) (i + 1) = (a_wh h (f 20 0) (f 20 1) (f 20 2) i) ||| (1 <<< ((nI i) &&& 31)) := by simp only [a_wh]; rw [if_pos c17]
      have fin := ih (i + 1) f1 (by omega) (hff.tr hf1 (fun _ _ q => q))
      rw [e1] at fin
      exact fin
theorem c_X0_who {Γ : z_W} {h : z_H} {f : Nat → Nat → Int32}  (hS : z_S h f) (hs5 : z_cn (z_I h 49 39) 5) (hsm : f 16 19 = z_I h 49 39) (hsn : ∀ k, k < 5 → f 30 k = z_I h 67 k) : z_C Γ M_X0_who (z_rm 36 0 0) [.ref 16] (z_cy h f) (z_ask h f (m_X6_who h (f 20 0) (f 20 1) (f 20 2))) := by
  obtain ⟨hS3, hS6, hm99, hh4, hmi, hk, hb, hc⟩ := id hS
  obtain ⟨hF, ha, hm, hvs, hws, hho⟩ := id hk
  refine z_C.of (by decide +kernel) rfl [some (.ref 16), none, none] (Nat.le_of_ble_eq_true rfl) rfl ?_
  refine z_iconst (v := 0) dX0_who_0 rfl ?_
  refine z_istore_n dX0_who_1 rfl (by decide) rfl ?_
  refine z_iconst (v := 0) dX0_who_2 rfl ?_
  refine z_istore_n dX0_who_3 rfl (by decide) rfl ?_
  exact lp_X0_who hS hs5 hsm hsn _ 0 f (Nat.zero_add _) (z_fm.refl _ _)
