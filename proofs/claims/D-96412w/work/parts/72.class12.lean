/-! THE CLASS: what is tried; next, ways by a lift (printed by class12.py) -/
set_option maxRecDepth 20000
/-- the ints f with the tried time and the look as told -/
def z_t1 (f : Nat → Nat → Int32) (m hi mi x : Int32) (L : Nat → Int32) : Nat → Nat → Int32 := fun a k => if a = 25 then L k else if a = 21 then (match k with | 0 => m | 1 => hi | 2 => mi | 3 => x | _ => f 21 k) else f a k
theorem z_t1_0 (f : Nat → Nat → Int32) : f = z_t1 f (f 21 0) (f 21 1) (f 21 2) (f 21 3) (f 25) := funext fun a => funext fun k => by
  unfold z_t1
  by_cases e : a = 25
  · rw [if_pos e, e]
  · rw [if_neg e]
    by_cases e1 : a = 21
    · rw [if_pos e1, e1]
      match k with
      | 0 => rfl
      | 1 => rfl
      | 2 => rfl
      | 3 => rfl
      | n + 4 => rfl
    · rw [if_neg e1]
theorem z_t1_a {f g : Nat → Nat → Int32} {m hi mi x : Int32} {L : Nat → Int32} (h25 : ∀ k, g 25 k = L k) (h0 : g 21 0 = m) (h1 : g 21 1 = hi) (h2 : g 21 2 = mi) (h3 : g 21 3 = x) (h4 : ∀ k, g 21 (k + 4) = f 21 (k + 4)) (hr : ∀ a k, a ≠ 25 → a ≠ 21 → g a k = f a k) : g = z_t1 f m hi mi x L := funext fun a => funext fun k => by
  unfold z_t1
  by_cases e : a = 25
  · rw [if_pos e, e]; exact h25 k
  · rw [if_neg e]
    by_cases e1 : a = 21
    · rw [if_pos e1, e1]
      match k with
      | 0 => exact h0
      | 1 => exact h1
      | 2 => exact h2
      | 3 => exact h3
      | n + 4 => exact h4 n
    · rw [if_neg e1]; exact hr a k e e1
theorem z_un {f : Nat → Nat → Int32} {a k b j : Nat} {v : Int32} (h : ¬ (a = b ∧ k = j)) : z_u f b j v a k = f a k := if_neg h
theorem z_t1_n {f : Nat → Nat → Int32} {m hi mi x : Int32} {L : Nat → Int32} {a k : Nat} (h1 : a ≠ 25) (h2 : a ≠ 21) : z_t1 f m hi mi x L a k = f a k := by
  unfold z_t1
  rw [if_neg h1, if_neg h2]
theorem z_t1_tk (f : Nat → Nat → Int32) (m hi mi x hi' mi' : Int32) (L L' : Nat → Int32) : z_tk (z_t1 f m hi mi x L) 21 hi' mi' L' = z_t1 f m hi' mi' x L' := by
  refine z_t1_a (fun k => rfl) rfl rfl rfl rfl (fun k => ?_) (fun a k h1 h2 => ?_)
  · show (if (21 : Nat) = 25 then _ else if 21 = 21 ∧ k + 4 = 1 then _ else if 21 = 21 ∧ k + 4 = 2 then _ else z_t1 f m hi mi x L 21 (k + 4)) = _
    rw [if_neg (by decide), if_neg (by omega), if_neg (by omega)]
    rfl
  · unfold z_tk
    rw [if_neg h1, if_neg (fun q => h2 q.1), if_neg (fun q => h2 q.1)]
    exact z_t1_n h1 h2
theorem z_t1_lk (f : Nat → Nat → Int32) (m hi mi x : Int32) (L L' : Nat → Int32) : z_lkf (z_t1 f m hi mi x L) L' = z_t1 f m hi mi x L' := by
  refine z_t1_a (fun k => rfl) rfl rfl rfl rfl (fun k => rfl) (fun a k h1 h2 => ?_)
  unfold z_lkf
  rw [if_neg h1]
  exact z_t1_n h1 h2
theorem z_t1_tks (f : Nat → Nat → Int32) (m hi mi x a b c d : Int32) (L : Nat → Int32) : z_u (z_u (z_u (z_u (z_t1 f m hi mi x L) 21 0 a) 21 1 b) 21 2 c) 21 3 d = z_t1 f a b c d L := by
  refine z_t1_a (fun k => rfl) rfl rfl rfl rfl (fun k => ?_) (fun a k h1 h2 => ?_)
  · rw [z_un (by omega), z_un (by omega), z_un (by omega), z_un (by omega)]; rfl
  · rw [z_un (by omega), z_un (by omega), z_un (by omega), z_un (by omega)]; exact z_t1_n h1 h2
theorem z_t1_gl (f : Nat → Nat → Int32) (m hi mi x a b c d : Int32) (L : Nat → Int32) : z_u (z_u (z_u (z_u (z_t1 f m hi mi x L) 21 1 b) 21 2 c) 21 0 a) 21 3 d = z_t1 f a b c d L := by
  refine z_t1_a (fun k => rfl) rfl rfl rfl rfl (fun k => ?_) (fun a k h1 h2 => ?_)
  · rw [z_un (by omega), z_un (by omega), z_un (by omega), z_un (by omega)]; rfl
  · rw [z_un (by omega), z_un (by omega), z_un (by omega), z_un (by omega)]; exact z_t1_n h1 h2
theorem z_t1_u {f : Nat → Nat → Int32} {m hi mi x : Int32} {L : Nat → Int32} {k : Nat} {v : Int32} : z_u (z_t1 f m hi mi x L) 16 k v = z_t1 (z_u f 16 k v) m hi mi x L := by
  refine z_t1_a (fun k => rfl) rfl rfl rfl rfl (fun k => rfl) (fun a j h1 h2 => ?_)
  unfold z_u
  split
  · rfl
  · exact z_t1_n h1 h2
theorem z_fm.t1 {R : Nat → Nat → Prop} {f f' : Nat → Nat → Int32} {m hi mi x : Int32} {L : Nat → Int32} (k : z_fm R f f') (h1 : ∀ j, R 21 j) (h2 : ∀ j, R 25 j) : z_fm R f (z_t1 f' m hi mi x L) := by
  intro a j hn
  rw [z_t1_n (fun q => hn (by rw [q]; exact h2 j)) (fun q => hn (by rw [q]; exact h1 j))]
  exact k a j hn
theorem z_fm.t {f f' : Nat → Nat → Int32} {m hi mi x : Int32} {L : Nat → Int32} (k : z_fm z_cn0 f f') : z_fm z_cn0 f (z_t1 f' m hi mi x L) := k.t1 (fun _ => Or.inl rfl) (fun _ => Or.inr (Or.inl rfl))
theorem t_takes {Γ : z_W} {h : z_H} {f : Nat → Nat → Int32} {m hi mi x : Int32} {L : Nat → Int32} (hF : z_F h) : z_C Γ M_X1_takes (z_rm 1 0 0) [.ref 21, .ref 20] (z_cy h (z_t1 f m hi mi x L)) (z_rv (z_cy h (z_t1 f (f 20 0) (f 20 1) (f 20 2) (f 20 3) L))) := by
  have := c_X1_takes_21_20 (Γ := Γ) (f := z_t1 f m hi mi x L) hF
  rw [z_t1_tks] at this
  exact this
theorem t_gl_y {Γ : z_W} {h : z_H} {f : Nat → Nat → Int32} {m hi mi x : Int32} {L : Nat → Int32} {t p : Int32} (hF : z_F h) (hm : z_in m 0 99) (ht : z_in t 0 99) (hc : ¬ (hi - m_X6_falls h m t p < 0)) : z_C Γ M_X1_glides (z_rm 4 0 0) [.ref 21, .int t, .int p] (z_cy h (z_t1 f m hi mi x L)) (z_ri 1 (z_cy h (z_t1 f t (hi - m_X6_falls h m t p) (mi + m_X6_apart h m t * (10 - p)) (-1) L))) := by
  have := c_X1_glides_21_y (Γ := Γ) (f := z_t1 f m hi mi x L) hF hm ht hc
  rw [z_t1_gl] at this
  exact this
theorem t_turns {Γ : z_W} {h : z_H} {f : Nat → Nat → Int32} {m hi mi x : Int32} {L : Nat → Int32} {l : Int32} {B N : Nat} (hk : z_ok h) (hb : z_bd h) (hc : z_CA h f) (hl : l = nI (z_c l) ∧ z_c l < z_c (z_I h 49 0)) (hh : z_r hi 0 400) (hmi : z_cn mi B) (hN : N ≤ 60) (hB : B + 60 < 2 ^ 31) : z_C Γ M_X0_turns (z_rm 34 0 0) [.ref 16, .ref 21, .int l, .int (nI N)] (z_cy h (z_t1 f m hi mi x L)) (z_rV (fun h' => ∃ L', h' = z_cy h (z_t1 f m ((a_it h l m hi mi N).1) ((a_it h l m hi mi N).2) x L'))) := by
  refine (c_X0_turns_21 (Γ := Γ) (f := z_t1 f m hi mi x L) hk hb (hc.fm rfl rfl rfl rfl) hl hh hmi hN hB).mono (fun o h' q => ?_)
  obtain ⟨q1, L', rfl⟩ := q
  exact ⟨q1, L', congrArg (z_cy h) (z_t1_tk ..)⟩
theorem t_climbOf {Γ : z_W} {h : z_H} {f : Nat → Nat → Int32} {m hi mi x : Int32} {L : Nat → Int32} {l : Int32} {B : Nat} (hk : z_ok h) (hc : z_CA h f) (hl : l = nI (z_c l) ∧ z_c l < z_c (z_I h 49 0)) (hmi : z_cn mi B) (hB : B < 2 ^ 31) : z_C Γ M_X0_climbOf (z_rm 33 0 0) [.ref 16, .ref 21, .int l] (z_cy h (z_t1 f m hi mi x L)) (z_rI (fun r h' => ∃ L', r = a_cl h l m hi mi ∧ h' = z_cy h (z_t1 f m hi mi x L'))) := by
  refine (c_X0_climbOf_21 (Γ := Γ) (f := z_t1 f m hi mi x L) hk (hc.fm rfl rfl rfl rfl) hl hmi hB).mono (fun o h' q => ?_)
  obtain ⟨r, q1, L', q2, rfl⟩ := q
  exact ⟨r, q1, L', q2, congrArg (z_cy h) (z_t1_lk ..)⟩
theorem a_nx_5 {h : z_H} {p m hi mi : Int32} : ∀ n, n ≤ 6 → ((a_nx h p m hi mi n).1 < 0 ↔ (a_nx h p m hi mi n).1 = -5)
  | 0, _ => ⟨fun _ => rfl, fun _ => (show (-5 : Int32) < 0 by decide)⟩
  | n + 1, hn => by
    have hx : (nI n < 0 ↔ nI n = -5) := ⟨fun q => absurd q (Int32.not_lt.mpr (nI_le (a := 0) (Nat.zero_le _) (by omega))), fun q => by rw [q]; decide⟩
    simp only [a_nx]
    repeat' split
    · exact hx
    · exact hx
    · exact a_nx_5 n (by omega)
    · exact a_nx_5 n (by omega)
theorem lp_X0_next {Γ : z_W} {h : z_H} {f : Nat → Nat → Int32} {p : Int32} (hS : z_S h f) (hp : z_in p 1 9) : ∀ (r i : Nat) (m hi mi x : Int32) (L : Nat → Int32) (o5 : Option Value), i + r = z_c (z_I h 49 0) → z_G Γ M_X0_next (z_rm 34 0 0) (z_ask h f (a_nx h p (f 20 0) (f 20 1) (f 20 2) (z_c (z_I h 49 0))).1) 0 0 18 [some (.ref 16), some (.int p), some (.int ((a_nx h p (f 20 0) (f 20 1) (f 20 2) i).1)), some (.int ((a_nx h p (f 20 0) (f 20 1) (f 20 2) i).2)), some (.int (nI i)), o5] [] (z_cy h (z_t1 f m hi mi x L)) := by
  obtain ⟨hS3, hS6, hm99, hh4, hmi, hk, hb, hc⟩ := id hS
  obtain ⟨hF, ha, hm, hvs, hws, hho⟩ := id hk
  obtain ⟨c1, -, -, a, Cs, c4, c5x, -⟩ := id hc
  intro r
  induction r with
  | zero =>
    intro i m hi mi x L o5 hi0
    have hi1 : i = z_c (z_I h 49 0) := by omega
    subst hi1
    refine z_iload dX0_next_18 rfl ?_
    refine z_aload_n dX0_next_20 rfl rfl ?_
    refine z_getI dX0_next_21 fl_X0_116_0 (hF.1 16 _ rfl) rfl ?_
    refine z_eqi (z_I h 49 0) hS3 ?_
    refine z_icmp_ge 127 dX0_next_24 (by decide) (fun _ => ?_) (fun q => by first | exact absurd (z_lif hm rfl) q | exact absurd q (z_lif hm rfl))
    refine z_iload_n dX0_next_127 rfl rfl ?_
    refine z_iret dX0_next_128 rfl rfl (Nat.le_refl _) (Nat.le_refl _) (z_ask_i ?_ ?_)
    · rfl
    · exact (z_fm.refl _ _).t
  | succ r ih =>
    intro i m hi mi x L o5 hi0
    have hl : nI i = nI (z_c (nI i)) ∧ z_c (nI i) < z_c (z_I h 49 0) := z_ixn (by omega) (by have := hm.2; omega)
    have hl6 : nI i = nI (z_c (nI i)) ∧ z_c (nI i) < 6 := ⟨hl.1, by have := hl.2; have := hm.2; omega⟩
    obtain ⟨id, k, hid, hlf⟩ := c1 _ hl.2
    obtain ⟨h85, hk6, hkd, hTL, -, hn1, hvL, hmL, h46⟩ := hlf
    have h5 := a_nx_5 (h := h) (p := p) (m := f 20 0) (hi := f 20 1) (mi := f 20 2) i (by have := hm.2; omega)
    refine z_iload dX0_next_18 rfl ?_
    refine z_aload_n dX0_next_20 rfl rfl ?_
    refine z_getI dX0_next_21 fl_X0_116_0 (hF.1 16 _ rfl) rfl ?_
    refine z_eqi (z_I h 49 0) hS3 ?_
    refine z_icmp_ge 127 dX0_next_24 (by decide) (fun q => by first | exact absurd q (z_lin hm (by omega)) | exact absurd (z_lin hm (by omega)) q) (fun _ => ?_)
    refine z_aload_n dX0_next_27 rfl rfl ?_
    refine z_getR 20 dX0_next_28 fl_X0_31_0 (hF.1 16 _ rfl) rfl (hF.2.1 16 4 20 rfl) ?_
    refine z_aload_n dX0_next_31 rfl rfl ?_
    refine z_getR 17 dX0_next_32 fl_X0_17_0 (hF.1 16 _ rfl) rfl (hF.2.1 16 0 17 rfl) ?_
    refine z_iload dX0_next_35 rfl ?_
    refine z_aald (z_c (nI i)) id dX0_next_37 (hF.1 17 _ rfl) (by simp [z_at]) hl6.1 hl6.2 (by decide) hid ?_
    refine z_getm rfl hk6 hTL dX0_next_38 <| z_eqi (z_I h 52 (z_c (nI i))) (by rw [z_cy_hi h85, hmL]) ?_
    refine z_iload_n dX0_next_41 rfl rfl ?_
    refine z_aload_n dX0_next_42 rfl rfl ?_
    refine z_getR a dX0_next_43 fl_X0_49_0 (hF.1 16 _ rfl) rfl c4 ?_
    refine z_vcall vl_X0_224_2 (c_X2_safely (c5x (z_t1 f m hi mi x L) rfl rfl).1) dX0_next_46 rfl rfl (c5x f rfl rfl).1 ⟨by decide, by decide⟩ (Nat.le_of_ble_eq_true rfl) (Nat.le_refl _) (Nat.le_refl _) (z_cI ?_) z_tI
    refine z_eqi (m_X6_safe h) (by rw [(c5x (z_t1 f m hi mi x L) rfl rfl).2.2.1]; rfl) ?_
    refine z_vcall vl_X0_253_1 (c_X1_reaches_20 hF hm99 (hws _ hl.2)) dX0_next_49 rfl rfl (hF.1 20 _ rfl) ⟨by decide, by decide⟩ (Nat.le_of_ble_eq_true rfl) (Nat.le_refl _) (Nat.le_refl _) (z_cI ?_) z_tI
    refine z_bif_ne 58 dX0_next_52 (by decide) (fun c52 => ?_) (fun c52 => ?_)
    · have hg0 : ¬ (f 20 1 - m_X6_falls h (f 20 0) (z_I h 52 (z_c (nI i))) p < 0) := ((z_can (mi := f 20 2) hh4 hm99 (hws _ hl.2) hp hb).mpr c52).1
      have hmi3 := z_cn_gl (h := h) hmi hm99 (hws _ hl.2) hp (by decide)
      refine z_aload_n dX0_next_58 rfl rfl ?_
      refine z_getR 21 dX0_next_59 fl_X0_35_0 (hF.1 16 _ rfl) rfl (hF.2.1 16 5 21 rfl) ?_
      refine z_aload_n dX0_next_62 rfl rfl ?_
      refine z_getR 20 dX0_next_63 fl_X0_31_0 (hF.1 16 _ rfl) rfl (hF.2.1 16 4 20 rfl) ?_
      refine z_vcall vl_X0_242_1 (t_takes hF) dX0_next_66 rfl rfl (hF.1 21 _ rfl) ⟨by decide, by decide⟩ (Nat.le_of_ble_eq_true rfl) (Nat.le_refl _) (Nat.le_refl _) (z_cV ?_) z_tV
      refine z_aload_n dX0_next_69 rfl rfl ?_
      refine z_getR 21 dX0_next_70 fl_X0_35_0 (hF.1 16 _ rfl) rfl (hF.2.1 16 5 21 rfl) ?_
      refine z_aload_n dX0_next_73 rfl rfl ?_
      refine z_getR 17 dX0_next_74 fl_X0_17_0 (hF.1 16 _ rfl) rfl (hF.2.1 16 0 17 rfl) ?_
      refine z_iload dX0_next_77 rfl ?_
      refine z_aald (z_c (nI i)) id dX0_next_79 (hF.1 17 _ rfl) (by simp [z_at]) hl6.1 hl6.2 (by decide) hid ?_
      refine z_getm rfl hk6 hTL dX0_next_80 <| z_eqi (z_I h 52 (z_c (nI i))) (by rw [z_cy_hi h85, hmL]) ?_
      refine z_iload_n dX0_next_83 rfl rfl ?_
      refine z_vcall vl_X0_246_1 (t_gl_y hF hm99 (hws _ hl.2) hg0) dX0_next_84 rfl rfl (hF.1 21 _ rfl) ⟨by decide, by decide⟩ (Nat.le_of_ble_eq_true rfl) (Nat.le_refl _) (Nat.le_refl _) (z_cI ?_) z_tI
      refine z_pop dX0_next_87 rfl ?_
      refine z_aload_n dX0_next_88 rfl rfl ?_
      refine z_aload_n dX0_next_89 rfl rfl ?_
      refine z_getR 21 dX0_next_90 fl_X0_35_0 (hF.1 16 _ rfl) rfl (hF.2.1 16 5 21 rfl) ?_
      refine z_iload dX0_next_93 rfl ?_
      refine z_vcall vl_X0_196_0 (t_climbOf hk hc hl hmi3 (by decide)) dX0_next_95 rfl rfl (hF.1 16 _ rfl) ⟨by decide, by decide⟩ (Nat.le_of_ble_eq_true rfl) (Nat.le_refl _) (Nat.le_refl _) (z_cPI (fun r h' hq => ?_)) z_tPI
      obtain ⟨L1, rfl, rfl⟩ := hq
      refine z_eqi (a_ns h p (f 20 0) (f 20 1) (f 20 2) (nI i)) (if_pos ((z_reach0 hh4 (z_falls_r hm99 (hws _ hl.2) hp)).mp hg0)).symm ?_
      refine z_istore dX0_next_98 (by decide) rfl ?_
      refine z_iload_n dX0_next_100 rfl rfl ?_
      refine z_bipush (v := (-5)) dX0_next_101 rfl ?_
      refine z_icmp_eq 115 dX0_next_103 (by decide) (fun c103 => ?_) (fun c103 => ?_)
      · refine z_iload dX0_next_115 rfl ?_
        refine z_istore_n dX0_next_117 rfl (by decide) rfl ?_
        refine z_iload dX0_next_118 rfl ?_
        refine z_istore_n dX0_next_120 rfl (by decide) rfl ?_
        refine z_iinc (v := nI (i + 1)) dX0_next_121 rfl (nI_succ _).symm (by decide) rfl ?_
        refine z_goto 18 dX0_next_124 (by decide) ?_
        have e1 : a_nx h p (f 20 0) (f 20 1) (f 20 2) (i + 1) = (nI i, a_ns h p (f 20 0) (f 20 1) (f 20 2) (nI i)) := by simp only [a_nx]; rw [if_pos ((z_can hh4 hm99 (hws _ hl.2) hp hb).mpr c52), if_pos (h5.mpr c103)]
        have fin := ih (i + 1) (z_I h 52 (z_c (nI i))) (f 20 1 - m_X6_falls h (f 20 0) (z_I h 52 (z_c (nI i))) p) (f 20 2 + m_X6_apart h (f 20 0) (z_I h 52 (z_c (nI i))) * (10 - p)) (-1) L1 (some (.int (a_ns h p (f 20 0) (f 20 1) (f 20 2) (nI i)))) (by omega)
        rw [e1] at fin
        exact fin
      · refine z_iload dX0_next_106 rfl ?_
        refine z_iload_n dX0_next_108 rfl rfl ?_
        refine z_icmp_gt 115 dX0_next_109 (by decide) (fun c109 => ?_) (fun c109 => ?_)
        · refine z_iload dX0_next_115 rfl ?_
          refine z_istore_n dX0_next_117 rfl (by decide) rfl ?_
          refine z_iload dX0_next_118 rfl ?_
          refine z_istore_n dX0_next_120 rfl (by decide) rfl ?_
          refine z_iinc (v := nI (i + 1)) dX0_next_121 rfl (nI_succ _).symm (by decide) rfl ?_
          refine z_goto 18 dX0_next_124 (by decide) ?_
          have e1 : a_nx h p (f 20 0) (f 20 1) (f 20 2) (i + 1) = (nI i, a_ns h p (f 20 0) (f 20 1) (f 20 2) (nI i)) := by simp only [a_nx]; rw [if_pos ((z_can hh4 hm99 (hws _ hl.2) hp hb).mpr c52), if_neg (fun q => c103 (h5.mp q)), if_pos c109]
          have fin := ih (i + 1) (z_I h 52 (z_c (nI i))) (f 20 1 - m_X6_falls h (f 20 0) (z_I h 52 (z_c (nI i))) p) (f 20 2 + m_X6_apart h (f 20 0) (z_I h 52 (z_c (nI i))) * (10 - p)) (-1) L1 (some (.int (a_ns h p (f 20 0) (f 20 1) (f 20 2) (nI i)))) (by omega)
          rw [e1] at fin
          exact fin
        · refine z_goto 121 dX0_next_112 (by decide) ?_
          refine z_iinc (v := nI (i + 1)) dX0_next_121 rfl (nI_succ _).symm (by decide) rfl ?_
          refine z_goto 18 dX0_next_124 (by decide) ?_
          have e1 : a_nx h p (f 20 0) (f 20 1) (f 20 2) (i + 1) = a_nx h p (f 20 0) (f 20 1) (f 20 2) i := by simp only [a_nx]; rw [if_pos ((z_can hh4 hm99 (hws _ hl.2) hp hb).mpr c52), if_neg (fun q => c103 (h5.mp q)), if_neg c109]
          have fin := ih (i + 1) (z_I h 52 (z_c (nI i))) (f 20 1 - m_X6_falls h (f 20 0) (z_I h 52 (z_c (nI i))) p) (f 20 2 + m_X6_apart h (f 20 0) (z_I h 52 (z_c (nI i))) * (10 - p)) (-1) L1 (some (.int (a_ns h p (f 20 0) (f 20 1) (f 20 2) (nI i)))) (by omega)
          rw [e1] at fin
          exact fin
    · refine z_goto 121 dX0_next_55 (by decide) ?_
      refine z_iinc (v := nI (i + 1)) dX0_next_121 rfl (nI_succ _).symm (by decide) rfl ?_
      refine z_goto 18 dX0_next_124 (by decide) ?_
      have e1 : a_nx h p (f 20 0) (f 20 1) (f 20 2) (i + 1) = a_nx h p (f 20 0) (f 20 1) (f 20 2) i := by simp only [a_nx]; rw [if_neg (fun q => c52 ((z_can hh4 hm99 (hws _ hl.2) hp hb).mp q))]
      have fin := ih (i + 1) m hi mi x L o5 (by omega)
      rw [e1] at fin
      exact fin
theorem c_X0_next {Γ : z_W} {h : z_H} {f : Nat → Nat → Int32} {p : Int32} (hS : z_S h f)  : z_C Γ M_X0_next (z_rm 34 0 0) [.ref 16, .int p] (z_cy h f) (z_ask h f (m_X6_next h p (f 20 0) (f 20 1) (f 20 2))) := by
  obtain ⟨hS3, hS6, hm99, hh4, hmi, hk, hb, hc⟩ := id hS
  obtain ⟨hF, ha, hm, hvs, hws, hho⟩ := id hk
  refine z_C.of (by decide +kernel) rfl [some (.ref 16), some (.int p), none, none, none, none] (Nat.le_of_ble_eq_true rfl) rfl ?_
  refine z_iload_n dX0_next_0 rfl rfl ?_
  refine z_scall sl_X0_235 (c_X0_isPace) dX0_next_1 rfl rfl ⟨by decide, by decide⟩ (Nat.le_of_ble_eq_true rfl) (Nat.le_refl _) (Nat.le_refl _) (z_cI ?_) z_tI
  refine z_bif_ne 10 dX0_next_4 (by decide) (fun c4 => ?_) (fun c4 => ?_)
  · refine z_bipush (v := (-5)) dX0_next_10 rfl ?_
    refine z_istore_n dX0_next_12 rfl (by decide) rfl ?_
    refine z_iconst (v := 0) dX0_next_13 rfl ?_
    refine z_istore_n dX0_next_14 rfl (by decide) rfl ?_
    refine z_iconst (v := 0) dX0_next_15 rfl ?_
    refine z_istore dX0_next_16 (by decide) rfl ?_
    refine z_meq (z_cy h (z_t1 f (f 21 0) (f 21 1) (f 21 2) (f 21 3) (f 25))) (congrArg (z_cy h) (z_t1_0 f)) ?_
    unfold m_X6_next
    rw [if_pos c4]
    exact lp_X0_next hS c4 _ 0 _ _ _ _ _ none (Nat.zero_add _)
  · refine z_bipush (v := (-2)) dX0_next_7 rfl ?_
    refine z_iret dX0_next_9 rfl rfl (Nat.le_refl _) (Nat.le_refl _) (z_ask_i ?_ ?_)
    · unfold m_X6_next; rw [if_neg (show ¬ (m_X0_isPace h p) from c4)]
    · exact z_fm.refl _ _
theorem lp_X0_climbsTill {Γ : z_W} {h : z_H} {f : Nat → Nat → Int32} {l t p m x : Int32} (hS : z_S h f) (hl : l = nI (z_c l) ∧ z_c l < z_c (z_I h 49 0)) (hm9 : z_in m 0 99) (ht : z_in t 0 99) (hp : z_in p 1 9) {B N : Nat} (hN : N ≤ 60) (hB : B + 200 < 2 ^ 31) : ∀ (r i : Nat) (hi mi : Int32) (L : Nat → Int32), i + r = N → z_r hi 0 400 → z_cn mi (B + i) → z_G Γ M_X0_climbsTill (z_rm 35 0 0) (z_rI (fun q h' => ∃ hi' mi' L', h' = z_cy h (z_t1 f m hi' mi' x L') ∧ q = z_b ((m_X6_falls h m t p + m_X6_safe h) ≤ (a_rs h l m (m_X6_falls h m t p + m_X6_safe h) r hi mi).1) ∧ ((m_X6_falls h m t p + m_X6_safe h) ≤ (a_rs h l m (m_X6_falls h m t p + m_X6_safe h) r hi mi).1 → hi' = (a_rs h l m (m_X6_falls h m t p + m_X6_safe h) r hi mi).1 ∧ mi' = (a_rs h l m (m_X6_falls h m t p + m_X6_safe h) r hi mi).2))) 0 0 3 [some (.ref 16), some (.int l), some (.int t), some (.int p), some (.int (nI N)), some (.int (nI i))] [] (z_cy h (z_t1 f m hi mi x L)) := by
  obtain ⟨hS3, hS6, hm99, hh4, hmi, hk, hb, hc⟩ := id hS
  obtain ⟨hF, ha, hm, hvs, hws, hho⟩ := id hk
  obtain ⟨c1, -, -, a, Cs, c4, c5x, -⟩ := id hc
  have hfl := z_falls_r (h := h) hm9 ht hp
  have hsf := z_safe_r hb
  intro r
  induction r with
  | zero =>
    intro i hi mi L hi0 hh hmi2
    have he := z_reach_s (s := m_X6_safe h) hh hfl hsf
    refine z_iload dX0_climbsTill_3 rfl ?_
    refine z_iload dX0_climbsTill_5 rfl ?_
    refine z_icmp_gt 47 dX0_climbsTill_7 (by decide) (fun q => by first | exact absurd q (nI_nlt (show i ≤ N by omega) (by omega)) | exact absurd (nI_nlt (show i ≤ N by omega) (by omega)) q) (fun _ => ?_)
    refine z_aload_n dX0_climbsTill_10 rfl rfl ?_
    refine z_getR 21 dX0_climbsTill_11 fl_X0_35_0 (hF.1 16 _ rfl) rfl (hF.2.1 16 5 21 rfl) ?_
    refine z_iload_n dX0_climbsTill_14 rfl rfl ?_
    refine z_iload_n dX0_climbsTill_15 rfl rfl ?_
    refine z_aload_n dX0_climbsTill_16 rfl rfl ?_
    refine z_getR a dX0_climbsTill_17 fl_X0_49_0 (hF.1 16 _ rfl) rfl c4 ?_
    refine z_vcall vl_X0_224_2 (c_X2_safely (c5x (z_t1 f m hi mi x L) rfl rfl).1) dX0_climbsTill_20 rfl rfl (c5x f rfl rfl).1 ⟨by decide, by decide⟩ (Nat.le_of_ble_eq_true rfl) (Nat.le_refl _) (Nat.le_refl _) (z_cI ?_) z_tI
    refine z_eqi (m_X6_safe h) (by rw [(c5x (z_t1 f m hi mi x L) rfl rfl).2.2.1]; rfl) ?_
    refine z_vcall vl_X0_253_1 (c_X1_reaches_21 hF hm9 ht) dX0_climbsTill_23 rfl rfl (hF.1 21 _ rfl) ⟨by decide, by decide⟩ (Nat.le_of_ble_eq_true rfl) (Nat.le_refl _) (Nat.le_refl _) (z_cI ?_) z_tI
    refine z_bif_eq 31 dX0_climbsTill_26 (by decide) (fun c26 => ?_) (fun c26 => ?_)
    · refine z_aload_n dX0_climbsTill_31 rfl rfl ?_
      refine z_aload_n dX0_climbsTill_32 rfl rfl ?_
      refine z_getR 21 dX0_climbsTill_33 fl_X0_35_0 (hF.1 16 _ rfl) rfl (hF.2.1 16 5 21 rfl) ?_
      refine z_iload_n dX0_climbsTill_36 rfl rfl ?_
      refine z_iconst (v := 1) dX0_climbsTill_37 rfl ?_
      refine z_eqi (nI 1) rfl ?_
      refine z_vcall vl_X0_231_0 (t_turns (N := 1) hk hb hc hl hh hmi2 (by decide) (by omega)) dX0_climbsTill_38 rfl rfl (hF.1 16 _ rfl) ⟨by decide, by decide⟩ (Nat.le_of_ble_eq_true rfl) (Nat.le_refl _) (Nat.le_refl _) (z_cPV (fun h' hq => ?_)) z_tPV
      obtain ⟨L1, rfl⟩ := hq
      refine z_iinc (v := nI (i + 1)) dX0_climbsTill_41 rfl (nI_succ _).symm (by decide) rfl ?_
      refine z_goto 3 dX0_climbsTill_44 (by decide) ?_
      refine z_iload dX0_climbsTill_3 rfl ?_
      refine z_iload dX0_climbsTill_5 rfl ?_
      refine z_icmp_gt 47 dX0_climbsTill_7 (by decide) (fun _ => ?_) (fun q => by first | exact absurd (nI_lt (show N < i + 1 by omega) (by omega)) q | exact absurd q (nI_lt (show N < i + 1 by omega) (by omega)))
      refine z_iconst (v := 0) dX0_climbsTill_47 rfl ?_
      refine z_iret dX0_climbsTill_48 rfl rfl (Nat.le_refl _) (Nat.le_refl _) (z_rI_i ⟨_, _, _, rfl, ?_, ?_⟩)
      · exact (z_b0 (fun q => c26 (he.mpr q))).symm
      · exact fun q => absurd (he.mpr q) c26
    · refine z_iconst (v := 1) dX0_climbsTill_29 rfl ?_
      refine z_iret dX0_climbsTill_30 rfl rfl (Nat.le_refl _) (Nat.le_refl _) (z_rI_i ⟨_, _, _, rfl, ?_, ?_⟩)
      · have e1 : a_rs h l m (m_X6_falls h m t p + m_X6_safe h) 0 hi mi = (hi, mi) := rfl
        rw [e1]; exact (z_b1 (he.mp c26)).symm
      · have e1 : a_rs h l m (m_X6_falls h m t p + m_X6_safe h) 0 hi mi = (hi, mi) := rfl
        rw [e1]; exact fun _ => ⟨rfl, rfl⟩
  | succ r ih =>
    intro i hi mi L hi0 hh hmi2
    have he := z_reach_s (s := m_X6_safe h) hh hfl hsf
    refine z_iload dX0_climbsTill_3 rfl ?_
    refine z_iload dX0_climbsTill_5 rfl ?_
    refine z_icmp_gt 47 dX0_climbsTill_7 (by decide) (fun q => by first | exact absurd q (nI_nlt (show i ≤ N by omega) (by omega)) | exact absurd (nI_nlt (show i ≤ N by omega) (by omega)) q) (fun _ => ?_)
    refine z_aload_n dX0_climbsTill_10 rfl rfl ?_
    refine z_getR 21 dX0_climbsTill_11 fl_X0_35_0 (hF.1 16 _ rfl) rfl (hF.2.1 16 5 21 rfl) ?_
    refine z_iload_n dX0_climbsTill_14 rfl rfl ?_
    refine z_iload_n dX0_climbsTill_15 rfl rfl ?_
    refine z_aload_n dX0_climbsTill_16 rfl rfl ?_
    refine z_getR a dX0_climbsTill_17 fl_X0_49_0 (hF.1 16 _ rfl) rfl c4 ?_
    refine z_vcall vl_X0_224_2 (c_X2_safely (c5x (z_t1 f m hi mi x L) rfl rfl).1) dX0_climbsTill_20 rfl rfl (c5x f rfl rfl).1 ⟨by decide, by decide⟩ (Nat.le_of_ble_eq_true rfl) (Nat.le_refl _) (Nat.le_refl _) (z_cI ?_) z_tI
    refine z_eqi (m_X6_safe h) (by rw [(c5x (z_t1 f m hi mi x L) rfl rfl).2.2.1]; rfl) ?_
    refine z_vcall vl_X0_253_1 (c_X1_reaches_21 hF hm9 ht) dX0_climbsTill_23 rfl rfl (hF.1 21 _ rfl) ⟨by decide, by decide⟩ (Nat.le_of_ble_eq_true rfl) (Nat.le_refl _) (Nat.le_refl _) (z_cI ?_) z_tI
    refine z_bif_eq 31 dX0_climbsTill_26 (by decide) (fun c26 => ?_) (fun c26 => ?_)
    · refine z_aload_n dX0_climbsTill_31 rfl rfl ?_
      refine z_aload_n dX0_climbsTill_32 rfl rfl ?_
      refine z_getR 21 dX0_climbsTill_33 fl_X0_35_0 (hF.1 16 _ rfl) rfl (hF.2.1 16 5 21 rfl) ?_
      refine z_iload_n dX0_climbsTill_36 rfl rfl ?_
      refine z_iconst (v := 1) dX0_climbsTill_37 rfl ?_
      refine z_eqi (nI 1) rfl ?_
      refine z_vcall vl_X0_231_0 (t_turns (N := 1) hk hb hc hl hh hmi2 (by decide) (by omega)) dX0_climbsTill_38 rfl rfl (hF.1 16 _ rfl) ⟨by decide, by decide⟩ (Nat.le_of_ble_eq_true rfl) (Nat.le_refl _) (Nat.le_refl _) (z_cPV (fun h' hq => ?_)) z_tPV
      obtain ⟨L1, rfl⟩ := hq
      refine z_iinc (v := nI (i + 1)) dX0_climbsTill_41 rfl (nI_succ _).symm (by decide) rfl ?_
      refine z_goto 3 dX0_climbsTill_44 (by decide) ?_
      have fin := ih (i + 1) (a_hi h l m hi mi) (mi + 1) L1 (by omega) (z_hi_r hmi2 hk hb hl hh) (z_cn_1 (B := B + i) hmi2 (by omega))
      have e1 : a_rs h l m (m_X6_falls h m t p + m_X6_safe h) (r + 1) hi mi = a_rs h l m (m_X6_falls h m t p + m_X6_safe h) r (a_hi h l m hi mi) (mi + 1) := by rw [a_rs, if_neg (fun q => c26 (he.mpr q))]
      rw [e1]
      exact fin
    · refine z_iconst (v := 1) dX0_climbsTill_29 rfl ?_
      refine z_iret dX0_climbsTill_30 rfl rfl (Nat.le_refl _) (Nat.le_refl _) (z_rI_i ⟨_, _, _, rfl, ?_, ?_⟩)
      · have e1 : a_rs h l m (m_X6_falls h m t p + m_X6_safe h) (r + 1) hi mi = (hi, mi) := by rw [a_rs, if_pos (he.mp c26)]
        rw [e1]; exact (z_b1 (he.mp c26)).symm
      · have e1 : a_rs h l m (m_X6_falls h m t p + m_X6_safe h) (r + 1) hi mi = (hi, mi) := by rw [a_rs, if_pos (he.mp c26)]
        rw [e1]; exact fun _ => ⟨rfl, rfl⟩
theorem c_X0_climbsTill {Γ : z_W} {h : z_H} {f : Nat → Nat → Int32} {l t p m hi mi x : Int32} {L : Nat → Int32} (hS : z_S h f) (hl : l = nI (z_c l) ∧ z_c l < z_c (z_I h 49 0)) (hm9 : z_in m 0 99) (ht : z_in t 0 99) (hp : z_in p 1 9) {B N : Nat} (hN : N ≤ 60) (hB : B + 200 < 2 ^ 31) (hh : z_r hi 0 400) (hmi : z_cn mi B) : z_C Γ M_X0_climbsTill (z_rm 35 0 0) [.ref 16, .int l, .int t, .int p, .int (nI N)] (z_cy h (z_t1 f m hi mi x L)) (z_rI (fun q h' => ∃ hi' mi' L', h' = z_cy h (z_t1 f m hi' mi' x L') ∧ q = z_b ((m_X6_falls h m t p + m_X6_safe h) ≤ (a_rs h l m (m_X6_falls h m t p + m_X6_safe h) N hi mi).1) ∧ ((m_X6_falls h m t p + m_X6_safe h) ≤ (a_rs h l m (m_X6_falls h m t p + m_X6_safe h) N hi mi).1 → hi' = (a_rs h l m (m_X6_falls h m t p + m_X6_safe h) N hi mi).1 ∧ mi' = (a_rs h l m (m_X6_falls h m t p + m_X6_safe h) N hi mi).2))) := by
  refine z_C.of (by decide +kernel) rfl [some (.ref 16), some (.int l), some (.int t), some (.int p), some (.int (nI N)), none] (Nat.le_of_ble_eq_true rfl) rfl ?_
  refine z_iconst (v := 0) dX0_climbsTill_0 rfl ?_
  refine z_istore dX0_climbsTill_1 (by decide) rfl ?_
  exact lp_X0_climbsTill hS hl hm9 ht hp hN hB N 0 hi mi L (Nat.zero_add _) hh hmi
