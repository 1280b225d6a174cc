/-! THE CLASS: turns (printed by class9.py) -/
set_option maxRecDepth 20000
/-- the ints f with a time's height and minute, and a look -/
def z_tk (f : Nat → Nat → Int32) (T : Nat) (hi mi : Int32) (L : Nat → Int32) : Nat → Nat → Int32 := fun a k => if a = 25 then L k else if a = T ∧ k = 1 then hi else if a = T ∧ k = 2 then mi else f a k
theorem z_tk_l (f : Nat → Nat → Int32) (T : Nat) (hi mi : Int32) (L K : Nat → Int32) : z_lkf (z_tk f T hi mi L) K = z_tk f T hi mi K := funext fun a => funext fun k => by
  unfold z_lkf z_tk
  by_cases e : a = 25
  · rw [if_pos e, if_pos e]
  · rw [if_neg e, if_neg e, if_neg e]
theorem z_tk_u (f : Nat → Nat → Int32) {T : Nat} (hT : T ≠ 25) (hi mi x y : Int32) (L : Nat → Int32) : z_u (z_u (z_tk f T hi mi L) T 1 x) T 2 y = z_tk f T x y L := funext fun a => funext fun k => by
  show (if a = T ∧ k = 2 then y else if a = T ∧ k = 1 then x else if a = 25 then L k else if a = T ∧ k = 1 then hi else if a = T ∧ k = 2 then mi else f a k) = if a = 25 then L k else if a = T ∧ k = 1 then x else if a = T ∧ k = 2 then y else f a k
  by_cases e : a = 25
  · subst e
    rw [if_neg (fun q => hT q.1.symm), if_neg (fun q => hT q.1.symm), if_pos rfl, if_pos rfl]
  · rw [if_neg e, if_neg e]
    by_cases e2 : a = T ∧ k = 2
    · rw [if_pos e2, if_neg (by omega), if_pos e2]
    · rw [if_neg e2]
      by_cases e1 : a = T ∧ k = 1
      · rw [if_pos e1, if_pos e1]
      · rw [if_neg e1, if_neg e1, if_neg e2, if_neg e1, if_neg e2]
theorem z_tk_0 (f : Nat → Nat → Int32) (T : Nat) : f = z_tk f T (f T 1) (f T 2) (f 25) := funext fun a => funext fun k => by
  unfold z_tk
  by_cases e : a = 25
  · rw [if_pos e, e]
  · rw [if_neg e]
    by_cases e1 : a = T ∧ k = 1
    · rw [if_pos e1, e1.1, e1.2]
    · rw [if_neg e1]
      by_cases e2 : a = T ∧ k = 2
      · rw [if_pos e2, e2.1, e2.2]
      · rw [if_neg e2]
theorem z_top_b (h : z_H) : (if 10 * m_X6_lastOf h 2 40 < 400 then 10 * m_X6_lastOf h 2 40 else 400) = m_X6_base h := by
  unfold m_X6_base
  by_cases e : 10 * m_X6_lastOf h 2 40 ≤ 400
  · rw [if_pos e]
    by_cases e2 : 10 * m_X6_lastOf h 2 40 < 400
    · rw [if_pos e2]
    · rw [if_neg e2]; exact Int32.le_antisymm (Int32.not_lt.mp e2) e
  · rw [if_neg e, if_neg (fun q => e (Int32.le_of_lt q))]
theorem lp_X0_turns_20 {Γ : z_W} {h : z_H} {f : Nat → Nat → Int32} {l hi0 mi0 : Int32} {B N : Nat} (hk : z_ok h) (hb : z_bd h) (hc : z_CA h f) (hl : l = nI (z_c l) ∧ z_c l < z_c (z_I h 49 0)) (hh : z_r hi0 0 400) (hmi : z_cn mi0 B) (hN : N ≤ 60) (hB : B + 60 < 2 ^ 31) : ∀ (r i : Nat) (L : Nat → Int32), i + r = N → z_G Γ M_X0_turns (z_rm 34 0 0) (z_rV (fun h' => ∃ L, h' = z_cy h (z_tk f 20 (a_it h l (f 20 0) hi0 mi0 N).1 (a_it h l (f 20 0) hi0 mi0 N).2 L))) 0 0 3 [some (.ref 16), some (.ref 20), some (.int l), some (.int (nI N)), some (.int (nI i))] [] (z_cy h (z_tk f 20 (a_it h l (f 20 0) hi0 mi0 i).1 (a_it h l (f 20 0) hi0 mi0 i).2 L)) := by
  obtain ⟨hF, ha, hm, hvs, hws, hho⟩ := id hk
  obtain ⟨-, -, -, a, Cs, c4, c5, -⟩ := id hc
  intro r
  induction r with
  | zero =>
    intro i L hi
    have hi1 : i = N := by omega
    subst hi1
    refine z_iload dX0_turns_3 rfl ?_
    refine z_iload_n dX0_turns_5 rfl rfl ?_
    refine z_icmp_ge 32 dX0_turns_6 (by decide) (fun _ => ?_) (fun q => by first | exact absurd (Int32.le_refl _) q | exact absurd q (Int32.le_refl _))
    exact z_vret dX0_turns_32 rfl (Nat.le_refl _) (Nat.le_refl _) (z_rV_i ⟨L, rfl⟩)
  | succ r ih =>
    intro i L hi
    have hmi2 := z_cn_it (h := h) (l := l) (m := f 20 0) (hi := hi0) (n := i) hmi (by omega)
    have hhi := z_it_r (m := f 20 0) hmi hk hb hl hh i (by omega)
    refine z_iload dX0_turns_3 rfl ?_
    refine z_iload_n dX0_turns_5 rfl rfl ?_
    refine z_icmp_ge 32 dX0_turns_6 (by decide) (fun q => by first | exact absurd q (nI_ge (show i < N by omega) (by omega)) | exact absurd (nI_ge (show i < N by omega) (by omega)) q) (fun _ => ?_)
    refine z_aload_n dX0_turns_9 rfl rfl ?_
    refine z_aload_n dX0_turns_10 rfl rfl ?_
    refine z_aload_n dX0_turns_11 rfl rfl ?_
    refine z_iload_n dX0_turns_12 rfl rfl ?_
    refine z_vcall vl_X0_196_0 (c_X0_climbOf_20 (f := z_tk f 20 (a_it h l (f 20 0) hi0 mi0 i).1 (a_it h l (f 20 0) hi0 mi0 i).2 L) hk (hc.fm rfl rfl rfl rfl) hl hmi2 (by omega)) dX0_turns_13 rfl rfl (hF.1 16 _ rfl) ⟨by decide, by decide⟩ (Nat.le_of_ble_eq_true rfl) (Nat.le_refl _) (Nat.le_refl _) (z_cPI (fun r h' hq => ?_)) z_tPI
    obtain ⟨L1, rfl, rfl⟩ := hq
    rw [z_tk_l]
    refine z_aload_n dX0_turns_16 rfl rfl ?_
    refine z_getR a dX0_turns_17 fl_X0_49_0 (hF.1 16 _ rfl) rfl c4 ?_
    have hAr := c5 (z_tk f 20 (a_it h l (f 20 0) hi0 mi0 i).1 (a_it h l (f 20 0) hi0 mi0 i).2 L1) rfl rfl
    refine z_vcall vl_X0_221_2 (c_X2_top hAr.1) dX0_turns_20 rfl rfl (c5 (z_tk f 20 (a_it h l (f 20 0) hi0 mi0 i).1 (a_it h l (f 20 0) hi0 mi0 i).2 L1) rfl rfl).1 ⟨by decide, by decide⟩ (Nat.le_of_ble_eq_true rfl) (Nat.le_refl _) (Nat.le_refl _) (z_cI ?_) z_tI
    refine z_eqi (m_X6_base h) (by rw [hAr.2.1]; exact z_top_b h) ?_
    refine z_vcall vl_X0_227_1 (c_X1_climbs_20 hF) dX0_turns_23 rfl rfl (hF.1 20 _ rfl) ⟨by decide, by decide⟩ (Nat.le_of_ble_eq_true rfl) (Nat.le_refl _) (Nat.le_refl _) (z_cV ?_) z_tV
    refine z_meq (z_cy h (z_tk f 20 (a_it h l (f 20 0) hi0 mi0 (i + 1)).1 (a_it h l (f 20 0) hi0 mi0 (i + 1)).2 L1)) (congrArg (z_cy h) ((z_tk_u f (by decide) _ _ _ _ _).trans (by exact congrArg (fun x => z_tk f 20 x ((a_it h l (f 20 0) hi0 mi0 i).2 + 1) L1) (a_ch_hi (m := f 20 0) hmi2 hk hb hl hhi)))) ?_
    refine z_iinc (v := nI (i + 1)) dX0_turns_26 rfl (nI_succ _).symm (by decide) rfl ?_
    refine z_goto 3 dX0_turns_29 (by decide) ?_
    exact ih (i + 1) L1 (by omega)
theorem lp_X0_turns_21 {Γ : z_W} {h : z_H} {f : Nat → Nat → Int32} {l hi0 mi0 : Int32} {B N : Nat} (hk : z_ok h) (hb : z_bd h) (hc : z_CA h f) (hl : l = nI (z_c l) ∧ z_c l < z_c (z_I h 49 0)) (hh : z_r hi0 0 400) (hmi : z_cn mi0 B) (hN : N ≤ 60) (hB : B + 60 < 2 ^ 31) : ∀ (r i : Nat) (L : Nat → Int32), i + r = N → z_G Γ M_X0_turns (z_rm 34 0 0) (z_rV (fun h' => ∃ L, h' = z_cy h (z_tk f 21 (a_it h l (f 21 0) hi0 mi0 N).1 (a_it h l (f 21 0) hi0 mi0 N).2 L))) 0 0 3 [some (.ref 16), some (.ref 21), some (.int l), some (.int (nI N)), some (.int (nI i))] [] (z_cy h (z_tk f 21 (a_it h l (f 21 0) hi0 mi0 i).1 (a_it h l (f 21 0) hi0 mi0 i).2 L)) := by
  obtain ⟨hF, ha, hm, hvs, hws, hho⟩ := id hk
  obtain ⟨-, -, -, a, Cs, c4, c5, -⟩ := id hc
  intro r
  induction r with
  | zero =>
    intro i L hi
    have hi1 : i = N := by omega
    subst hi1
    refine z_iload dX0_turns_3 rfl ?_
    refine z_iload_n dX0_turns_5 rfl rfl ?_
    refine z_icmp_ge 32 dX0_turns_6 (by decide) (fun _ => ?_) (fun q => by first | exact absurd (Int32.le_refl _) q | exact absurd q (Int32.le_refl _))
    exact z_vret dX0_turns_32 rfl (Nat.le_refl _) (Nat.le_refl _) (z_rV_i ⟨L, rfl⟩)
  | succ r ih =>
    intro i L hi
    have hmi2 := z_cn_it (h := h) (l := l) (m := f 21 0) (hi := hi0) (n := i) hmi (by omega)
    have hhi := z_it_r (m := f 21 0) hmi hk hb hl hh i (by omega)
    refine z_iload dX0_turns_3 rfl ?_
    refine z_iload_n dX0_turns_5 rfl rfl ?_
    refine z_icmp_ge 32 dX0_turns_6 (by decide) (fun q => by first | exact absurd q (nI_ge (show i < N by omega) (by omega)) | exact absurd (nI_ge (show i < N by omega) (by omega)) q) (fun _ => ?_)
    refine z_aload_n dX0_turns_9 rfl rfl ?_
    refine z_aload_n dX0_turns_10 rfl rfl ?_
    refine z_aload_n dX0_turns_11 rfl rfl ?_
    refine z_iload_n dX0_turns_12 rfl rfl ?_
    refine z_vcall vl_X0_196_0 (c_X0_climbOf_21 (f := z_tk f 21 (a_it h l (f 21 0) hi0 mi0 i).1 (a_it h l (f 21 0) hi0 mi0 i).2 L) hk (hc.fm rfl rfl rfl rfl) hl hmi2 (by omega)) dX0_turns_13 rfl rfl (hF.1 16 _ rfl) ⟨by decide, by decide⟩ (Nat.le_of_ble_eq_true rfl) (Nat.le_refl _) (Nat.le_refl _) (z_cPI (fun r h' hq => ?_)) z_tPI
    obtain ⟨L1, rfl, rfl⟩ := hq
    rw [z_tk_l]
    refine z_aload_n dX0_turns_16 rfl rfl ?_
    refine z_getR a dX0_turns_17 fl_X0_49_0 (hF.1 16 _ rfl) rfl c4 ?_
    have hAr := c5 (z_tk f 21 (a_it h l (f 21 0) hi0 mi0 i).1 (a_it h l (f 21 0) hi0 mi0 i).2 L1) rfl rfl
    refine z_vcall vl_X0_221_2 (c_X2_top hAr.1) dX0_turns_20 rfl rfl (c5 (z_tk f 21 (a_it h l (f 21 0) hi0 mi0 i).1 (a_it h l (f 21 0) hi0 mi0 i).2 L1) rfl rfl).1 ⟨by decide, by decide⟩ (Nat.le_of_ble_eq_true rfl) (Nat.le_refl _) (Nat.le_refl _) (z_cI ?_) z_tI
    refine z_eqi (m_X6_base h) (by rw [hAr.2.1]; exact z_top_b h) ?_
    refine z_vcall vl_X0_227_1 (c_X1_climbs_21 hF) dX0_turns_23 rfl rfl (hF.1 21 _ rfl) ⟨by decide, by decide⟩ (Nat.le_of_ble_eq_true rfl) (Nat.le_refl _) (Nat.le_refl _) (z_cV ?_) z_tV
    refine z_meq (z_cy h (z_tk f 21 (a_it h l (f 21 0) hi0 mi0 (i + 1)).1 (a_it h l (f 21 0) hi0 mi0 (i + 1)).2 L1)) (congrArg (z_cy h) ((z_tk_u f (by decide) _ _ _ _ _).trans (by exact congrArg (fun x => z_tk f 21 x ((a_it h l (f 21 0) hi0 mi0 i).2 + 1) L1) (a_ch_hi (m := f 21 0) hmi2 hk hb hl hhi)))) ?_
    refine z_iinc (v := nI (i + 1)) dX0_turns_26 rfl (nI_succ _).symm (by decide) rfl ?_
    refine z_goto 3 dX0_turns_29 (by decide) ?_
    exact ih (i + 1) L1 (by omega)
theorem c_X0_turns_20 {Γ : z_W} {h : z_H} {f : Nat → Nat → Int32} {l : Int32} {B N : Nat} (hk : z_ok h) (hb : z_bd h) (hc : z_CA h f) (hl : l = nI (z_c l) ∧ z_c l < z_c (z_I h 49 0)) (hh : z_r (f 20 1) 0 400) (hmi : z_cn (f 20 2) B) (hN : N ≤ 60) (hB : B + 60 < 2 ^ 31) : z_C Γ M_X0_turns (z_rm 34 0 0) [.ref 16, .ref 20, .int l, .int (nI N)] (z_cy h f) (z_rV (fun h' => ∃ L, h' = z_cy h (z_tk f 20 (a_it h l (f 20 0) (f 20 1) (f 20 2) N).1 (a_it h l (f 20 0) (f 20 1) (f 20 2) N).2 L))) := by
  have hF := hk.1
  refine z_C.of (by decide +kernel) rfl [some (.ref 16), some (.ref 20), some (.int l), some (.int (nI N)), none] (Nat.le_of_ble_eq_true rfl) rfl ?_
  refine z_iconst (v := 0) dX0_turns_0 rfl ?_
  refine z_istore dX0_turns_1 (by decide) rfl ?_
  have fin := lp_X0_turns_20 (Γ := Γ) (f := f) (hi0 := f 20 1) (mi0 := f 20 2) hk hb hc hl hh hmi hN hB N 0 (f 25) (Nat.zero_add _)
  refine z_meq (z_cy h (z_tk f 20 (f 20 1) (f 20 2) (f 25))) (congrArg (z_cy h) (z_tk_0 f 20)) ?_
  exact fin
theorem c_X0_turns_21 {Γ : z_W} {h : z_H} {f : Nat → Nat → Int32} {l : Int32} {B N : Nat} (hk : z_ok h) (hb : z_bd h) (hc : z_CA h f) (hl : l = nI (z_c l) ∧ z_c l < z_c (z_I h 49 0)) (hh : z_r (f 21 1) 0 400) (hmi : z_cn (f 21 2) B) (hN : N ≤ 60) (hB : B + 60 < 2 ^ 31) : z_C Γ M_X0_turns (z_rm 34 0 0) [.ref 16, .ref 21, .int l, .int (nI N)] (z_cy h f) (z_rV (fun h' => ∃ L, h' = z_cy h (z_tk f 21 (a_it h l (f 21 0) (f 21 1) (f 21 2) N).1 (a_it h l (f 21 0) (f 21 1) (f 21 2) N).2 L))) := by
  have hF := hk.1
  refine z_C.of (by decide +kernel) rfl [some (.ref 16), some (.ref 21), some (.int l), some (.int (nI N)), none] (Nat.le_of_ble_eq_true rfl) rfl ?_
  refine z_iconst (v := 0) dX0_turns_0 rfl ?_
  refine z_istore dX0_turns_1 (by decide) rfl ?_
  have fin := lp_X0_turns_21 (Γ := Γ) (f := f) (hi0 := f 21 1) (mi0 := f 21 2) hk hb hc hl hh hmi hN hB N 0 (f 25) (Nat.zero_add _)
  refine z_meq (z_cy h (z_tk f 21 (f 21 1) (f 21 2) (f 25))) (congrArg (z_cy h) (z_tk_0 f 21)) ?_
  exact fin
