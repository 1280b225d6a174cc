/-! THE REFERENCE: reach, next, ways home (printed by model8.py) -/
set_option maxRecDepth 20000
/-- the notes: what is left, and that the best stays -/
def z_q3 (h : z_H) (s : Nat → Int32) (m hi mi r lf : Int32) : Outcome → z_H → Prop := fun o h' => ∃ s', o = .returned (some (.int r)) ∧ h' = z_fy (z_sc h s') m hi mi ∧ s' 32 = lf ∧ s' 33 = s 33 ∧ s' 34 = s 34 ∧ s' 35 = s 35
section ZQ3
variable {Γ : z_W} {M : z_M} {rm : Room} {Q : Outcome → z_H → Prop} {cs ss pc : Nat} {ls : List (Option Value)} {st rest : List Value} {h : z_H} {s : Nat → Int32} {m hi mi : Int32}
theorem z_q3_i {v r lf : Int32} {s' : Nat → Int32} (e : v = r) (e1 : s' 32 = lf) (e2 : s' 33 = s 33) (e3 : s' 34 = s 34) (e4 : s' 35 = s 35) : z_q3 h s m hi mi r lf (.returned (some (.int v))) (z_fy (z_sc h s') m hi mi) := ⟨s', by rw [e], rfl, e1, e2, e3, e4⟩
theorem z_cQ3 {r lf : Int32} (kk : ∀ s', s' 32 = lf → s' 33 = s 33 → s' 34 = s 34 → s' 35 = s 35 → z_G Γ M rm Q cs ss pc ls (.int r :: rest) (z_fy (z_sc h s') m hi mi)) : ∀ v h', z_q3 h s m hi mi r lf (.returned v) h' → z_G Γ M rm Q cs ss pc ls (v.toList ++ rest) h' := by
  intro v h' q
  obtain ⟨s', q1, rfl, e1, e2, e3, e4⟩ := q
  cases q1
  exact kk s' e1 e2 e3 e4
theorem z_tQ3 {r lf : Int32} {P : Nat → z_H → Prop} : ∀ x h', z_q3 h s m hi mi r lf (.threw x) h' → P x h' := fun x h' q => by obtain ⟨s, q1, -⟩ := q; cases q1
theorem z_q3_q {r lf : Int32} : ∀ o h', z_q3 h s m hi mi r lf o h' → z_qi h m hi mi r o h' := fun o h' q => by obtain ⟨s', q1, q2, -⟩ := q; exact ⟨s', q1, q2⟩
end ZQ3
theorem z_apart_n {h : z_H} {a b : Int32} (ha : z_in a 0 99) (hb : z_in b 0 99) : ∃ n, n ≤ 99 ∧ m_X6_apart h a b = nI n := by
  obtain ⟨e1, l1⟩ := z_ixb (l := a) 99 (by decide) ha
  obtain ⟨e2, l2⟩ := z_ixb (l := b) 99 (by decide) hb
  unfold m_X6_apart
  rw [e1, e2]
  by_cases c : z_c b ≤ z_c a
  · rw [if_pos (nI_le c (by omega)), pk_sub c]
    exact ⟨_, by omega, rfl⟩
  · rw [if_neg (nI_ge (by omega) (by omega)), pk_sub (by omega)]
    exact ⟨_, by omega, rfl⟩
theorem z_cn_gl {h : z_H} {mi a b p : Int32} {B : Nat} (hm : z_cn mi B) (ha : z_in a 0 99) (hb : z_in b 0 99) (hp : z_in p 1 9) (hB : B + 891 < 2 ^ 31) : z_cn (mi + m_X6_apart h a b * (10 - p)) (B + 891) := by
  obtain ⟨n, hn, e⟩ := z_apart_n (h := h) ha hb
  obtain ⟨e2, l2⟩ := z_ixb (l := p) 9 (by decide) ⟨Int32.le_trans (by decide) hp.1, hp.2⟩
  have e4 : 1 ≤ z_c p := by
    have := hp.1
    rw [e2] at this
    exact (nI_leI (a := 1) (by decide) (by omega)).mp this
  have e3 : (10 : Int32) - p = nI (10 - z_c p) := by
    have : nI 10 - nI (z_c p) = nI (10 - z_c p) := pk_sub (by omega)
    rw [← e2] at this
    exact this
  rw [e, e3, pk_mul]
  have h3 : n * (10 - z_c p) ≤ 99 * 9 := Nat.mul_le_mul hn (by omega)
  exact z_cn_le (z_cn_add hm (by omega)) (by omega)
theorem z_lif {x : Int32} {i : Nat} (hm : z_cn x 6) (h : i = z_c x) : x ≤ nI i := by
  subst h
  rw [← hm.1]
  exact Int32.le_refl _
theorem z_lin {x : Int32} {i : Nat} (hm : z_cn x 6) (h : i < z_c x) : ¬ x ≤ nI i := by
  rw [hm.1]
  have := hm.2
  exact nI_ge h (by omega)
def a_rc (h : z_H) (p m hi mi : Int32) : Nat → Int32
  | 0 => 0
  | n + 1 => if m_X6_canReach h (nI n) p m hi mi then a_rc h p m hi mi n ||| ((1 : Int32) <<< (nI n &&& 31)) else a_rc h p m hi mi n ||| 0
theorem lp_X6_reach {Γ : z_W} {h : z_H} {s : Nat → Int32} {p m hi mi : Int32} (hk : z_ok h) : ∀ (r i : Nat), i + r = z_c (z_I h 49 0) →
    z_G Γ M_X6_reach (z_rm 5 0 0) (z_ri (a_rc h p m hi mi (z_c (z_I h 49 0))) (z_fy (z_sc h s) m hi mi)) 0 0 15 [some (.ref 49), some (.int p), some (.int (a_rc h p m hi mi i)), some (.int (nI i))] [] (z_fy (z_sc h s) m hi mi) := by
  obtain ⟨hF, ha, hm, hvs, hws, hho⟩ := id hk
  intro r
  induction r with
  | zero =>
    intro i hi0
    have hi1 : i = z_c (z_I h 49 0) := by omega
    refine z_iload_n dX6_reach_15 rfl rfl ?_
    refine z_aload_n dX6_reach_16 rfl rfl ?_
    refine z_getI dX6_reach_17 fl_X6_7_6 (hF.1 49 _ rfl) rfl ?_
    refine z_eqi (z_I h 49 0) rfl ?_
    refine z_icmp_ge 48 dX6_reach_20 (by decide) (fun _ => ?_) (fun q => by first | exact absurd (z_lif hm hi1) q | exact absurd q (z_lif hm hi1))
    refine z_iload_n dX6_reach_48 rfl rfl ?_
    refine z_iret dX6_reach_49 rfl rfl (Nat.le_refl _) (Nat.le_refl _) (z_ri_i ?_ ?_)
    · rw [hi1]
    · rfl
  | succ r ih =>
    intro i hi0
    have hl : nI i = nI (z_c (nI i)) ∧ z_c (nI i) < 6 := z_ixn (by have := hm.2; omega) (by decide)
    refine z_iload_n dX6_reach_15 rfl rfl ?_
    refine z_aload_n dX6_reach_16 rfl rfl ?_
    refine z_getI dX6_reach_17 fl_X6_7_6 (hF.1 49 _ rfl) rfl ?_
    refine z_eqi (z_I h 49 0) rfl ?_
    refine z_icmp_ge 48 dX6_reach_20 (by decide) (fun q => by first | exact absurd q (z_lin hm (by omega)) | exact absurd (z_lin hm (by omega)) q) (fun _ => ?_)
    refine z_iload_n dX6_reach_23 rfl rfl ?_
    refine z_aload_n dX6_reach_24 rfl rfl ?_
    refine z_iload_n dX6_reach_25 rfl rfl ?_
    refine z_iload_n dX6_reach_26 rfl rfl ?_
    refine z_vcall vl_X6_341_6 (c_X6_canReach hk hl) dX6_reach_27 rfl rfl (hF.1 49 _ rfl) ⟨by decide, by decide⟩ (Nat.le_of_ble_eq_true rfl) (Nat.le_refl _) (Nat.le_refl _) (z_cI ?_) z_tI
    refine z_bif_eq 39 dX6_reach_30 (by decide) (fun c30 => ?_) (fun c30 => ?_)
    · refine z_iconst (v := 0) dX6_reach_39 rfl ?_
      refine z_ior dX6_reach_40 ?_
      refine z_istore_n dX6_reach_41 rfl (by decide) rfl ?_
      refine z_iinc (v := nI (i + 1)) dX6_reach_42 rfl (nI_succ _).symm (by decide) rfl ?_
      refine z_goto 15 dX6_reach_45 (by decide) ?_
      have e1 : a_rc h p m hi mi (i + 1) = (a_rc h p m hi mi i) ||| 0 := by simp only [a_rc]; rw [if_neg (show ¬ (m_X6_canReach h (nI i) p m hi mi) from c30)]
      have fin := ih (i + 1) (by omega)
      rw [e1] at fin
      exact fin
    · refine z_iconst (v := 1) dX6_reach_33 rfl ?_
      refine z_iload_n dX6_reach_34 rfl rfl ?_
      refine z_ishl dX6_reach_35 ?_
      refine z_goto 40 dX6_reach_36 (by decide) ?_
      refine z_ior dX6_reach_40 ?_
      refine z_istore_n dX6_reach_41 rfl (by decide) rfl ?_
      refine z_iinc (v := nI (i + 1)) dX6_reach_42 rfl (nI_succ _).symm (by decide) rfl ?_
      refine z_goto 15 dX6_reach_45 (by decide) ?_
      have e1 : a_rc h p m hi mi (i + 1) = (a_rc h p m hi mi i) ||| (1 <<< ((nI i) &&& 31)) := by simp only [a_rc]; rw [if_pos (show m_X6_canReach h (nI i) p m hi mi from c30)]
      have fin := ih (i + 1) (by omega)
      rw [e1] at fin
      exact fin
def m_X6_reach (h : z_H) (p m hi mi : Int32) : Int32 := if m_X6_isPace h p then a_rc h p m hi mi (z_c (z_I h 49 0)) else -2
theorem c_X6_reach {Γ : z_W} {h : z_H} {s : Nat → Int32} {p m hi mi : Int32} (hk : z_ok h) : z_C Γ M_X6_reach (z_rm 5 0 0) [.ref 49, .int p] (z_fy (z_sc h s) m hi mi) (z_ri (m_X6_reach h p m hi mi) (z_fy (z_sc h s) m hi mi)) := by
  obtain ⟨hF, ha, hm, hvs, hws, hho⟩ := id hk
  refine z_C.of (by decide +kernel) rfl [some (.ref 49), some (.int p), none, none] (Nat.le_of_ble_eq_true rfl) rfl ?_
  refine z_aload_n dX6_reach_0 rfl rfl ?_
  refine z_iload_n dX6_reach_1 rfl rfl ?_
  refine z_vcall vl_X6_326_6 (c_X6_isPace hF) dX6_reach_2 rfl rfl (hF.1 49 _ rfl) ⟨by decide, by decide⟩ (Nat.le_of_ble_eq_true rfl) (Nat.le_refl _) (Nat.le_refl _) (z_cI ?_) z_tI
  refine z_bif_ne 11 dX6_reach_5 (by decide) (fun c5 => ?_) (fun c5 => ?_)
  · refine z_iconst (v := 0) dX6_reach_11 rfl ?_
    refine z_istore_n dX6_reach_12 rfl (by decide) rfl ?_
    refine z_iconst (v := 0) dX6_reach_13 rfl ?_
    refine z_istore_n dX6_reach_14 rfl (by decide) rfl ?_
    have fin := lp_X6_reach (Γ := Γ) (s := s) (p := p) (m := m) (hi := hi) (mi := mi) hk _ 0 (Nat.zero_add _)
    unfold m_X6_reach
    rw [if_pos (show m_X6_isPace h p from c5)]
    exact fin
  · refine z_bipush (v := (-2)) dX6_reach_8 rfl ?_
    refine z_iret dX6_reach_10 rfl rfl (Nat.le_refl _) (Nat.le_refl _) (z_ri_i ?_ ?_)
    · unfold m_X6_reach; rw [if_neg (show ¬ (m_X6_isPace h p) from c5)]
    · rfl
/-- the climb in the lift l behind a glide to it -/
def a_ns (h : z_H) (p m hi mi l : Int32) : Int32 := if m_X6_falls h m (z_I h 52 (z_c l)) p ≤ hi then a_cl h l (z_I h 52 (z_c l)) (hi - m_X6_falls h m (z_I h 52 (z_c l)) p) (mi + m_X6_apart h m (z_I h 52 (z_c l)) * (10 - p)) else a_cl h l m hi mi
def a_nx (h : z_H) (p m hi mi : Int32) : Nat → Int32 × Int32
  | 0 => (-5, 0)
  | n + 1 => if m_X6_canReach h (nI n) p m hi mi then (if (a_nx h p m hi mi n).1 < 0 then (nI n, a_ns h p m hi mi (nI n)) else if (a_nx h p m hi mi n).2 < a_ns h p m hi mi (nI n) then (nI n, a_ns h p m hi mi (nI n)) else a_nx h p m hi mi n) else a_nx h p m hi mi n
theorem lp_X6_next {Γ : z_W} {h : z_H} {p m hi mi : Int32} (hk : z_ok h) (hp : z_in p 1 9) (hmm : z_in m 0 99) {B : Nat} (hmi : z_cn mi B) (hB : B + 891 < 2 ^ 31) : ∀ (r i : Nat) (s : Nat → Int32) (o5 o6 : Option Value), i + r = z_c (z_I h 49 0) →
    z_G Γ M_X6_next (z_rm 5 0 0) (z_qi h m hi mi (a_nx h p m hi mi (z_c (z_I h 49 0))).1) 0 0 19 [some (.ref 49), some (.int p), some (.int ((a_nx h p m hi mi i).1)), some (.int ((a_nx h p m hi mi i).2)), some (.int (nI i)), o5, o6] [] (z_fy (z_sc h s) m hi mi) := by
  obtain ⟨hF, ha, hm, hvs, hws, hho⟩ := id hk
  intro r
  induction r with
  | zero =>
    intro i s o5 o6 hi0
    have hi1 : i = z_c (z_I h 49 0) := by omega
    refine z_iload dX6_next_19 rfl ?_
    refine z_aload_n dX6_next_21 rfl rfl ?_
    refine z_getI dX6_next_22 fl_X6_7_6 (hF.1 49 _ rfl) rfl ?_
    refine z_eqi (z_I h 49 0) rfl ?_
    refine z_icmp_ge 96 dX6_next_25 (by decide) (fun _ => ?_) (fun q => by first | exact absurd (z_lif hm hi1) q | exact absurd q (z_lif hm hi1))
    refine z_iload_n dX6_next_96 rfl rfl ?_
    refine z_iret dX6_next_97 rfl rfl (Nat.le_refl _) (Nat.le_refl _) (z_qi_i ?_)
    rw [hi1]
  | succ r ih =>
    intro i s o5 o6 hi0
    have hl : nI i = nI (z_c (nI i)) ∧ z_c (nI i) < 6 := z_ixn (by have := hm.2; omega) (by decide)
    have hci : z_c (nI i) = i := nI_clamp (by have := hm.2; omega)
    have hv : z_in (z_I h 51 (z_c (nI i))) 0 9 := by rw [hci]; exact hvs i (by omega)
    have hwi : z_in (z_I h 52 (z_c (nI i))) 0 99 := by rw [hci]; exact hws i (by omega)
    refine z_iload dX6_next_19 rfl ?_
    refine z_aload_n dX6_next_21 rfl rfl ?_
    refine z_getI dX6_next_22 fl_X6_7_6 (hF.1 49 _ rfl) rfl ?_
    refine z_eqi (z_I h 49 0) rfl ?_
    refine z_icmp_ge 96 dX6_next_25 (by decide) (fun q => by first | exact absurd q (z_lin hm (by omega)) | exact absurd (z_lin hm (by omega)) q) (fun _ => ?_)
    refine z_aload_n dX6_next_28 rfl rfl ?_
    refine z_iload dX6_next_29 rfl ?_
    refine z_iload_n dX6_next_31 rfl rfl ?_
    refine z_vcall vl_X6_341_6 (c_X6_canReach hk hl) dX6_next_32 rfl rfl (hF.1 49 _ rfl) ⟨by decide, by decide⟩ (Nat.le_of_ble_eq_true rfl) (Nat.le_refl _) (Nat.le_refl _) (z_cI ?_) z_tI
    refine z_bif_ne 41 dX6_next_35 (by decide) (fun c35 => ?_) (fun c35 => ?_)
    · refine z_aload_n dX6_next_41 rfl rfl ?_
      refine z_vcall vl_X6_332_6 (c_X6_save hF) dX6_next_42 rfl rfl (hF.1 49 _ rfl) ⟨by decide, by decide⟩ (Nat.le_of_ble_eq_true rfl) (Nat.le_refl _) (Nat.le_refl _) (z_cV ?_) z_tV
      refine z_aload_n dX6_next_45 rfl rfl ?_
      refine z_aload_n dX6_next_46 rfl rfl ?_
      refine z_getR 52 dX6_next_47 fl_X6_35_6 (hF.1 49 _ rfl) rfl (hF.2.1 49 8 52 rfl) ?_
      refine z_iload dX6_next_50 rfl ?_
      refine z_iald (z_c (nI i)) dX6_next_52 (hF.1 52 _ rfl) hl.1 hl.2 (by decide) ?_
      refine z_eqi (z_I h 52 (z_c (nI i))) rfl ?_
      refine z_iload_n dX6_next_53 rfl rfl ?_
      by_cases g54 : m_X6_falls h m (z_I h 52 (z_c (nI i))) p ≤ hi
      · have hmi3 := z_cn_gl (h := h) hmi hmm hwi hp hB
        refine z_vcall vl_X6_329_6 (c_X6_goGlide_y (h := z_sc h (upd (upd (upd s 29 mi) 30 m) 31 hi)) hF g54) dX6_next_54 rfl rfl (hF.1 49 _ rfl) ⟨by decide, by decide⟩ (Nat.le_of_ble_eq_true rfl) (Nat.le_refl _) (Nat.le_refl _) (z_cI ?_) z_tI
        refine z_meq (z_fy (z_sc h (upd (upd (upd s 29 mi) 30 m) 31 hi)) (z_I h 52 (z_c (nI i))) (hi - m_X6_falls h m (z_I h 52 (z_c (nI i))) p) (mi + m_X6_apart h m (z_I h 52 (z_c (nI i))) * (10 - p))) rfl ?_
        refine z_istore dX6_next_57 (by decide) rfl ?_
        refine z_aload_n dX6_next_59 rfl rfl ?_
        refine z_iload dX6_next_60 rfl ?_
        refine z_vcall vl_X6_304_6 (c_X6_climb (h := z_sc h (upd (upd (upd s 29 mi) 30 m) 31 hi)) hF ha hl hv hmi3 (by omega)) dX6_next_62 rfl rfl (hF.1 49 _ rfl) ⟨by decide, by decide⟩ (Nat.le_of_ble_eq_true rfl) (Nat.le_refl _) (Nat.le_refl _) (z_cI ?_) z_tI
        refine z_eqi (a_ns h p m hi mi (nI i)) (by unfold a_ns; rw [if_pos (show m_X6_falls h m (z_I h 52 (z_c (nI i))) p ≤ hi from g54)]; rfl) ?_
        refine z_istore dX6_next_65 (by decide) rfl ?_
        refine z_aload_n dX6_next_67 rfl rfl ?_
        refine z_vcall vl_X6_335_6 (c_X6_putBack hF) dX6_next_68 rfl rfl (hF.1 49 _ rfl) ⟨by decide, by decide⟩ (Nat.le_of_ble_eq_true rfl) (Nat.le_refl _) (Nat.le_refl _) (z_cV ?_) z_tV
        refine z_meq (z_fy (z_sc h (upd (upd (upd s 29 mi) 30 m) 31 hi)) m hi mi) rfl ?_
        refine z_iload_n dX6_next_71 rfl rfl ?_
        refine z_if_lt 84 dX6_next_72 (by decide) (fun c72 => ?_) (fun c72 => ?_)
        · refine z_iload dX6_next_84 rfl ?_
          refine z_istore_n dX6_next_86 rfl (by decide) rfl ?_
          refine z_iload dX6_next_87 rfl ?_
          refine z_istore_n dX6_next_89 rfl (by decide) rfl ?_
          refine z_iinc (v := nI (i + 1)) dX6_next_90 rfl (nI_succ _).symm (by decide) rfl ?_
          refine z_goto 19 dX6_next_93 (by decide) ?_
          have e1 : a_nx h p m hi mi (i + 1) = (nI i, a_ns h p m hi mi (nI i)) := by simp only [a_nx]; rw [if_pos (show m_X6_canReach h (nI i) p m hi mi from c35), if_pos (show ((a_nx h p m hi mi i).1) < 0 from c72)]
          have fin := ih (i + 1) (upd (upd (upd s 29 mi) 30 m) 31 hi) (some (.int 1)) (some (.int (a_ns h p m hi mi (nI i)))) (by omega)
          rw [e1] at fin
          exact fin
        · refine z_iload dX6_next_75 rfl ?_
          refine z_iload_n dX6_next_77 rfl rfl ?_
          refine z_icmp_gt 84 dX6_next_78 (by decide) (fun c78 => ?_) (fun c78 => ?_)
          · refine z_iload dX6_next_84 rfl ?_
            refine z_istore_n dX6_next_86 rfl (by decide) rfl ?_
            refine z_iload dX6_next_87 rfl ?_
            refine z_istore_n dX6_next_89 rfl (by decide) rfl ?_
            refine z_iinc (v := nI (i + 1)) dX6_next_90 rfl (nI_succ _).symm (by decide) rfl ?_
            refine z_goto 19 dX6_next_93 (by decide) ?_
            have e1 : a_nx h p m hi mi (i + 1) = (nI i, a_ns h p m hi mi (nI i)) := by simp only [a_nx]; rw [if_pos (show m_X6_canReach h (nI i) p m hi mi from c35), if_neg (show ¬ (((a_nx h p m hi mi i).1) < 0) from c72), if_pos (show ((a_nx h p m hi mi i).2) < (a_ns h p m hi mi (nI i)) from c78)]
            have fin := ih (i + 1) (upd (upd (upd s 29 mi) 30 m) 31 hi) (some (.int 1)) (some (.int (a_ns h p m hi mi (nI i)))) (by omega)
            rw [e1] at fin
            exact fin
          · refine z_goto 90 dX6_next_81 (by decide) ?_
            refine z_iinc (v := nI (i + 1)) dX6_next_90 rfl (nI_succ _).symm (by decide) rfl ?_
            refine z_goto 19 dX6_next_93 (by decide) ?_
            have e1 : a_nx h p m hi mi (i + 1) = a_nx h p m hi mi i := by simp only [a_nx]; rw [if_pos (show m_X6_canReach h (nI i) p m hi mi from c35), if_neg (show ¬ (((a_nx h p m hi mi i).1) < 0) from c72), if_neg (show ¬ (((a_nx h p m hi mi i).2) < (a_ns h p m hi mi (nI i))) from c78)]
            have fin := ih (i + 1) (upd (upd (upd s 29 mi) 30 m) 31 hi) (some (.int 1)) (some (.int (a_ns h p m hi mi (nI i)))) (by omega)
            rw [e1] at fin
            exact fin
      · refine z_vcall vl_X6_329_6 (c_X6_goGlide_n (h := z_sc h (upd (upd (upd s 29 mi) 30 m) 31 hi)) hF g54) dX6_next_54 rfl rfl (hF.1 49 _ rfl) ⟨by decide, by decide⟩ (Nat.le_of_ble_eq_true rfl) (Nat.le_refl _) (Nat.le_refl _) (z_cI ?_) z_tI
        refine z_meq (z_fy (z_sc h (upd (upd (upd s 29 mi) 30 m) 31 hi)) m hi mi) rfl ?_
        refine z_istore dX6_next_57 (by decide) rfl ?_
        refine z_aload_n dX6_next_59 rfl rfl ?_
        refine z_iload dX6_next_60 rfl ?_
        refine z_vcall vl_X6_304_6 (c_X6_climb (h := z_sc h (upd (upd (upd s 29 mi) 30 m) 31 hi)) hF ha hl hv hmi (by omega)) dX6_next_62 rfl rfl (hF.1 49 _ rfl) ⟨by decide, by decide⟩ (Nat.le_of_ble_eq_true rfl) (Nat.le_refl _) (Nat.le_refl _) (z_cI ?_) z_tI
        refine z_eqi (a_ns h p m hi mi (nI i)) (by unfold a_ns; rw [if_neg (show ¬ (m_X6_falls h m (z_I h 52 (z_c (nI i))) p ≤ hi) from g54)]; rfl) ?_
        refine z_istore dX6_next_65 (by decide) rfl ?_
        refine z_aload_n dX6_next_67 rfl rfl ?_
        refine z_vcall vl_X6_335_6 (c_X6_putBack hF) dX6_next_68 rfl rfl (hF.1 49 _ rfl) ⟨by decide, by decide⟩ (Nat.le_of_ble_eq_true rfl) (Nat.le_refl _) (Nat.le_refl _) (z_cV ?_) z_tV
        refine z_meq (z_fy (z_sc h (upd (upd (upd s 29 mi) 30 m) 31 hi)) m hi mi) rfl ?_
        refine z_iload_n dX6_next_71 rfl rfl ?_
        refine z_if_lt 84 dX6_next_72 (by decide) (fun c72 => ?_) (fun c72 => ?_)
        · refine z_iload dX6_next_84 rfl ?_
          refine z_istore_n dX6_next_86 rfl (by decide) rfl ?_
          refine z_iload dX6_next_87 rfl ?_
          refine z_istore_n dX6_next_89 rfl (by decide) rfl ?_
          refine z_iinc (v := nI (i + 1)) dX6_next_90 rfl (nI_succ _).symm (by decide) rfl ?_
          refine z_goto 19 dX6_next_93 (by decide) ?_
          have e1 : a_nx h p m hi mi (i + 1) = (nI i, a_ns h p m hi mi (nI i)) := by simp only [a_nx]; rw [if_pos (show m_X6_canReach h (nI i) p m hi mi from c35), if_pos (show ((a_nx h p m hi mi i).1) < 0 from c72)]
          have fin := ih (i + 1) (upd (upd (upd s 29 mi) 30 m) 31 hi) (some (.int 0)) (some (.int (a_ns h p m hi mi (nI i)))) (by omega)
          rw [e1] at fin
          exact fin
        · refine z_iload dX6_next_75 rfl ?_
          refine z_iload_n dX6_next_77 rfl rfl ?_
          refine z_icmp_gt 84 dX6_next_78 (by decide) (fun c78 => ?_) (fun c78 => ?_)
          · refine z_iload dX6_next_84 rfl ?_
            refine z_istore_n dX6_next_86 rfl (by decide) rfl ?_
            refine z_iload dX6_next_87 rfl ?_
            refine z_istore_n dX6_next_89 rfl (by decide) rfl ?_
            refine z_iinc (v := nI (i + 1)) dX6_next_90 rfl (nI_succ _).symm (by decide) rfl ?_
            refine z_goto 19 dX6_next_93 (by decide) ?_
            have e1 : a_nx h p m hi mi (i + 1) = (nI i, a_ns h p m hi mi (nI i)) := by simp only [a_nx]; rw [if_pos (show m_X6_canReach h (nI i) p m hi mi from c35), if_neg (show ¬ (((a_nx h p m hi mi i).1) < 0) from c72), if_pos (show ((a_nx h p m hi mi i).2) < (a_ns h p m hi mi (nI i)) from c78)]
            have fin := ih (i + 1) (upd (upd (upd s 29 mi) 30 m) 31 hi) (some (.int 0)) (some (.int (a_ns h p m hi mi (nI i)))) (by omega)
            rw [e1] at fin
            exact fin
          · refine z_goto 90 dX6_next_81 (by decide) ?_
            refine z_iinc (v := nI (i + 1)) dX6_next_90 rfl (nI_succ _).symm (by decide) rfl ?_
            refine z_goto 19 dX6_next_93 (by decide) ?_
            have e1 : a_nx h p m hi mi (i + 1) = a_nx h p m hi mi i := by simp only [a_nx]; rw [if_pos (show m_X6_canReach h (nI i) p m hi mi from c35), if_neg (show ¬ (((a_nx h p m hi mi i).1) < 0) from c72), if_neg (show ¬ (((a_nx h p m hi mi i).2) < (a_ns h p m hi mi (nI i))) from c78)]
            have fin := ih (i + 1) (upd (upd (upd s 29 mi) 30 m) 31 hi) (some (.int 0)) (some (.int (a_ns h p m hi mi (nI i)))) (by omega)
            rw [e1] at fin
            exact fin
    · refine z_goto 90 dX6_next_38 (by decide) ?_
      refine z_iinc (v := nI (i + 1)) dX6_next_90 rfl (nI_succ _).symm (by decide) rfl ?_
      refine z_goto 19 dX6_next_93 (by decide) ?_
      have e1 : a_nx h p m hi mi (i + 1) = a_nx h p m hi mi i := by simp only [a_nx]; rw [if_neg (show ¬ (m_X6_canReach h (nI i) p m hi mi) from c35)]
      have fin := ih (i + 1) s o5 o6 (by omega)
      rw [e1] at fin
      exact fin
def m_X6_next (h : z_H) (p m hi mi : Int32) : Int32 := if m_X6_isPace h p then (a_nx h p m hi mi (z_c (z_I h 49 0))).1 else -2
theorem c_X6_next {Γ : z_W} {h : z_H} {s : Nat → Int32} {p m hi mi : Int32} (hk : z_ok h) (hmm : z_in m 0 99) {B : Nat} (hmi : z_cn mi B) (hB : B + 891 < 2 ^ 31) : z_C Γ M_X6_next (z_rm 5 0 0) [.ref 49, .int p] (z_fy (z_sc h s) m hi mi) (z_qi h m hi mi (m_X6_next h p m hi mi)) := by
  obtain ⟨hF, ha, hm, hvs, hws, hho⟩ := id hk
  refine z_C.of (by decide +kernel) rfl [some (.ref 49), some (.int p), none, none, none, none, none] (Nat.le_of_ble_eq_true rfl) rfl ?_
  refine z_aload_n dX6_next_0 rfl rfl ?_
  refine z_iload_n dX6_next_1 rfl rfl ?_
  refine z_vcall vl_X6_326_6 (c_X6_isPace hF) dX6_next_2 rfl rfl (hF.1 49 _ rfl) ⟨by decide, by decide⟩ (Nat.le_of_ble_eq_true rfl) (Nat.le_refl _) (Nat.le_refl _) (z_cI ?_) z_tI
  refine z_bif_ne 11 dX6_next_5 (by decide) (fun c5 => ?_) (fun c5 => ?_)
  · refine z_bipush (v := (-5)) dX6_next_11 rfl ?_
    refine z_istore_n dX6_next_13 rfl (by decide) rfl ?_
    refine z_iconst (v := 0) dX6_next_14 rfl ?_
    refine z_istore_n dX6_next_15 rfl (by decide) rfl ?_
    refine z_iconst (v := 0) dX6_next_16 rfl ?_
    refine z_istore dX6_next_17 (by decide) rfl ?_
    have fin := lp_X6_next (Γ := Γ) (hi := hi) hk c5 hmm hmi hB _ 0 s none none (Nat.zero_add _)
    unfold m_X6_next
    rw [if_pos (show m_X6_isPace h p from c5)]
    exact fin
  · refine z_bipush (v := (-2)) dX6_next_8 rfl ?_
    refine z_iret dX6_next_10 rfl rfl (Nat.le_refl _) (Nat.le_refl _) (z_qi_i ?_)
    unfold m_X6_next; rw [if_neg (show ¬ (m_X6_isPace h p) from c5)]
