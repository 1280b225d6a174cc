/-! THE REFERENCE: loops over lifts and minutes (printed by model7.py) -/
set_option maxRecDepth 20000
/-- an answer, and nothing changed but the reference's own notes -/
def z_qi (h : z_H) (m hi mi r : Int32) : Outcome → z_H → Prop := fun o h' => ∃ s', o = .returned (some (.int r)) ∧ h' = z_fy (z_sc h s') m hi mi
def z_ql (h : z_H) (m hi mi : Int32) (r : Int64) : Outcome → z_H → Prop := fun o h' => ∃ s', o = .returned (some (.long r)) ∧ h' = z_fy (z_sc h s') m hi mi
def z_qv (h : z_H) (m hi mi : Int32) : Outcome → z_H → Prop := fun o h' => ∃ s', o = .returned none ∧ h' = z_fy (z_sc h s') m hi mi
section ZQI
variable {Γ : z_W} {M : z_M} {rm : Room} {Q : Outcome → z_H → Prop} {cs ss pc : Nat} {ls : List (Option Value)} {st rest : List Value} {h : z_H} {m hi mi : Int32}
theorem z_qi_i {v r : Int32} {s : Nat → Int32} (e : v = r) : z_qi h m hi mi r (.returned (some (.int v))) (z_fy (z_sc h s) m hi mi) := ⟨s, by rw [e], rfl⟩
theorem z_ql_i {v r : Int64} {s : Nat → Int32} (e : v = r) : z_ql h m hi mi r (.returned (some (.long v))) (z_fy (z_sc h s) m hi mi) := ⟨s, by rw [e], rfl⟩
theorem z_qv_i {s : Nat → Int32} : z_qv h m hi mi (.returned none) (z_fy (z_sc h s) m hi mi) := ⟨s, rfl, rfl⟩
theorem z_cQ {r : Int32} (kk : ∀ s, z_G Γ M rm Q cs ss pc ls (.int r :: rest) (z_fy (z_sc h s) m hi mi)) : ∀ v h', z_qi h m hi mi r (.returned v) h' → z_G Γ M rm Q cs ss pc ls (v.toList ++ rest) h' := by
  intro v h' q
  obtain ⟨s, q1, rfl⟩ := q
  cases q1
  exact kk s
theorem z_cQL {r : Int64} (kk : ∀ s, z_G Γ M rm Q cs ss pc ls (.long r :: rest) (z_fy (z_sc h s) m hi mi)) : ∀ v h', z_ql h m hi mi r (.returned v) h' → z_G Γ M rm Q cs ss pc ls (v.toList ++ rest) h' := by
  intro v h' q
  obtain ⟨s, q1, rfl⟩ := q
  cases q1
  exact kk s
theorem z_cQV (kk : ∀ s, z_G Γ M rm Q cs ss pc ls rest (z_fy (z_sc h s) m hi mi)) : ∀ v h', z_qv h m hi mi (.returned v) h' → z_G Γ M rm Q cs ss pc ls (v.toList ++ rest) h' := by
  intro v h' q
  obtain ⟨s, q1, rfl⟩ := q
  cases q1
  exact kk s
theorem z_tQ {r : Int32} {P : Nat → z_H → Prop} : ∀ x h', z_qi h m hi mi r (.threw x) h' → P x h' := fun x h' q => by obtain ⟨s, q1, -⟩ := q; cases q1
theorem z_tQL {r : Int64} {P : Nat → z_H → Prop} : ∀ x h', z_ql h m hi mi r (.threw x) h' → P x h' := fun x h' q => by obtain ⟨s, q1, -⟩ := q; cases q1
theorem z_tQV {P : Nat → z_H → Prop} : ∀ x h', z_qv h m hi mi (.threw x) h' → P x h' := fun x h' q => by obtain ⟨s, q1, -⟩ := q; cases q1
end ZQI
/-- one is in no lift, or in one that is -/
def z_inl (h : z_H) : Prop := 0 ≤ z_I h 49 4 → z_I h 49 4 = nI (z_c (z_I h 49 4)) ∧ z_c (z_I h 49 4) < z_c (z_I h 49 0)
theorem lp_X6_turn {Γ : z_W} {h : z_H} {s : Nat → Int32} {m hi mi : Int32} (hk : z_ok h) (hl : z_I h 49 4 = nI (z_c (z_I h 49 4)) ∧ z_c (z_I h 49 4) < z_c (z_I h 49 0)) {B : Nat} (hmi : z_cn mi B) {N : Nat} (hN : N ≤ 60) (hB : B + 60 < 2 ^ 31) : ∀ (r i : Nat), i + r = N →
    z_G Γ M_X6_turn (z_rm 6 0 0) (z_ri (a_it h (z_I h 49 4) m hi mi N).1 (z_fy (z_sc h s) m ((a_it h (z_I h 49 4) m hi mi N).1) ((a_it h (z_I h 49 4) m hi mi N).2))) 0 0 35 [some (.ref 49), some (.int (nI N)), some (.int (nI i))] [] (z_fy (z_sc h s) m ((a_it h (z_I h 49 4) m hi mi i).1) ((a_it h (z_I h 49 4) m hi mi i).2)) := by
  obtain ⟨hF, ha, hm, hvs, hws, hho⟩ := id hk
  have hv := hvs _ hl.2
  have hl : z_I h 49 4 = nI (z_c (z_I h 49 4)) ∧ z_c (z_I h 49 4) < 6 := ⟨hl.1, by have := hl.2; have := hm.2; omega⟩
  intro r
  induction r with
  | zero =>
    intro i hi0
    have hi1 : i = N := by omega
    subst hi1
    refine z_iload_n dX6_turn_35 rfl rfl ?_
    refine z_iload_n dX6_turn_36 rfl rfl ?_
    refine z_icmp_ge 54 dX6_turn_37 (by decide) (fun _ => ?_) (fun q => by first | exact absurd (Int32.le_refl _) q | exact absurd q (Int32.le_refl _))
    refine z_aload_n dX6_turn_54 rfl rfl ?_
    refine z_getI dX6_turn_55 fl_X6_19_6 (hF.1 49 _ rfl) rfl ?_
    refine z_eqi ((a_it h (z_I h 49 4) m hi mi i).1) rfl ?_
    refine z_iret dX6_turn_58 rfl rfl (Nat.le_refl _) (Nat.le_refl _) (z_ri_i ?_ ?_)
    · rfl
    · rfl
  | succ r ih =>
    intro i hi0
    have hmi2 := z_cn_it (h := h) (l := z_I h 49 4) (m := m) (hi := hi) (n := i) hmi (by omega)
    refine z_iload_n dX6_turn_35 rfl rfl ?_
    refine z_iload_n dX6_turn_36 rfl rfl ?_
    refine z_icmp_ge 54 dX6_turn_37 (by decide) (fun q => by first | exact absurd q (nI_ge (show i < N by omega) (by omega)) | exact absurd (nI_ge (show i < N by omega) (by omega)) q) (fun _ => ?_)
    refine z_aload_n dX6_turn_40 rfl rfl ?_
    refine z_aload_n dX6_turn_41 rfl rfl ?_
    refine z_getI dX6_turn_42 fl_X6_22_6 (hF.1 49 _ rfl) rfl ?_
    refine z_eqi (z_I h 49 4) rfl ?_
    refine z_vcall vl_X6_323_6 (c_X6_goMinute (h := z_sc h s) hF ha hl hv hmi2 (by omega)) dX6_turn_45 rfl rfl (hF.1 49 _ rfl) ⟨by decide, by decide⟩ (Nat.le_of_ble_eq_true rfl) (Nat.le_refl _) (Nat.le_refl _) (z_cV ?_) z_tV
    refine z_meq (z_fy (z_sc h s) m ((a_it h (z_I h 49 4) m hi mi (i + 1)).1) ((a_it h (z_I h 49 4) m hi mi (i + 1)).2)) rfl ?_
    refine z_iinc (v := nI (i + 1)) dX6_turn_48 rfl (nI_succ _).symm (by decide) rfl ?_
    refine z_goto 35 dX6_turn_51 (by decide) ?_
    exact ih (i + 1) (by omega)
def m_X6_turn (h : z_H) (s : Nat → Int32) (n m hi mi : Int32) : Int32 × z_H := if m_X6_isTime h n then (if z_I h 49 4 < 0 then (-3, z_fy (z_sc h s) m hi mi) else if mi + n ≤ 9999 then ((a_it h (z_I h 49 4) m hi mi (z_c n)).1, z_fy (z_sc h s) m ((a_it h (z_I h 49 4) m hi mi (z_c n)).1) ((a_it h (z_I h 49 4) m hi mi (z_c n)).2)) else (-3, z_fy (z_sc h s) m hi mi)) else (-2, z_fy (z_sc h s) m hi mi)
theorem c_X6_turn {Γ : z_W} {h : z_H} {s : Nat → Int32} {n m hi mi : Int32} (hk : z_ok h) (hin : z_inl h) {B : Nat} (hmi : z_cn mi B) (hB : B + 60 < 2 ^ 31) : z_C Γ M_X6_turn (z_rm 6 0 0) [.ref 49, .int n] (z_fy (z_sc h s) m hi mi) (z_ri (m_X6_turn h s n m hi mi).1 (m_X6_turn h s n m hi mi).2) := by
  obtain ⟨hF, ha, hm, hvs, hws, hho⟩ := id hk
  refine z_C.of (by decide +kernel) rfl [some (.ref 49), some (.int n), none] (Nat.le_of_ble_eq_true rfl) rfl ?_
  refine z_aload_n dX6_turn_0 rfl rfl ?_
  refine z_iload_n dX6_turn_1 rfl rfl ?_
  refine z_vcall vl_X6_320_6 (c_X6_isTime hF) dX6_turn_2 rfl rfl (hF.1 49 _ rfl) ⟨by decide, by decide⟩ (Nat.le_of_ble_eq_true rfl) (Nat.le_refl _) (Nat.le_refl _) (z_cI ?_) z_tI
  refine z_bif_ne 11 dX6_turn_5 (by decide) (fun c5 => ?_) (fun c5 => ?_)
  · have hn := z_pl2 (n := 60) rfl (by decide) c5
    refine z_aload_n dX6_turn_11 rfl rfl ?_
    refine z_getI dX6_turn_12 fl_X6_22_6 (hF.1 49 _ rfl) rfl ?_
    refine z_eqi (z_I h 49 4) rfl ?_
    refine z_if_lt 30 dX6_turn_15 (by decide) (fun c15 => ?_) (fun c15 => ?_)
    · refine z_bipush (v := (-3)) dX6_turn_30 rfl ?_
      refine z_iret dX6_turn_32 rfl rfl (Nat.le_refl _) (Nat.le_refl _) (z_ri_i ?_ ?_)
      · unfold m_X6_turn; rw [if_pos (show m_X6_isTime h n from c5), if_pos (show (z_I h 49 4) < 0 from c15)]
      · unfold m_X6_turn; rw [if_pos (show m_X6_isTime h n from c5), if_pos (show (z_I h 49 4) < 0 from c15)]
    · refine z_aload_n dX6_turn_18 rfl rfl ?_
      refine z_getI dX6_turn_19 fl_X6_13_6 (hF.1 49 _ rfl) rfl ?_
      refine z_eqi (mi) rfl ?_
      refine z_iload_n dX6_turn_22 rfl rfl ?_
      refine z_iadd dX6_turn_23 ?_
      refine z_sipush (v := 9999) dX6_turn_24 rfl ?_
      refine z_icmp_le 33 dX6_turn_27 (by decide) (fun c27 => ?_) (fun c27 => ?_)
      · refine z_iconst (v := 0) dX6_turn_33 rfl ?_
        refine z_istore_n dX6_turn_34 rfl (by decide) rfl ?_
        have fin := lp_X6_turn (Γ := Γ) (s := s) (m := m) (hi := hi) hk (hin (Int32.not_lt.mp c15)) hmi hn.2 hB _ 0 (Nat.zero_add _)
        rw [← hn.1] at fin
        unfold m_X6_turn
        rw [if_pos (show m_X6_isTime h n from c5), if_neg (show ¬ ((z_I h 49 4) < 0) from c15), if_pos (show (mi + n) ≤ 9999 from c27)]
        exact fin
      · refine z_bipush (v := (-3)) dX6_turn_30 rfl ?_
        refine z_iret dX6_turn_32 rfl rfl (Nat.le_refl _) (Nat.le_refl _) (z_ri_i ?_ ?_)
        · unfold m_X6_turn; rw [if_pos (show m_X6_isTime h n from c5), if_neg (show ¬ ((z_I h 49 4) < 0) from c15), if_neg (show ¬ ((mi + n) ≤ 9999) from c27)]
        · unfold m_X6_turn; rw [if_pos (show m_X6_isTime h n from c5), if_neg (show ¬ ((z_I h 49 4) < 0) from c15), if_neg (show ¬ ((mi + n) ≤ 9999) from c27)]
  · refine z_bipush (v := (-2)) dX6_turn_8 rfl ?_
    refine z_iret dX6_turn_10 rfl rfl (Nat.le_refl _) (Nat.le_refl _) (z_ri_i ?_ ?_)
    · unfold m_X6_turn; rw [if_neg (show ¬ (m_X6_isTime h n) from c5)]
    · unfold m_X6_turn; rw [if_neg (show ¬ (m_X6_isTime h n) from c5)]
def a_tp (h : z_H) (l m hi mi : Int32) : Nat → Int32 × Int32
  | 0 => (hi, 0)
  | n + 1 => if (a_tp h l m hi mi n).1 < (a_it h l m hi mi (n + 1)).1 then ((a_it h l m hi mi (n + 1)).1, nI (n + 1)) else a_tp h l m hi mi n
theorem z_61 {i : Nat} (h : i < 60) : ¬ (61 : Int32) ≤ nI (i + 1) := nI_ge (b := 61) (by omega) (by decide)
theorem lp_X6_top {Γ : z_W} {h : z_H} {s : Nat → Int32} {l w m hi mi : Int32} (hk : z_ok h) (hl : l = nI (z_c l) ∧ z_c l < z_c (z_I h 49 0)) {B : Nat} (hmi : z_cn mi B) (hB : B + 60 < 2 ^ 31) : ∀ (r i : Nat), i + r = 60 →
    z_G Γ M_X6_top (z_rm 6 0 0) (z_qi h m hi mi (if w = 0 then (a_tp h l m hi mi 60).1 else (a_tp h l m hi mi 60).2)) 0 0 35 [some (.ref 49), some (.int l), some (.int w), some (.int ((a_tp h l m hi mi i).1)), some (.int ((a_tp h l m hi mi i).2)), some (.int (nI (i + 1)))] [] (z_fy (z_sc h (upd (upd (upd s 29 mi) 30 m) 31 hi)) m ((a_it h l m hi mi i).1) ((a_it h l m hi mi i).2)) := by
  obtain ⟨hF, ha, hm, hvs, hws, hho⟩ := id hk
  have hv := hvs _ hl.2
  have hl : l = nI (z_c l) ∧ z_c l < 6 := ⟨hl.1, by have := hl.2; have := hm.2; omega⟩
  intro r
  induction r with
  | zero =>
    intro i hi0
    have hi1 : i = 60 := by omega
    subst hi1
    refine z_iload dX6_top_35 rfl ?_
    refine z_bipush (v := 61) dX6_top_37 rfl ?_
    refine z_icmp_ge 73 dX6_top_39 (by decide) (fun _ => ?_) (fun q => by first | exact absurd (show (61 : Int32) ≤ nI (60 + 1) by decide) q | exact absurd q (show (61 : Int32) ≤ nI (60 + 1) by decide))
    refine z_aload_n dX6_top_73 rfl rfl ?_
    refine z_vcall vl_X6_335_6 (c_X6_putBack hF) dX6_top_74 rfl rfl (hF.1 49 _ rfl) ⟨by decide, by decide⟩ (Nat.le_of_ble_eq_true rfl) (Nat.le_refl _) (Nat.le_refl _) (z_cV ?_) z_tV
    refine z_meq (z_fy (z_sc h (upd (upd (upd s 29 mi) 30 m) 31 hi)) m hi mi) rfl ?_
    refine z_iload_n dX6_top_77 rfl rfl ?_
    refine z_if_ne 85 dX6_top_78 (by decide) (fun c78 => ?_) (fun c78 => ?_)
    · refine z_iload dX6_top_85 rfl ?_
      refine z_iret dX6_top_87 rfl rfl (Nat.le_refl _) (Nat.le_refl _) (z_qi_i ?_)
      rw [if_neg (show ¬ (w = 0) from c78)]
    · refine z_iload_n dX6_top_81 rfl rfl ?_
      refine z_goto 87 dX6_top_82 (by decide) ?_
      refine z_iret dX6_top_87 rfl rfl (Nat.le_refl _) (Nat.le_refl _) (z_qi_i ?_)
      rw [if_pos (show w = 0 from c78)]
  | succ r ih =>
    intro i hi0
    have hmi2 := z_cn_it (h := h) (l := l) (m := m) (hi := hi) (n := i) hmi (by omega)
    refine z_iload dX6_top_35 rfl ?_
    refine z_bipush (v := 61) dX6_top_37 rfl ?_
    refine z_icmp_ge 73 dX6_top_39 (by decide) (fun q => by first | exact absurd q (z_61 (by omega)) | exact absurd (z_61 (by omega)) q) (fun _ => ?_)
    refine z_aload_n dX6_top_42 rfl rfl ?_
    refine z_iload_n dX6_top_43 rfl rfl ?_
    refine z_vcall vl_X6_323_6 (c_X6_goMinute (h := z_sc h (upd (upd (upd s 29 mi) 30 m) 31 hi)) hF ha hl hv hmi2 (by omega)) dX6_top_44 rfl rfl (hF.1 49 _ rfl) ⟨by decide, by decide⟩ (Nat.le_of_ble_eq_true rfl) (Nat.le_refl _) (Nat.le_refl _) (z_cV ?_) z_tV
    refine z_meq (z_fy (z_sc h (upd (upd (upd s 29 mi) 30 m) 31 hi)) m ((a_it h l m hi mi (i + 1)).1) ((a_it h l m hi mi (i + 1)).2)) rfl ?_
    refine z_aload_n dX6_top_47 rfl rfl ?_
    refine z_getI dX6_top_48 fl_X6_19_6 (hF.1 49 _ rfl) rfl ?_
    refine z_eqi ((a_it h l m hi mi (i + 1)).1) rfl ?_
    refine z_iload_n dX6_top_51 rfl rfl ?_
    refine z_icmp_gt 58 dX6_top_52 (by decide) (fun c52 => ?_) (fun c52 => ?_)
    · refine z_aload_n dX6_top_58 rfl rfl ?_
      refine z_getI dX6_top_59 fl_X6_19_6 (hF.1 49 _ rfl) rfl ?_
      refine z_eqi ((a_it h l m hi mi (i + 1)).1) rfl ?_
      refine z_istore_n dX6_top_62 rfl (by decide) rfl ?_
      refine z_iload dX6_top_63 rfl ?_
      refine z_istore dX6_top_65 (by decide) rfl ?_
      refine z_iinc (v := nI (i + 1 + 1)) dX6_top_67 rfl (nI_succ _).symm (by decide) rfl ?_
      refine z_goto 35 dX6_top_70 (by decide) ?_
      have e1 : a_tp h l m hi mi (i + 1) = ((a_it h l m hi mi (i + 1)).1, nI (i + 1)) := by simp only [a_tp]; rw [if_pos (show ((a_tp h l m hi mi i).1) < ((a_it h l m hi mi (i + 1)).1) from c52)]
      have fin := ih (i + 1) (by omega)
      rw [e1] at fin
      exact fin
    · refine z_goto 67 dX6_top_55 (by decide) ?_
      refine z_iinc (v := nI (i + 1 + 1)) dX6_top_67 rfl (nI_succ _).symm (by decide) rfl ?_
      refine z_goto 35 dX6_top_70 (by decide) ?_
      have e1 : a_tp h l m hi mi (i + 1) = a_tp h l m hi mi i := by simp only [a_tp]; rw [if_neg (show ¬ (((a_tp h l m hi mi i).1) < ((a_it h l m hi mi (i + 1)).1)) from c52)]
      have fin := ih (i + 1) (by omega)
      rw [e1] at fin
      exact fin
def m_X6_top (h : z_H) (l w m hi mi : Int32) : Int32 := if m_X6_isLift h l then (if z_in w 0 1 then (if w = 0 then (a_tp h l m hi mi 60).1 else (a_tp h l m hi mi 60).2) else -1) else -1
theorem c_X6_top {Γ : z_W} {h : z_H} {s : Nat → Int32} {l w m hi mi : Int32} (hk : z_ok h) {B : Nat} (hmi : z_cn mi B) (hB : B + 60 < 2 ^ 31) : z_C Γ M_X6_top (z_rm 6 0 0) [.ref 49, .int l, .int w] (z_fy (z_sc h s) m hi mi) (z_qi h m hi mi (m_X6_top h l w m hi mi)) := by
  obtain ⟨hF, ha, hm, hvs, hws, hho⟩ := id hk
  refine z_C.of (by decide +kernel) rfl [some (.ref 49), some (.int l), some (.int w), none, none, none] (Nat.le_of_ble_eq_true rfl) rfl ?_
  refine z_aload_n dX6_top_0 rfl rfl ?_
  refine z_iload_n dX6_top_1 rfl rfl ?_
  refine z_vcall vl_X6_235_6 (c_X6_isLift hF) dX6_top_2 rfl rfl (hF.1 49 _ rfl) ⟨by decide, by decide⟩ (Nat.le_of_ble_eq_true rfl) (Nat.le_refl _) (Nat.le_refl _) (z_cI ?_) z_tI
  refine z_bif_eq 18 dX6_top_5 (by decide) (fun c5 => ?_) (fun c5 => ?_)
  · refine z_iconst (v := (-1)) dX6_top_18 rfl ?_
    refine z_iret dX6_top_19 rfl rfl (Nat.le_refl _) (Nat.le_refl _) (z_qi_i ?_)
    unfold m_X6_top; rw [if_neg (show ¬ (m_X6_isLift h l) from c5)]
  · have hl := z_ix hm (by decide) c5
    refine z_aload_n dX6_top_8 rfl rfl ?_
    refine z_iload_n dX6_top_9 rfl rfl ?_
    refine z_iconst (v := 0) dX6_top_10 rfl ?_
    refine z_iconst (v := 1) dX6_top_11 rfl ?_
    refine z_vcall vl_X6_227_6 (c_X6_in hF) dX6_top_12 rfl rfl (hF.1 49 _ rfl) ⟨by decide, by decide⟩ (Nat.le_of_ble_eq_true rfl) (Nat.le_refl _) (Nat.le_refl _) (z_cI ?_) z_tI
    refine z_bif_ne 20 dX6_top_15 (by decide) (fun c15 => ?_) (fun c15 => ?_)
    · refine z_aload_n dX6_top_20 rfl rfl ?_
      refine z_vcall vl_X6_332_6 (c_X6_save hF) dX6_top_21 rfl rfl (hF.1 49 _ rfl) ⟨by decide, by decide⟩ (Nat.le_of_ble_eq_true rfl) (Nat.le_refl _) (Nat.le_refl _) (z_cV ?_) z_tV
      refine z_aload_n dX6_top_24 rfl rfl ?_
      refine z_getI dX6_top_25 fl_X6_19_6 (hF.1 49 _ rfl) rfl ?_
      refine z_eqi (hi) rfl ?_
      refine z_istore_n dX6_top_28 rfl (by decide) rfl ?_
      refine z_iconst (v := 0) dX6_top_29 rfl ?_
      refine z_istore dX6_top_30 (by decide) rfl ?_
      refine z_iconst (v := 1) dX6_top_32 rfl ?_
      refine z_istore dX6_top_33 (by decide) rfl ?_
      have fin := lp_X6_top (Γ := Γ) (s := s) (w := w) (m := m) (hi := hi) hk hl hmi hB 60 0 (Nat.zero_add _)
      unfold m_X6_top
      rw [if_pos (show m_X6_isLift h l from c5), if_pos (show z_in w 0 1 from c15)]
      exact fin
    · refine z_iconst (v := (-1)) dX6_top_18 rfl ?_
      refine z_iret dX6_top_19 rfl rfl (Nat.le_refl _) (Nat.le_refl _) (z_qi_i ?_)
      unfold m_X6_top; rw [if_pos (show m_X6_isLift h l from c5), if_neg (show ¬ (z_in w 0 1) from c15)]
