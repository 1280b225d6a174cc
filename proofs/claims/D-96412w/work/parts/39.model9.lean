/-! THE REFERENCE: ways home (printed by model9.py) -/
set_option maxRecDepth 20000
/-- in a lift till it is enough, so long at most: height, minutes -/
def a_rs (h : z_H) (l m due : Int32) : Nat → Int32 → Int32 → Int32 × Int32
  | 0, hi, mi => (hi, mi)
  | n + 1, hi, mi => if due ≤ hi then (hi, mi) else a_rs h l m due n (a_hi h l m hi mi) (mi + 1)
theorem z_cn_1 {x : Int32} {B : Nat} (h : z_cn x B) (hB : B + 1 < 2 ^ 31) : z_cn (x + 1) (B + 1) := z_cn_add (n := 1) h hB
theorem z_cn_rs {h : z_H} {l m due : Int32} : ∀ (n : Nat) (hi mi : Int32) (B : Nat), z_cn mi B → B + n < 2 ^ 31 → z_cn (a_rs h l m due n hi mi).2 (B + n)
  | 0, hi, mi, B, h1, h2 => h1
  | n + 1, hi, mi, B, h1, h2 => by
    unfold a_rs
    by_cases c : due ≤ hi
    · rw [if_pos c]; exact z_cn_le h1 (by omega)
    · rw [if_neg c]
      have := z_cn_rs (h := h) (l := l) (m := m) (due := due) n (a_hi h l m hi mi) (mi + 1) (B + 1) (z_cn_1 h1 (by omega)) (by omega)
      exact z_cn_le this (by omega)
theorem lp_X6_rises {Γ : z_W} {h : z_H} {s : Nat → Int32} {l m due : Int32} {o2 o3 : Option Value} (hk : z_ok h) (hl : l = nI (z_c l) ∧ z_c l < z_c (z_I h 49 0)) {B N : Nat} (hN : N ≤ 60) (hB : B + 60 < 2 ^ 31) : ∀ (r i : Nat) (hi mi : Int32), i + r = N → z_cn mi (B + i) →
    z_G Γ M_X6_rises (z_rm 6 0 0) (z_ri (z_b (due ≤ (a_rs h l m due r hi mi).1)) (z_fy (z_sc h (upd s 32 ((a_rs h l m due r hi mi).1))) m ((a_rs h l m due r hi mi).1) ((a_rs h l m due r hi mi).2))) 0 0 22 [some (.ref 49), some (.int l), o2, o3, some (.int (nI N)), some (.int due), some (.int (nI i))] [] (z_fy (z_sc h s) m hi mi) := by
  obtain ⟨hF, ha, hm, hvs, hws, hho⟩ := id hk
  have hv := hvs _ hl.2
  have hl : l = nI (z_c l) ∧ z_c l < 6 := ⟨hl.1, by have := hl.2; have := hm.2; omega⟩
  intro r
  induction r with
  | zero =>
    intro i hi mi hi0 hmi2
    have hi0 : i = N := by omega
    subst hi0
    refine z_iload dX6_rises_22 rfl ?_
    refine z_iload dX6_rises_24 rfl ?_
    refine z_icmp_ge 49 dX6_rises_26 (by decide) (fun _ => ?_) (fun q => by first | exact absurd (Int32.le_refl _) q | exact absurd q (Int32.le_refl _))
    refine z_aload_n dX6_rises_49 rfl rfl ?_
    refine z_aload_n dX6_rises_50 rfl rfl ?_
    refine z_getI dX6_rises_51 fl_X6_19_6 (hF.1 49 _ rfl) rfl ?_
    refine z_eqi (hi) rfl ?_
    refine z_putI dX6_rises_54 (pl_X6_108_6 rfl) (hF.1 49 _ rfl) (by decide) rfl ?_
    refine z_meq (z_fy (z_sc h (upd s 32 hi)) m hi mi) ((z_fy_sI (by decide)).trans (congrArg (fun g => z_fy g _ _ _) (z_sc_s (by decide)))) ?_
    refine z_aload_n dX6_rises_57 rfl rfl ?_
    refine z_getI dX6_rises_58 fl_X6_19_6 (hF.1 49 _ rfl) rfl ?_
    refine z_eqi (hi) rfl ?_
    refine z_iload dX6_rises_61 rfl ?_
    refine z_icmp_lt 70 dX6_rises_63 (by decide) (fun c63 => ?_) (fun c63 => ?_)
    · refine z_iconst (v := 0) dX6_rises_70 rfl ?_
      refine z_iret dX6_rises_71 rfl rfl (Nat.le_refl _) (Nat.le_refl _) (z_ri_i ?_ ?_)
      · exact (z_b0 (Int32.not_le.mpr c63)).symm
      · rfl
    · refine z_iconst (v := 1) dX6_rises_66 rfl ?_
      refine z_goto 71 dX6_rises_67 (by decide) ?_
      refine z_iret dX6_rises_71 rfl rfl (Nat.le_refl _) (Nat.le_refl _) (z_ri_i ?_ ?_)
      · exact (z_b1 (Int32.not_lt.mp c63)).symm
      · rfl
  | succ r ih =>
    intro i hi mi hi0 hmi2
    refine z_iload dX6_rises_22 rfl ?_
    refine z_iload dX6_rises_24 rfl ?_
    refine z_icmp_ge 49 dX6_rises_26 (by decide) (fun q => by first | exact absurd q (nI_ge (show i < N by omega) (by omega)) | exact absurd (nI_ge (show i < N by omega) (by omega)) q) (fun _ => ?_)
    refine z_aload_n dX6_rises_29 rfl rfl ?_
    refine z_getI dX6_rises_30 fl_X6_19_6 (hF.1 49 _ rfl) rfl ?_
    refine z_eqi (hi) rfl ?_
    refine z_iload dX6_rises_33 rfl ?_
    refine z_icmp_ge 49 dX6_rises_35 (by decide) (fun c35 => ?_) (fun c35 => ?_)
    · refine z_aload_n dX6_rises_49 rfl rfl ?_
      refine z_aload_n dX6_rises_50 rfl rfl ?_
      refine z_getI dX6_rises_51 fl_X6_19_6 (hF.1 49 _ rfl) rfl ?_
      refine z_eqi (hi) rfl ?_
      refine z_putI dX6_rises_54 (pl_X6_108_6 rfl) (hF.1 49 _ rfl) (by decide) rfl ?_
      refine z_meq (z_fy (z_sc h (upd s 32 hi)) m hi mi) ((z_fy_sI (by decide)).trans (congrArg (fun g => z_fy g _ _ _) (z_sc_s (by decide)))) ?_
      refine z_aload_n dX6_rises_57 rfl rfl ?_
      refine z_getI dX6_rises_58 fl_X6_19_6 (hF.1 49 _ rfl) rfl ?_
      refine z_eqi (hi) rfl ?_
      refine z_iload dX6_rises_61 rfl ?_
      refine z_icmp_lt 70 dX6_rises_63 (by decide) (fun c63 => ?_) (fun c63 => ?_)
      · refine z_iconst (v := 0) dX6_rises_70 rfl ?_
        refine z_iret dX6_rises_71 rfl rfl (Nat.le_refl _) (Nat.le_refl _) (z_ri_i ?_ ?_)
        · rw [show a_rs h l m due (r + 1) hi mi = (hi, mi) by rw [a_rs, if_pos c35]]; exact absurd c35 (Int32.not_le.mpr c63)
        · rw [show a_rs h l m due (r + 1) hi mi = (hi, mi) by rw [a_rs, if_pos c35]]
      · refine z_iconst (v := 1) dX6_rises_66 rfl ?_
        refine z_goto 71 dX6_rises_67 (by decide) ?_
        refine z_iret dX6_rises_71 rfl rfl (Nat.le_refl _) (Nat.le_refl _) (z_ri_i ?_ ?_)
        · rw [show a_rs h l m due (r + 1) hi mi = (hi, mi) by rw [a_rs, if_pos c35]]; exact (z_b1 c35).symm
        · rw [show a_rs h l m due (r + 1) hi mi = (hi, mi) by rw [a_rs, if_pos c35]]
    · refine z_aload_n dX6_rises_38 rfl rfl ?_
      refine z_iload_n dX6_rises_39 rfl rfl ?_
      refine z_vcall vl_X6_323_6 (c_X6_goMinute (h := z_sc h s) hF ha hl hv hmi2 (by omega)) dX6_rises_40 rfl rfl (hF.1 49 _ rfl) ⟨by decide, by decide⟩ (Nat.le_of_ble_eq_true rfl) (Nat.le_refl _) (Nat.le_refl _) (z_cV ?_) z_tV
      refine z_iinc (v := nI (i + 1)) dX6_rises_43 rfl (nI_succ _).symm (by decide) rfl ?_
      refine z_goto 22 dX6_rises_46 (by decide) ?_
      have fin := ih (i + 1) (a_hi h l m hi mi) (mi + 1) (by omega) (z_cn_1 (B := B + i) hmi2 (by omega))
      have e1 : a_rs h l m due (r + 1) hi mi = a_rs h l m due r (a_hi h l m hi mi) (mi + 1) := by rw [a_rs, if_neg c35]
      rw [e1]
      exact fin
theorem c_X6_rises {Γ : z_W} {h : z_H} {s : Nat → Int32} {l t p m hi mi : Int32} (hk : z_ok h) (hl : l = nI (z_c l) ∧ z_c l < z_c (z_I h 49 0)) {B : Nat} (hmi : z_cn mi B) {N : Nat} (hN : N ≤ 60) (hB : B + 60 < 2 ^ 31) : z_C Γ M_X6_rises (z_rm 6 0 0) [.ref 49, .int l, .int t, .int p, .int (nI N)] (z_fy (z_sc h s) m hi mi) (z_ri (z_b (m_X6_falls h (z_I h 52 (z_c l)) t p + m_X6_safe h ≤ (a_rs h l m (m_X6_falls h (z_I h 52 (z_c l)) t p + m_X6_safe h) N hi mi).1)) (z_fy (z_sc h (upd s 32 (a_rs h l m (m_X6_falls h (z_I h 52 (z_c l)) t p + m_X6_safe h) N hi mi).1)) m (a_rs h l m (m_X6_falls h (z_I h 52 (z_c l)) t p + m_X6_safe h) N hi mi).1 (a_rs h l m (m_X6_falls h (z_I h 52 (z_c l)) t p + m_X6_safe h) N hi mi).2)) := by
  obtain ⟨hF, ha, hm, hvs, hws, hho⟩ := id hk
  have hl2 := hl
  have hl : l = nI (z_c l) ∧ z_c l < 6 := ⟨hl.1, by have := hl.2; have := hm.2; omega⟩
  refine z_C.of (by decide +kernel) rfl [some (.ref 49), some (.int l), some (.int t), some (.int p), some (.int (nI N)), none, none] (Nat.le_of_ble_eq_true rfl) rfl ?_
  refine z_aload_n dX6_rises_0 rfl rfl ?_
  refine z_aload_n dX6_rises_1 rfl rfl ?_
  refine z_getR 52 dX6_rises_2 fl_X6_35_6 (hF.1 49 _ rfl) rfl (hF.2.1 49 8 52 rfl) ?_
  refine z_iload_n dX6_rises_5 rfl rfl ?_
  refine z_iald (z_c l) dX6_rises_6 (hF.1 52 _ rfl) (hl).1 (by have := (hl).2; omega) (by decide) ?_
  refine z_eqi (z_I h 52 (z_c l)) rfl ?_
  refine z_iload_n dX6_rises_7 rfl rfl ?_
  refine z_iload_n dX6_rises_8 rfl rfl ?_
  refine z_vcall vl_X6_316_6 (c_X6_falls hF) dX6_rises_9 rfl rfl (hF.1 49 _ rfl) ⟨by decide, by decide⟩ (Nat.le_of_ble_eq_true rfl) (Nat.le_refl _) (Nat.le_refl _) (z_cI ?_) z_tI
  refine z_eqi (m_X6_falls h (z_I h 52 (z_c l)) t p) rfl ?_
  refine z_aload_n dX6_rises_12 rfl rfl ?_
  refine z_vcall vl_X6_310_6 (c_X6_safe (h := z_fy (z_sc h s) m hi mi) hF ha) dX6_rises_13 rfl rfl (hF.1 49 _ rfl) ⟨by decide, by decide⟩ (Nat.le_of_ble_eq_true rfl) (Nat.le_refl _) (Nat.le_refl _) (z_cI ?_) z_tI
  refine z_eqi (m_X6_safe h) rfl ?_
  refine z_iadd dX6_rises_16 ?_
  refine z_istore dX6_rises_17 (by decide) rfl ?_
  refine z_iconst (v := 0) dX6_rises_19 rfl ?_
  refine z_istore dX6_rises_20 (by decide) rfl ?_
  exact lp_X6_rises hk hl2 hN hB N 0 hi mi (Nat.zero_add _) hmi
def m_X6_byOf1 (h : z_H) (l p m hi mi : Int32) : Int32 :=
  if m_X6_falls h m (z_I h 52 (z_c l)) p ≤ hi then
    if m_X6_falls h (z_I h 52 (z_c l)) (z_I h 49 5) p + m_X6_safe h ≤ (a_rs h l (z_I h 52 (z_c l)) (m_X6_falls h (z_I h 52 (z_c l)) (z_I h 49 5) p + m_X6_safe h) 60 (hi - m_X6_falls h m (z_I h 52 (z_c l)) p) (mi + m_X6_apart h m (z_I h 52 (z_c l)) * (10 - p))).1 then
      if m_X6_falls h (z_I h 52 (z_c l)) (z_I h 49 5) p ≤ ((a_rs h l (z_I h 52 (z_c l)) (m_X6_falls h (z_I h 52 (z_c l)) (z_I h 49 5) p + m_X6_safe h) 60 (hi - m_X6_falls h m (z_I h 52 (z_c l)) p) (mi + m_X6_apart h m (z_I h 52 (z_c l)) * (10 - p))).1) then
        (((a_rs h l (z_I h 52 (z_c l)) (m_X6_falls h (z_I h 52 (z_c l)) (z_I h 49 5) p + m_X6_safe h) 60 (hi - m_X6_falls h m (z_I h 52 (z_c l)) p) (mi + m_X6_apart h m (z_I h 52 (z_c l)) * (10 - p))).2) + m_X6_apart h (z_I h 52 (z_c l)) (z_I h 49 5) * (10 - p)) - mi
      else
        (-5)
    else
      (-5)
  else
    (-5)
def m_X6_byOf1_l (h : z_H) (s : Nat → Int32) (l p m hi mi : Int32) : Int32 :=
  if m_X6_falls h m (z_I h 52 (z_c l)) p ≤ hi then
    if m_X6_falls h (z_I h 52 (z_c l)) (z_I h 49 5) p + m_X6_safe h ≤ (a_rs h l (z_I h 52 (z_c l)) (m_X6_falls h (z_I h 52 (z_c l)) (z_I h 49 5) p + m_X6_safe h) 60 (hi - m_X6_falls h m (z_I h 52 (z_c l)) p) (mi + m_X6_apart h m (z_I h 52 (z_c l)) * (10 - p))).1 then
      if m_X6_falls h (z_I h 52 (z_c l)) (z_I h 49 5) p ≤ ((a_rs h l (z_I h 52 (z_c l)) (m_X6_falls h (z_I h 52 (z_c l)) (z_I h 49 5) p + m_X6_safe h) 60 (hi - m_X6_falls h m (z_I h 52 (z_c l)) p) (mi + m_X6_apart h m (z_I h 52 (z_c l)) * (10 - p))).1) then
        (a_rs h l (z_I h 52 (z_c l)) (m_X6_falls h (z_I h 52 (z_c l)) (z_I h 49 5) p + m_X6_safe h) 60 (hi - m_X6_falls h m (z_I h 52 (z_c l)) p) (mi + m_X6_apart h m (z_I h 52 (z_c l)) * (10 - p))).1
      else
        (a_rs h l (z_I h 52 (z_c l)) (m_X6_falls h (z_I h 52 (z_c l)) (z_I h 49 5) p + m_X6_safe h) 60 (hi - m_X6_falls h m (z_I h 52 (z_c l)) p) (mi + m_X6_apart h m (z_I h 52 (z_c l)) * (10 - p))).1
    else
      (a_rs h l (z_I h 52 (z_c l)) (m_X6_falls h (z_I h 52 (z_c l)) (z_I h 49 5) p + m_X6_safe h) 60 (hi - m_X6_falls h m (z_I h 52 (z_c l)) p) (mi + m_X6_apart h m (z_I h 52 (z_c l)) * (10 - p))).1
  else
    s 32
theorem c_X6_byOf1 {Γ : z_W} {h : z_H} {s : Nat → Int32} {l p m hi mi : Int32} (hk : z_ok h) (hl : l = nI (z_c l) ∧ z_c l < z_c (z_I h 49 0)) (hp : z_in p 1 9) (hmm : z_in m 0 99) {B : Nat} (hmi : z_cn mi B) (hB : B + 891 + 60 < 2 ^ 31) : z_C Γ M_X6_byOf (z_rm 7 0 0) [.ref 49, .int (-1), .int l, .int p] (z_fy (z_sc h s) m hi mi) (z_q3 h s m hi mi (m_X6_byOf1 h l p m hi mi) (m_X6_byOf1_l h s l p m hi mi)) := by
  obtain ⟨hF, ha, hm, hvs, hws, hho⟩ := id hk
  refine z_C.of (by decide +kernel) rfl [some (.ref 49), some (.int (-1)), some (.int l), some (.int p), none, none] (Nat.le_of_ble_eq_true rfl) rfl ?_
  have hl6 : l = nI (z_c l) ∧ z_c l < 6 := ⟨hl.1, by have := hl.2; have := hm.2; omega⟩
  refine z_aload_n dX6_byOf_0 rfl rfl ?_
  refine z_vcall vl_X6_332_6 (c_X6_save hF) dX6_byOf_1 rfl rfl (hF.1 49 _ rfl) ⟨by decide, by decide⟩ (Nat.le_of_ble_eq_true rfl) (Nat.le_refl _) (Nat.le_refl _) (z_cV ?_) z_tV
  refine z_iload_n dX6_byOf_4 rfl rfl ?_
  refine z_if_lt 39 dX6_byOf_5 (by decide) (fun _ => ?_) (fun q => by first | exact absurd (show (-1 : Int32) < 0 by decide) q | exact absurd q (show (-1 : Int32) < 0 by decide))
  refine z_iconst (v := 1) dX6_byOf_39 rfl ?_
  refine z_goto 44 dX6_byOf_40 (by decide) ?_
  refine z_istore dX6_byOf_44 (by decide) rfl ?_
  refine z_iload dX6_byOf_46 rfl ?_
  refine z_if_eq 105 dX6_byOf_48 (by decide) (fun q => absurd q (by decide)) (fun _ => ?_)
  refine z_aload_n dX6_byOf_51 rfl rfl ?_
  refine z_aload_n dX6_byOf_52 rfl rfl ?_
  refine z_getR 52 dX6_byOf_53 fl_X6_35_6 (hF.1 49 _ rfl) rfl (hF.2.1 49 8 52 rfl) ?_
  refine z_iload_n dX6_byOf_56 rfl rfl ?_
  refine z_iald (z_c l) dX6_byOf_57 (hF.1 52 _ rfl) hl6.1 hl6.2 (by decide) ?_
  refine z_eqi (z_I h 52 (z_c l)) rfl ?_
  refine z_iload_n dX6_byOf_58 rfl rfl ?_
  by_cases g59 : m_X6_falls h m (z_I h 52 (z_c l)) p ≤ hi
  · have hmi3 := z_cn_gl (h := h) hmi hmm (hws _ hl.2) hp (by omega)
    refine z_vcall vl_X6_329_6 (c_X6_goGlide_y (h := z_sc h (upd (upd (upd s 29 mi) 30 m) 31 hi)) hF g59) dX6_byOf_59 rfl rfl (hF.1 49 _ rfl) ⟨by decide, by decide⟩ (Nat.le_of_ble_eq_true rfl) (Nat.le_refl _) (Nat.le_refl _) (z_cI ?_) z_tI
    refine z_meq (z_fy (z_sc h (upd (upd (upd s 29 mi) 30 m) 31 hi)) (z_I h 52 (z_c l)) (hi - m_X6_falls h m (z_I h 52 (z_c l)) p) (mi + m_X6_apart h m (z_I h 52 (z_c l)) * (10 - p))) rfl ?_
    refine z_if_eq 105 dX6_byOf_62 (by decide) (fun q => absurd q (by decide)) (fun _ => ?_)
    refine z_aload_n dX6_byOf_65 rfl rfl ?_
    refine z_iload_n dX6_byOf_66 rfl rfl ?_
    refine z_aload_n dX6_byOf_67 rfl rfl ?_
    refine z_getI dX6_byOf_68 fl_X6_25_6 (hF.1 49 _ rfl) rfl ?_
    refine z_eqi (z_I h 49 5) rfl ?_
    refine z_iload_n dX6_byOf_71 rfl rfl ?_
    refine z_iload_n dX6_byOf_72 rfl rfl ?_
    refine z_if_ge 81 dX6_byOf_73 (by decide) (fun q => by first | exact absurd q (show ¬ (0 : Int32) ≤ -1 by decide) | exact absurd (show ¬ (0 : Int32) ≤ -1 by decide) q) (fun _ => ?_)
    refine z_bipush (v := 60) dX6_byOf_76 rfl ?_
    refine z_eqi (nI 60) rfl ?_
    refine z_goto 83 dX6_byOf_78 (by decide) ?_
    refine z_vcall vl_X6_344_6 (c_X6_rises (h := h) hk hl hmi3 (by decide) (by omega)) dX6_byOf_83 rfl rfl (hF.1 49 _ rfl) ⟨by decide, by decide⟩ (Nat.le_of_ble_eq_true rfl) (Nat.le_refl _) (Nat.le_refl _) (z_cI ?_) z_tI
    refine z_meq (z_fy (z_sc h (upd (upd (upd (upd s 29 mi) 30 m) 31 hi) 32 ((a_rs h l (z_I h 52 (z_c l)) (m_X6_falls h (z_I h 52 (z_c l)) (z_I h 49 5) p + m_X6_safe h) 60 (hi - m_X6_falls h m (z_I h 52 (z_c l)) p) (mi + m_X6_apart h m (z_I h 52 (z_c l)) * (10 - p))).1))) (z_I h 52 (z_c l)) ((a_rs h l (z_I h 52 (z_c l)) (m_X6_falls h (z_I h 52 (z_c l)) (z_I h 49 5) p + m_X6_safe h) 60 (hi - m_X6_falls h m (z_I h 52 (z_c l)) p) (mi + m_X6_apart h m (z_I h 52 (z_c l)) * (10 - p))).1) ((a_rs h l (z_I h 52 (z_c l)) (m_X6_falls h (z_I h 52 (z_c l)) (z_I h 49 5) p + m_X6_safe h) 60 (hi - m_X6_falls h m (z_I h 52 (z_c l)) p) (mi + m_X6_apart h m (z_I h 52 (z_c l)) * (10 - p))).2)) rfl ?_
    refine z_bif_eq 105 dX6_byOf_86 (by decide) (fun c86 => ?_) (fun c86 => ?_)
    · refine z_iconst (v := 0) dX6_byOf_105 rfl ?_
      refine z_istore dX6_byOf_106 (by decide) rfl ?_
      refine z_aload_n dX6_byOf_108 rfl rfl ?_
      refine z_getI dX6_byOf_109 fl_X6_13_6 (hF.1 49 _ rfl) rfl ?_
      refine z_eqi ((a_rs h l (z_I h 52 (z_c l)) (m_X6_falls h (z_I h 52 (z_c l)) (z_I h 49 5) p + m_X6_safe h) 60 (hi - m_X6_falls h m (z_I h 52 (z_c l)) p) (mi + m_X6_apart h m (z_I h 52 (z_c l)) * (10 - p))).2) rfl ?_
      refine z_aload_n dX6_byOf_112 rfl rfl ?_
      refine z_getI dX6_byOf_113 fl_X6_99_6 (hF.1 49 _ rfl) rfl ?_
      refine z_eqi (mi) rfl ?_
      refine z_isub dX6_byOf_116 ?_
      refine z_istore dX6_byOf_117 (by decide) rfl ?_
      refine z_aload_n dX6_byOf_119 rfl rfl ?_
      refine z_vcall vl_X6_335_6 (c_X6_putBack hF) dX6_byOf_120 rfl rfl (hF.1 49 _ rfl) ⟨by decide, by decide⟩ (Nat.le_of_ble_eq_true rfl) (Nat.le_refl _) (Nat.le_refl _) (z_cV ?_) z_tV
      refine z_meq (z_fy (z_sc h (upd (upd (upd (upd s 29 mi) 30 m) 31 hi) 32 ((a_rs h l (z_I h 52 (z_c l)) (m_X6_falls h (z_I h 52 (z_c l)) (z_I h 49 5) p + m_X6_safe h) 60 (hi - m_X6_falls h m (z_I h 52 (z_c l)) p) (mi + m_X6_apart h m (z_I h 52 (z_c l)) * (10 - p))).1))) m hi mi) rfl ?_
      refine z_iload dX6_byOf_123 rfl ?_
      refine z_if_eq 133 dX6_byOf_125 (by decide) (fun _ => ?_) (fun q => absurd q (by decide))
      refine z_bipush (v := (-5)) dX6_byOf_133 rfl ?_
      refine z_iret dX6_byOf_135 rfl rfl (Nat.le_refl _) (Nat.le_refl _) (z_q3_i ?_ ?_ rfl rfl rfl)
      · unfold m_X6_byOf1; rw [if_pos (show m_X6_falls h m (z_I h 52 (z_c l)) p ≤ hi from g59), if_neg (show ¬ (m_X6_falls h (z_I h 52 (z_c l)) (z_I h 49 5) p + m_X6_safe h ≤ (a_rs h l (z_I h 52 (z_c l)) (m_X6_falls h (z_I h 52 (z_c l)) (z_I h 49 5) p + m_X6_safe h) 60 (hi - m_X6_falls h m (z_I h 52 (z_c l)) p) (mi + m_X6_apart h m (z_I h 52 (z_c l)) * (10 - p))).1) from c86)]
      · unfold m_X6_byOf1_l; rw [if_pos (show m_X6_falls h m (z_I h 52 (z_c l)) p ≤ hi from g59), if_neg (show ¬ (m_X6_falls h (z_I h 52 (z_c l)) (z_I h 49 5) p + m_X6_safe h ≤ (a_rs h l (z_I h 52 (z_c l)) (m_X6_falls h (z_I h 52 (z_c l)) (z_I h 49 5) p + m_X6_safe h) 60 (hi - m_X6_falls h m (z_I h 52 (z_c l)) p) (mi + m_X6_apart h m (z_I h 52 (z_c l)) * (10 - p))).1) from c86)]; rfl
    · refine z_aload_n dX6_byOf_89 rfl rfl ?_
      refine z_aload_n dX6_byOf_90 rfl rfl ?_
      refine z_getI dX6_byOf_91 fl_X6_25_6 (hF.1 49 _ rfl) rfl ?_
      refine z_eqi (z_I h 49 5) rfl ?_
      refine z_iload_n dX6_byOf_94 rfl rfl ?_
      by_cases g95 : m_X6_falls h (z_I h 52 (z_c l)) (z_I h 49 5) p ≤ ((a_rs h l (z_I h 52 (z_c l)) (m_X6_falls h (z_I h 52 (z_c l)) (z_I h 49 5) p + m_X6_safe h) 60 (hi - m_X6_falls h m (z_I h 52 (z_c l)) p) (mi + m_X6_apart h m (z_I h 52 (z_c l)) * (10 - p))).1)
      · refine z_vcall vl_X6_329_6 (c_X6_goGlide_y (h := z_sc h (upd (upd (upd (upd s 29 mi) 30 m) 31 hi) 32 ((a_rs h l (z_I h 52 (z_c l)) (m_X6_falls h (z_I h 52 (z_c l)) (z_I h 49 5) p + m_X6_safe h) 60 (hi - m_X6_falls h m (z_I h 52 (z_c l)) p) (mi + m_X6_apart h m (z_I h 52 (z_c l)) * (10 - p))).1))) hF g95) dX6_byOf_95 rfl rfl (hF.1 49 _ rfl) ⟨by decide, by decide⟩ (Nat.le_of_ble_eq_true rfl) (Nat.le_refl _) (Nat.le_refl _) (z_cI ?_) z_tI
        refine z_meq (z_fy (z_sc h (upd (upd (upd (upd s 29 mi) 30 m) 31 hi) 32 ((a_rs h l (z_I h 52 (z_c l)) (m_X6_falls h (z_I h 52 (z_c l)) (z_I h 49 5) p + m_X6_safe h) 60 (hi - m_X6_falls h m (z_I h 52 (z_c l)) p) (mi + m_X6_apart h m (z_I h 52 (z_c l)) * (10 - p))).1))) (z_I h 49 5) (((a_rs h l (z_I h 52 (z_c l)) (m_X6_falls h (z_I h 52 (z_c l)) (z_I h 49 5) p + m_X6_safe h) 60 (hi - m_X6_falls h m (z_I h 52 (z_c l)) p) (mi + m_X6_apart h m (z_I h 52 (z_c l)) * (10 - p))).1) - m_X6_falls h (z_I h 52 (z_c l)) (z_I h 49 5) p) (((a_rs h l (z_I h 52 (z_c l)) (m_X6_falls h (z_I h 52 (z_c l)) (z_I h 49 5) p + m_X6_safe h) 60 (hi - m_X6_falls h m (z_I h 52 (z_c l)) p) (mi + m_X6_apart h m (z_I h 52 (z_c l)) * (10 - p))).2) + m_X6_apart h (z_I h 52 (z_c l)) (z_I h 49 5) * (10 - p))) rfl ?_
        refine z_if_eq 105 dX6_byOf_98 (by decide) (fun q => absurd q (by decide)) (fun _ => ?_)
        refine z_iconst (v := 1) dX6_byOf_101 rfl ?_
        refine z_goto 106 dX6_byOf_102 (by decide) ?_
        refine z_istore dX6_byOf_106 (by decide) rfl ?_
        refine z_aload_n dX6_byOf_108 rfl rfl ?_
        refine z_getI dX6_byOf_109 fl_X6_13_6 (hF.1 49 _ rfl) rfl ?_
        refine z_eqi (((a_rs h l (z_I h 52 (z_c l)) (m_X6_falls h (z_I h 52 (z_c l)) (z_I h 49 5) p + m_X6_safe h) 60 (hi - m_X6_falls h m (z_I h 52 (z_c l)) p) (mi + m_X6_apart h m (z_I h 52 (z_c l)) * (10 - p))).2) + m_X6_apart h (z_I h 52 (z_c l)) (z_I h 49 5) * (10 - p)) rfl ?_
        refine z_aload_n dX6_byOf_112 rfl rfl ?_
        refine z_getI dX6_byOf_113 fl_X6_99_6 (hF.1 49 _ rfl) rfl ?_
        refine z_eqi (mi) rfl ?_
        refine z_isub dX6_byOf_116 ?_
        refine z_istore dX6_byOf_117 (by decide) rfl ?_
        refine z_aload_n dX6_byOf_119 rfl rfl ?_
        refine z_vcall vl_X6_335_6 (c_X6_putBack hF) dX6_byOf_120 rfl rfl (hF.1 49 _ rfl) ⟨by decide, by decide⟩ (Nat.le_of_ble_eq_true rfl) (Nat.le_refl _) (Nat.le_refl _) (z_cV ?_) z_tV
        refine z_meq (z_fy (z_sc h (upd (upd (upd (upd s 29 mi) 30 m) 31 hi) 32 ((a_rs h l (z_I h 52 (z_c l)) (m_X6_falls h (z_I h 52 (z_c l)) (z_I h 49 5) p + m_X6_safe h) 60 (hi - m_X6_falls h m (z_I h 52 (z_c l)) p) (mi + m_X6_apart h m (z_I h 52 (z_c l)) * (10 - p))).1))) m hi mi) rfl ?_
        refine z_iload dX6_byOf_123 rfl ?_
        refine z_if_eq 133 dX6_byOf_125 (by decide) (fun q => absurd q (by decide)) (fun _ => ?_)
        refine z_iload dX6_byOf_128 rfl ?_
        refine z_goto 135 dX6_byOf_130 (by decide) ?_
        refine z_iret dX6_byOf_135 rfl rfl (Nat.le_refl _) (Nat.le_refl _) (z_q3_i ?_ ?_ rfl rfl rfl)
        · unfold m_X6_byOf1; rw [if_pos (show m_X6_falls h m (z_I h 52 (z_c l)) p ≤ hi from g59), if_pos (show m_X6_falls h (z_I h 52 (z_c l)) (z_I h 49 5) p + m_X6_safe h ≤ (a_rs h l (z_I h 52 (z_c l)) (m_X6_falls h (z_I h 52 (z_c l)) (z_I h 49 5) p + m_X6_safe h) 60 (hi - m_X6_falls h m (z_I h 52 (z_c l)) p) (mi + m_X6_apart h m (z_I h 52 (z_c l)) * (10 - p))).1 from c86), if_pos (show m_X6_falls h (z_I h 52 (z_c l)) (z_I h 49 5) p ≤ ((a_rs h l (z_I h 52 (z_c l)) (m_X6_falls h (z_I h 52 (z_c l)) (z_I h 49 5) p + m_X6_safe h) 60 (hi - m_X6_falls h m (z_I h 52 (z_c l)) p) (mi + m_X6_apart h m (z_I h 52 (z_c l)) * (10 - p))).1) from g95)]
        · unfold m_X6_byOf1_l; rw [if_pos (show m_X6_falls h m (z_I h 52 (z_c l)) p ≤ hi from g59), if_pos (show m_X6_falls h (z_I h 52 (z_c l)) (z_I h 49 5) p + m_X6_safe h ≤ (a_rs h l (z_I h 52 (z_c l)) (m_X6_falls h (z_I h 52 (z_c l)) (z_I h 49 5) p + m_X6_safe h) 60 (hi - m_X6_falls h m (z_I h 52 (z_c l)) p) (mi + m_X6_apart h m (z_I h 52 (z_c l)) * (10 - p))).1 from c86), if_pos (show m_X6_falls h (z_I h 52 (z_c l)) (z_I h 49 5) p ≤ ((a_rs h l (z_I h 52 (z_c l)) (m_X6_falls h (z_I h 52 (z_c l)) (z_I h 49 5) p + m_X6_safe h) 60 (hi - m_X6_falls h m (z_I h 52 (z_c l)) p) (mi + m_X6_apart h m (z_I h 52 (z_c l)) * (10 - p))).1) from g95)]; rfl
      · refine z_vcall vl_X6_329_6 (c_X6_goGlide_n (h := z_sc h (upd (upd (upd (upd s 29 mi) 30 m) 31 hi) 32 ((a_rs h l (z_I h 52 (z_c l)) (m_X6_falls h (z_I h 52 (z_c l)) (z_I h 49 5) p + m_X6_safe h) 60 (hi - m_X6_falls h m (z_I h 52 (z_c l)) p) (mi + m_X6_apart h m (z_I h 52 (z_c l)) * (10 - p))).1))) hF g95) dX6_byOf_95 rfl rfl (hF.1 49 _ rfl) ⟨by decide, by decide⟩ (Nat.le_of_ble_eq_true rfl) (Nat.le_refl _) (Nat.le_refl _) (z_cI ?_) z_tI
        refine z_meq (z_fy (z_sc h (upd (upd (upd (upd s 29 mi) 30 m) 31 hi) 32 ((a_rs h l (z_I h 52 (z_c l)) (m_X6_falls h (z_I h 52 (z_c l)) (z_I h 49 5) p + m_X6_safe h) 60 (hi - m_X6_falls h m (z_I h 52 (z_c l)) p) (mi + m_X6_apart h m (z_I h 52 (z_c l)) * (10 - p))).1))) (z_I h 52 (z_c l)) ((a_rs h l (z_I h 52 (z_c l)) (m_X6_falls h (z_I h 52 (z_c l)) (z_I h 49 5) p + m_X6_safe h) 60 (hi - m_X6_falls h m (z_I h 52 (z_c l)) p) (mi + m_X6_apart h m (z_I h 52 (z_c l)) * (10 - p))).1) ((a_rs h l (z_I h 52 (z_c l)) (m_X6_falls h (z_I h 52 (z_c l)) (z_I h 49 5) p + m_X6_safe h) 60 (hi - m_X6_falls h m (z_I h 52 (z_c l)) p) (mi + m_X6_apart h m (z_I h 52 (z_c l)) * (10 - p))).2)) rfl ?_
        refine z_if_eq 105 dX6_byOf_98 (by decide) (fun _ => ?_) (fun q => absurd q (by decide))
        refine z_iconst (v := 0) dX6_byOf_105 rfl ?_
        refine z_istore dX6_byOf_106 (by decide) rfl ?_
        refine z_aload_n dX6_byOf_108 rfl rfl ?_
        refine z_getI dX6_byOf_109 fl_X6_13_6 (hF.1 49 _ rfl) rfl ?_
        refine z_eqi ((a_rs h l (z_I h 52 (z_c l)) (m_X6_falls h (z_I h 52 (z_c l)) (z_I h 49 5) p + m_X6_safe h) 60 (hi - m_X6_falls h m (z_I h 52 (z_c l)) p) (mi + m_X6_apart h m (z_I h 52 (z_c l)) * (10 - p))).2) rfl ?_
        refine z_aload_n dX6_byOf_112 rfl rfl ?_
        refine z_getI dX6_byOf_113 fl_X6_99_6 (hF.1 49 _ rfl) rfl ?_
        refine z_eqi (mi) rfl ?_
        refine z_isub dX6_byOf_116 ?_
        refine z_istore dX6_byOf_117 (by decide) rfl ?_
        refine z_aload_n dX6_byOf_119 rfl rfl ?_
        refine z_vcall vl_X6_335_6 (c_X6_putBack hF) dX6_byOf_120 rfl rfl (hF.1 49 _ rfl) ⟨by decide, by decide⟩ (Nat.le_of_ble_eq_true rfl) (Nat.le_refl _) (Nat.le_refl _) (z_cV ?_) z_tV
        refine z_meq (z_fy (z_sc h (upd (upd (upd (upd s 29 mi) 30 m) 31 hi) 32 ((a_rs h l (z_I h 52 (z_c l)) (m_X6_falls h (z_I h 52 (z_c l)) (z_I h 49 5) p + m_X6_safe h) 60 (hi - m_X6_falls h m (z_I h 52 (z_c l)) p) (mi + m_X6_apart h m (z_I h 52 (z_c l)) * (10 - p))).1))) m hi mi) rfl ?_
        refine z_iload dX6_byOf_123 rfl ?_
        refine z_if_eq 133 dX6_byOf_125 (by decide) (fun _ => ?_) (fun q => absurd q (by decide))
        refine z_bipush (v := (-5)) dX6_byOf_133 rfl ?_
        refine z_iret dX6_byOf_135 rfl rfl (Nat.le_refl _) (Nat.le_refl _) (z_q3_i ?_ ?_ rfl rfl rfl)
        · unfold m_X6_byOf1; rw [if_pos (show m_X6_falls h m (z_I h 52 (z_c l)) p ≤ hi from g59), if_pos (show m_X6_falls h (z_I h 52 (z_c l)) (z_I h 49 5) p + m_X6_safe h ≤ (a_rs h l (z_I h 52 (z_c l)) (m_X6_falls h (z_I h 52 (z_c l)) (z_I h 49 5) p + m_X6_safe h) 60 (hi - m_X6_falls h m (z_I h 52 (z_c l)) p) (mi + m_X6_apart h m (z_I h 52 (z_c l)) * (10 - p))).1 from c86), if_neg (show ¬ (m_X6_falls h (z_I h 52 (z_c l)) (z_I h 49 5) p ≤ ((a_rs h l (z_I h 52 (z_c l)) (m_X6_falls h (z_I h 52 (z_c l)) (z_I h 49 5) p + m_X6_safe h) 60 (hi - m_X6_falls h m (z_I h 52 (z_c l)) p) (mi + m_X6_apart h m (z_I h 52 (z_c l)) * (10 - p))).1)) from g95)]
        · unfold m_X6_byOf1_l; rw [if_pos (show m_X6_falls h m (z_I h 52 (z_c l)) p ≤ hi from g59), if_pos (show m_X6_falls h (z_I h 52 (z_c l)) (z_I h 49 5) p + m_X6_safe h ≤ (a_rs h l (z_I h 52 (z_c l)) (m_X6_falls h (z_I h 52 (z_c l)) (z_I h 49 5) p + m_X6_safe h) 60 (hi - m_X6_falls h m (z_I h 52 (z_c l)) p) (mi + m_X6_apart h m (z_I h 52 (z_c l)) * (10 - p))).1 from c86), if_neg (show ¬ (m_X6_falls h (z_I h 52 (z_c l)) (z_I h 49 5) p ≤ ((a_rs h l (z_I h 52 (z_c l)) (m_X6_falls h (z_I h 52 (z_c l)) (z_I h 49 5) p + m_X6_safe h) 60 (hi - m_X6_falls h m (z_I h 52 (z_c l)) p) (mi + m_X6_apart h m (z_I h 52 (z_c l)) * (10 - p))).1)) from g95)]; rfl
  · refine z_vcall vl_X6_329_6 (c_X6_goGlide_n (h := z_sc h (upd (upd (upd s 29 mi) 30 m) 31 hi)) hF g59) dX6_byOf_59 rfl rfl (hF.1 49 _ rfl) ⟨by decide, by decide⟩ (Nat.le_of_ble_eq_true rfl) (Nat.le_refl _) (Nat.le_refl _) (z_cI ?_) z_tI
    refine z_meq (z_fy (z_sc h (upd (upd (upd s 29 mi) 30 m) 31 hi)) m hi mi) rfl ?_
    refine z_if_eq 105 dX6_byOf_62 (by decide) (fun _ => ?_) (fun q => absurd q (by decide))
    refine z_iconst (v := 0) dX6_byOf_105 rfl ?_
    refine z_istore dX6_byOf_106 (by decide) rfl ?_
    refine z_aload_n dX6_byOf_108 rfl rfl ?_
    refine z_getI dX6_byOf_109 fl_X6_13_6 (hF.1 49 _ rfl) rfl ?_
    refine z_eqi (mi) rfl ?_
    refine z_aload_n dX6_byOf_112 rfl rfl ?_
    refine z_getI dX6_byOf_113 fl_X6_99_6 (hF.1 49 _ rfl) rfl ?_
    refine z_eqi (mi) rfl ?_
    refine z_isub dX6_byOf_116 ?_
    refine z_istore dX6_byOf_117 (by decide) rfl ?_
    refine z_aload_n dX6_byOf_119 rfl rfl ?_
    refine z_vcall vl_X6_335_6 (c_X6_putBack hF) dX6_byOf_120 rfl rfl (hF.1 49 _ rfl) ⟨by decide, by decide⟩ (Nat.le_of_ble_eq_true rfl) (Nat.le_refl _) (Nat.le_refl _) (z_cV ?_) z_tV
    refine z_meq (z_fy (z_sc h (upd (upd (upd s 29 mi) 30 m) 31 hi)) m hi mi) rfl ?_
    refine z_iload dX6_byOf_123 rfl ?_
    refine z_if_eq 133 dX6_byOf_125 (by decide) (fun _ => ?_) (fun q => absurd q (by decide))
    refine z_bipush (v := (-5)) dX6_byOf_133 rfl ?_
    refine z_iret dX6_byOf_135 rfl rfl (Nat.le_refl _) (Nat.le_refl _) (z_q3_i ?_ ?_ rfl rfl rfl)
    · unfold m_X6_byOf1; rw [if_neg (show ¬ (m_X6_falls h m (z_I h 52 (z_c l)) p ≤ hi) from g59)]
    · unfold m_X6_byOf1_l; rw [if_neg (show ¬ (m_X6_falls h m (z_I h 52 (z_c l)) p ≤ hi) from g59)]; rfl
def m_X6_byOf2 (h : z_H) (f l p m hi mi : Int32) : Int32 :=
  if m_X6_falls h m (z_I h 52 (z_c f)) p ≤ hi then
    if m_X6_falls h (z_I h 52 (z_c f)) (z_I h 52 (z_c l)) p + m_X6_safe h ≤ (a_rs h f (z_I h 52 (z_c f)) (m_X6_falls h (z_I h 52 (z_c f)) (z_I h 52 (z_c l)) p + m_X6_safe h) 40 (hi - m_X6_falls h m (z_I h 52 (z_c f)) p) (mi + m_X6_apart h m (z_I h 52 (z_c f)) * (10 - p))).1 then
      if m_X6_falls h (z_I h 52 (z_c f)) (z_I h 52 (z_c l)) p ≤ ((a_rs h f (z_I h 52 (z_c f)) (m_X6_falls h (z_I h 52 (z_c f)) (z_I h 52 (z_c l)) p + m_X6_safe h) 40 (hi - m_X6_falls h m (z_I h 52 (z_c f)) p) (mi + m_X6_apart h m (z_I h 52 (z_c f)) * (10 - p))).1) then
        if m_X6_falls h (z_I h 52 (z_c l)) (z_I h 49 5) p + m_X6_safe h ≤ (a_rs h l (z_I h 52 (z_c l)) (m_X6_falls h (z_I h 52 (z_c l)) (z_I h 49 5) p + m_X6_safe h) 40 (((a_rs h f (z_I h 52 (z_c f)) (m_X6_falls h (z_I h 52 (z_c f)) (z_I h 52 (z_c l)) p + m_X6_safe h) 40 (hi - m_X6_falls h m (z_I h 52 (z_c f)) p) (mi + m_X6_apart h m (z_I h 52 (z_c f)) * (10 - p))).1) - m_X6_falls h (z_I h 52 (z_c f)) (z_I h 52 (z_c l)) p) (((a_rs h f (z_I h 52 (z_c f)) (m_X6_falls h (z_I h 52 (z_c f)) (z_I h 52 (z_c l)) p + m_X6_safe h) 40 (hi - m_X6_falls h m (z_I h 52 (z_c f)) p) (mi + m_X6_apart h m (z_I h 52 (z_c f)) * (10 - p))).2) + m_X6_apart h (z_I h 52 (z_c f)) (z_I h 52 (z_c l)) * (10 - p))).1 then
          if m_X6_falls h (z_I h 52 (z_c l)) (z_I h 49 5) p ≤ ((a_rs h l (z_I h 52 (z_c l)) (m_X6_falls h (z_I h 52 (z_c l)) (z_I h 49 5) p + m_X6_safe h) 40 (((a_rs h f (z_I h 52 (z_c f)) (m_X6_falls h (z_I h 52 (z_c f)) (z_I h 52 (z_c l)) p + m_X6_safe h) 40 (hi - m_X6_falls h m (z_I h 52 (z_c f)) p) (mi + m_X6_apart h m (z_I h 52 (z_c f)) * (10 - p))).1) - m_X6_falls h (z_I h 52 (z_c f)) (z_I h 52 (z_c l)) p) (((a_rs h f (z_I h 52 (z_c f)) (m_X6_falls h (z_I h 52 (z_c f)) (z_I h 52 (z_c l)) p + m_X6_safe h) 40 (hi - m_X6_falls h m (z_I h 52 (z_c f)) p) (mi + m_X6_apart h m (z_I h 52 (z_c f)) * (10 - p))).2) + m_X6_apart h (z_I h 52 (z_c f)) (z_I h 52 (z_c l)) * (10 - p))).1) then
            (((a_rs h l (z_I h 52 (z_c l)) (m_X6_falls h (z_I h 52 (z_c l)) (z_I h 49 5) p + m_X6_safe h) 40 (((a_rs h f (z_I h 52 (z_c f)) (m_X6_falls h (z_I h 52 (z_c f)) (z_I h 52 (z_c l)) p + m_X6_safe h) 40 (hi - m_X6_falls h m (z_I h 52 (z_c f)) p) (mi + m_X6_apart h m (z_I h 52 (z_c f)) * (10 - p))).1) - m_X6_falls h (z_I h 52 (z_c f)) (z_I h 52 (z_c l)) p) (((a_rs h f (z_I h 52 (z_c f)) (m_X6_falls h (z_I h 52 (z_c f)) (z_I h 52 (z_c l)) p + m_X6_safe h) 40 (hi - m_X6_falls h m (z_I h 52 (z_c f)) p) (mi + m_X6_apart h m (z_I h 52 (z_c f)) * (10 - p))).2) + m_X6_apart h (z_I h 52 (z_c f)) (z_I h 52 (z_c l)) * (10 - p))).2) + m_X6_apart h (z_I h 52 (z_c l)) (z_I h 49 5) * (10 - p)) - mi
          else
            (-5)
        else
          (-5)
      else
        (-5)
    else
      (-5)
  else
    (-5)
def m_X6_byOf2_l (h : z_H) (s : Nat → Int32) (f l p m hi mi : Int32) : Int32 :=
  if m_X6_falls h m (z_I h 52 (z_c f)) p ≤ hi then
    if m_X6_falls h (z_I h 52 (z_c f)) (z_I h 52 (z_c l)) p + m_X6_safe h ≤ (a_rs h f (z_I h 52 (z_c f)) (m_X6_falls h (z_I h 52 (z_c f)) (z_I h 52 (z_c l)) p + m_X6_safe h) 40 (hi - m_X6_falls h m (z_I h 52 (z_c f)) p) (mi + m_X6_apart h m (z_I h 52 (z_c f)) * (10 - p))).1 then
      if m_X6_falls h (z_I h 52 (z_c f)) (z_I h 52 (z_c l)) p ≤ ((a_rs h f (z_I h 52 (z_c f)) (m_X6_falls h (z_I h 52 (z_c f)) (z_I h 52 (z_c l)) p + m_X6_safe h) 40 (hi - m_X6_falls h m (z_I h 52 (z_c f)) p) (mi + m_X6_apart h m (z_I h 52 (z_c f)) * (10 - p))).1) then
        if m_X6_falls h (z_I h 52 (z_c l)) (z_I h 49 5) p + m_X6_safe h ≤ (a_rs h l (z_I h 52 (z_c l)) (m_X6_falls h (z_I h 52 (z_c l)) (z_I h 49 5) p + m_X6_safe h) 40 (((a_rs h f (z_I h 52 (z_c f)) (m_X6_falls h (z_I h 52 (z_c f)) (z_I h 52 (z_c l)) p + m_X6_safe h) 40 (hi - m_X6_falls h m (z_I h 52 (z_c f)) p) (mi + m_X6_apart h m (z_I h 52 (z_c f)) * (10 - p))).1) - m_X6_falls h (z_I h 52 (z_c f)) (z_I h 52 (z_c l)) p) (((a_rs h f (z_I h 52 (z_c f)) (m_X6_falls h (z_I h 52 (z_c f)) (z_I h 52 (z_c l)) p + m_X6_safe h) 40 (hi - m_X6_falls h m (z_I h 52 (z_c f)) p) (mi + m_X6_apart h m (z_I h 52 (z_c f)) * (10 - p))).2) + m_X6_apart h (z_I h 52 (z_c f)) (z_I h 52 (z_c l)) * (10 - p))).1 then
          if m_X6_falls h (z_I h 52 (z_c l)) (z_I h 49 5) p ≤ ((a_rs h l (z_I h 52 (z_c l)) (m_X6_falls h (z_I h 52 (z_c l)) (z_I h 49 5) p + m_X6_safe h) 40 (((a_rs h f (z_I h 52 (z_c f)) (m_X6_falls h (z_I h 52 (z_c f)) (z_I h 52 (z_c l)) p + m_X6_safe h) 40 (hi - m_X6_falls h m (z_I h 52 (z_c f)) p) (mi + m_X6_apart h m (z_I h 52 (z_c f)) * (10 - p))).1) - m_X6_falls h (z_I h 52 (z_c f)) (z_I h 52 (z_c l)) p) (((a_rs h f (z_I h 52 (z_c f)) (m_X6_falls h (z_I h 52 (z_c f)) (z_I h 52 (z_c l)) p + m_X6_safe h) 40 (hi - m_X6_falls h m (z_I h 52 (z_c f)) p) (mi + m_X6_apart h m (z_I h 52 (z_c f)) * (10 - p))).2) + m_X6_apart h (z_I h 52 (z_c f)) (z_I h 52 (z_c l)) * (10 - p))).1) then
            (a_rs h l (z_I h 52 (z_c l)) (m_X6_falls h (z_I h 52 (z_c l)) (z_I h 49 5) p + m_X6_safe h) 40 (((a_rs h f (z_I h 52 (z_c f)) (m_X6_falls h (z_I h 52 (z_c f)) (z_I h 52 (z_c l)) p + m_X6_safe h) 40 (hi - m_X6_falls h m (z_I h 52 (z_c f)) p) (mi + m_X6_apart h m (z_I h 52 (z_c f)) * (10 - p))).1) - m_X6_falls h (z_I h 52 (z_c f)) (z_I h 52 (z_c l)) p) (((a_rs h f (z_I h 52 (z_c f)) (m_X6_falls h (z_I h 52 (z_c f)) (z_I h 52 (z_c l)) p + m_X6_safe h) 40 (hi - m_X6_falls h m (z_I h 52 (z_c f)) p) (mi + m_X6_apart h m (z_I h 52 (z_c f)) * (10 - p))).2) + m_X6_apart h (z_I h 52 (z_c f)) (z_I h 52 (z_c l)) * (10 - p))).1
          else
            (a_rs h l (z_I h 52 (z_c l)) (m_X6_falls h (z_I h 52 (z_c l)) (z_I h 49 5) p + m_X6_safe h) 40 (((a_rs h f (z_I h 52 (z_c f)) (m_X6_falls h (z_I h 52 (z_c f)) (z_I h 52 (z_c l)) p + m_X6_safe h) 40 (hi - m_X6_falls h m (z_I h 52 (z_c f)) p) (mi + m_X6_apart h m (z_I h 52 (z_c f)) * (10 - p))).1) - m_X6_falls h (z_I h 52 (z_c f)) (z_I h 52 (z_c l)) p) (((a_rs h f (z_I h 52 (z_c f)) (m_X6_falls h (z_I h 52 (z_c f)) (z_I h 52 (z_c l)) p + m_X6_safe h) 40 (hi - m_X6_falls h m (z_I h 52 (z_c f)) p) (mi + m_X6_apart h m (z_I h 52 (z_c f)) * (10 - p))).2) + m_X6_apart h (z_I h 52 (z_c f)) (z_I h 52 (z_c l)) * (10 - p))).1
        else
          (a_rs h l (z_I h 52 (z_c l)) (m_X6_falls h (z_I h 52 (z_c l)) (z_I h 49 5) p + m_X6_safe h) 40 (((a_rs h f (z_I h 52 (z_c f)) (m_X6_falls h (z_I h 52 (z_c f)) (z_I h 52 (z_c l)) p + m_X6_safe h) 40 (hi - m_X6_falls h m (z_I h 52 (z_c f)) p) (mi + m_X6_apart h m (z_I h 52 (z_c f)) * (10 - p))).1) - m_X6_falls h (z_I h 52 (z_c f)) (z_I h 52 (z_c l)) p) (((a_rs h f (z_I h 52 (z_c f)) (m_X6_falls h (z_I h 52 (z_c f)) (z_I h 52 (z_c l)) p + m_X6_safe h) 40 (hi - m_X6_falls h m (z_I h 52 (z_c f)) p) (mi + m_X6_apart h m (z_I h 52 (z_c f)) * (10 - p))).2) + m_X6_apart h (z_I h 52 (z_c f)) (z_I h 52 (z_c l)) * (10 - p))).1
      else
        (a_rs h f (z_I h 52 (z_c f)) (m_X6_falls h (z_I h 52 (z_c f)) (z_I h 52 (z_c l)) p + m_X6_safe h) 40 (hi - m_X6_falls h m (z_I h 52 (z_c f)) p) (mi + m_X6_apart h m (z_I h 52 (z_c f)) * (10 - p))).1
    else
      (a_rs h f (z_I h 52 (z_c f)) (m_X6_falls h (z_I h 52 (z_c f)) (z_I h 52 (z_c l)) p + m_X6_safe h) 40 (hi - m_X6_falls h m (z_I h 52 (z_c f)) p) (mi + m_X6_apart h m (z_I h 52 (z_c f)) * (10 - p))).1
  else
    s 32
theorem c_X6_byOf2 {Γ : z_W} {h : z_H} {s : Nat → Int32} {f l p m hi mi : Int32} (hk : z_ok h) (hf : f = nI (z_c f) ∧ z_c f < z_c (z_I h 49 0)) (hl : l = nI (z_c l) ∧ z_c l < z_c (z_I h 49 0)) (hp : z_in p 1 9) (hmm : z_in m 0 99) {B : Nat} (hmi : z_cn mi B) (hB : B + 891 + 40 + 891 + 60 < 2 ^ 31) : z_C Γ M_X6_byOf (z_rm 7 0 0) [.ref 49, .int f, .int l, .int p] (z_fy (z_sc h s) m hi mi) (z_q3 h s m hi mi (m_X6_byOf2 h f l p m hi mi) (m_X6_byOf2_l h s f l p m hi mi)) := by
  obtain ⟨hF, ha, hm, hvs, hws, hho⟩ := id hk
  refine z_C.of (by decide +kernel) rfl [some (.ref 49), some (.int f), some (.int l), some (.int p), none, none] (Nat.le_of_ble_eq_true rfl) rfl ?_
  have hl6 : l = nI (z_c l) ∧ z_c l < 6 := ⟨hl.1, by have := hl.2; have := hm.2; omega⟩
  have hf6 : f = nI (z_c f) ∧ z_c f < 6 := ⟨hf.1, by have := hf.2; have := hm.2; omega⟩
  refine z_aload_n dX6_byOf_0 rfl rfl ?_
  refine z_vcall vl_X6_332_6 (c_X6_save hF) dX6_byOf_1 rfl rfl (hF.1 49 _ rfl) ⟨by decide, by decide⟩ (Nat.le_of_ble_eq_true rfl) (Nat.le_refl _) (Nat.le_refl _) (z_cV ?_) z_tV
  refine z_iload_n dX6_byOf_4 rfl rfl ?_
  refine z_if_lt 39 dX6_byOf_5 (by decide) (fun q => by first | exact absurd q (Int32.not_lt.mpr (show (0 : Int32) ≤ f by rw [hf.1]; exact nI_le (a := 0) (Nat.zero_le _) (by have := hf.2; have := hm.2; omega))) | exact absurd (Int32.not_lt.mpr (show (0 : Int32) ≤ f by rw [hf.1]; exact nI_le (a := 0) (Nat.zero_le _) (by have := hf.2; have := hm.2; omega))) q) (fun _ => ?_)
  refine z_aload_n dX6_byOf_8 rfl rfl ?_
  refine z_aload_n dX6_byOf_9 rfl rfl ?_
  refine z_getR 52 dX6_byOf_10 fl_X6_35_6 (hF.1 49 _ rfl) rfl (hF.2.1 49 8 52 rfl) ?_
  refine z_iload_n dX6_byOf_13 rfl rfl ?_
  refine z_iald (z_c f) dX6_byOf_14 (hF.1 52 _ rfl) hf6.1 hf6.2 (by decide) ?_
  refine z_eqi (z_I h 52 (z_c f)) rfl ?_
  refine z_iload_n dX6_byOf_15 rfl rfl ?_
  by_cases g16 : m_X6_falls h m (z_I h 52 (z_c f)) p ≤ hi
  · have hmi3 := z_cn_gl (h := h) hmi hmm (hws _ hf.2) hp (by omega)
    refine z_vcall vl_X6_329_6 (c_X6_goGlide_y (h := z_sc h (upd (upd (upd s 29 mi) 30 m) 31 hi)) hF g16) dX6_byOf_16 rfl rfl (hF.1 49 _ rfl) ⟨by decide, by decide⟩ (Nat.le_of_ble_eq_true rfl) (Nat.le_refl _) (Nat.le_refl _) (z_cI ?_) z_tI
    refine z_meq (z_fy (z_sc h (upd (upd (upd s 29 mi) 30 m) 31 hi)) (z_I h 52 (z_c f)) (hi - m_X6_falls h m (z_I h 52 (z_c f)) p) (mi + m_X6_apart h m (z_I h 52 (z_c f)) * (10 - p))) rfl ?_
    refine z_if_eq 43 dX6_byOf_19 (by decide) (fun q => absurd q (by decide)) (fun _ => ?_)
    refine z_aload_n dX6_byOf_22 rfl rfl ?_
    refine z_iload_n dX6_byOf_23 rfl rfl ?_
    refine z_aload_n dX6_byOf_24 rfl rfl ?_
    refine z_getR 52 dX6_byOf_25 fl_X6_35_6 (hF.1 49 _ rfl) rfl (hF.2.1 49 8 52 rfl) ?_
    refine z_iload_n dX6_byOf_28 rfl rfl ?_
    refine z_iald (z_c l) dX6_byOf_29 (hF.1 52 _ rfl) hl6.1 hl6.2 (by decide) ?_
    refine z_eqi (z_I h 52 (z_c l)) rfl ?_
    refine z_iload_n dX6_byOf_30 rfl rfl ?_
    refine z_bipush (v := 40) dX6_byOf_31 rfl ?_
    refine z_eqi (nI 40) rfl ?_
    refine z_vcall vl_X6_344_6 (c_X6_rises (h := h) hk hf hmi3 (by decide) (by omega)) dX6_byOf_33 rfl rfl (hF.1 49 _ rfl) ⟨by decide, by decide⟩ (Nat.le_of_ble_eq_true rfl) (Nat.le_refl _) (Nat.le_refl _) (z_cI ?_) z_tI
    refine z_meq (z_fy (z_sc h (upd (upd (upd (upd s 29 mi) 30 m) 31 hi) 32 ((a_rs h f (z_I h 52 (z_c f)) (m_X6_falls h (z_I h 52 (z_c f)) (z_I h 52 (z_c l)) p + m_X6_safe h) 40 (hi - m_X6_falls h m (z_I h 52 (z_c f)) p) (mi + m_X6_apart h m (z_I h 52 (z_c f)) * (10 - p))).1))) (z_I h 52 (z_c f)) ((a_rs h f (z_I h 52 (z_c f)) (m_X6_falls h (z_I h 52 (z_c f)) (z_I h 52 (z_c l)) p + m_X6_safe h) 40 (hi - m_X6_falls h m (z_I h 52 (z_c f)) p) (mi + m_X6_apart h m (z_I h 52 (z_c f)) * (10 - p))).1) ((a_rs h f (z_I h 52 (z_c f)) (m_X6_falls h (z_I h 52 (z_c f)) (z_I h 52 (z_c l)) p + m_X6_safe h) 40 (hi - m_X6_falls h m (z_I h 52 (z_c f)) p) (mi + m_X6_apart h m (z_I h 52 (z_c f)) * (10 - p))).2)) rfl ?_
    refine z_bif_eq 43 dX6_byOf_36 (by decide) (fun c36 => ?_) (fun c36 => ?_)
    · refine z_iconst (v := 0) dX6_byOf_43 rfl ?_
      refine z_istore dX6_byOf_44 (by decide) rfl ?_
      refine z_iload dX6_byOf_46 rfl ?_
      refine z_if_eq 105 dX6_byOf_48 (by decide) (fun _ => ?_) (fun q => absurd q (by decide))
      refine z_iconst (v := 0) dX6_byOf_105 rfl ?_
      refine z_istore dX6_byOf_106 (by decide) rfl ?_
      refine z_aload_n dX6_byOf_108 rfl rfl ?_
      refine z_getI dX6_byOf_109 fl_X6_13_6 (hF.1 49 _ rfl) rfl ?_
      refine z_eqi ((a_rs h f (z_I h 52 (z_c f)) (m_X6_falls h (z_I h 52 (z_c f)) (z_I h 52 (z_c l)) p + m_X6_safe h) 40 (hi - m_X6_falls h m (z_I h 52 (z_c f)) p) (mi + m_X6_apart h m (z_I h 52 (z_c f)) * (10 - p))).2) rfl ?_
      refine z_aload_n dX6_byOf_112 rfl rfl ?_
      refine z_getI dX6_byOf_113 fl_X6_99_6 (hF.1 49 _ rfl) rfl ?_
      refine z_eqi (mi) rfl ?_
      refine z_isub dX6_byOf_116 ?_
      refine z_istore dX6_byOf_117 (by decide) rfl ?_
      refine z_aload_n dX6_byOf_119 rfl rfl ?_
      refine z_vcall vl_X6_335_6 (c_X6_putBack hF) dX6_byOf_120 rfl rfl (hF.1 49 _ rfl) ⟨by decide, by decide⟩ (Nat.le_of_ble_eq_true rfl) (Nat.le_refl _) (Nat.le_refl _) (z_cV ?_) z_tV
      refine z_meq (z_fy (z_sc h (upd (upd (upd (upd s 29 mi) 30 m) 31 hi) 32 ((a_rs h f (z_I h 52 (z_c f)) (m_X6_falls h (z_I h 52 (z_c f)) (z_I h 52 (z_c l)) p + m_X6_safe h) 40 (hi - m_X6_falls h m (z_I h 52 (z_c f)) p) (mi + m_X6_apart h m (z_I h 52 (z_c f)) * (10 - p))).1))) m hi mi) rfl ?_
      refine z_iload dX6_byOf_123 rfl ?_
      refine z_if_eq 133 dX6_byOf_125 (by decide) (fun _ => ?_) (fun q => absurd q (by decide))
      refine z_bipush (v := (-5)) dX6_byOf_133 rfl ?_
      refine z_iret dX6_byOf_135 rfl rfl (Nat.le_refl _) (Nat.le_refl _) (z_q3_i ?_ ?_ rfl rfl rfl)
      · unfold m_X6_byOf2; rw [if_pos (show m_X6_falls h m (z_I h 52 (z_c f)) p ≤ hi from g16), if_neg (show ¬ (m_X6_falls h (z_I h 52 (z_c f)) (z_I h 52 (z_c l)) p + m_X6_safe h ≤ (a_rs h f (z_I h 52 (z_c f)) (m_X6_falls h (z_I h 52 (z_c f)) (z_I h 52 (z_c l)) p + m_X6_safe h) 40 (hi - m_X6_falls h m (z_I h 52 (z_c f)) p) (mi + m_X6_apart h m (z_I h 52 (z_c f)) * (10 - p))).1) from c36)]
      · unfold m_X6_byOf2_l; rw [if_pos (show m_X6_falls h m (z_I h 52 (z_c f)) p ≤ hi from g16), if_neg (show ¬ (m_X6_falls h (z_I h 52 (z_c f)) (z_I h 52 (z_c l)) p + m_X6_safe h ≤ (a_rs h f (z_I h 52 (z_c f)) (m_X6_falls h (z_I h 52 (z_c f)) (z_I h 52 (z_c l)) p + m_X6_safe h) 40 (hi - m_X6_falls h m (z_I h 52 (z_c f)) p) (mi + m_X6_apart h m (z_I h 52 (z_c f)) * (10 - p))).1) from c36)]; rfl
    · refine z_iconst (v := 1) dX6_byOf_39 rfl ?_
      refine z_goto 44 dX6_byOf_40 (by decide) ?_
      refine z_istore dX6_byOf_44 (by decide) rfl ?_
      refine z_iload dX6_byOf_46 rfl ?_
      refine z_if_eq 105 dX6_byOf_48 (by decide) (fun q => absurd q (by decide)) (fun _ => ?_)
      refine z_aload_n dX6_byOf_51 rfl rfl ?_
      refine z_aload_n dX6_byOf_52 rfl rfl ?_
      refine z_getR 52 dX6_byOf_53 fl_X6_35_6 (hF.1 49 _ rfl) rfl (hF.2.1 49 8 52 rfl) ?_
      refine z_iload_n dX6_byOf_56 rfl rfl ?_
      refine z_iald (z_c l) dX6_byOf_57 (hF.1 52 _ rfl) hl6.1 hl6.2 (by decide) ?_
      refine z_eqi (z_I h 52 (z_c l)) rfl ?_
      refine z_iload_n dX6_byOf_58 rfl rfl ?_
      by_cases g59 : m_X6_falls h (z_I h 52 (z_c f)) (z_I h 52 (z_c l)) p ≤ ((a_rs h f (z_I h 52 (z_c f)) (m_X6_falls h (z_I h 52 (z_c f)) (z_I h 52 (z_c l)) p + m_X6_safe h) 40 (hi - m_X6_falls h m (z_I h 52 (z_c f)) p) (mi + m_X6_apart h m (z_I h 52 (z_c f)) * (10 - p))).1)
      · refine z_vcall vl_X6_329_6 (c_X6_goGlide_y (h := z_sc h (upd (upd (upd (upd s 29 mi) 30 m) 31 hi) 32 ((a_rs h f (z_I h 52 (z_c f)) (m_X6_falls h (z_I h 52 (z_c f)) (z_I h 52 (z_c l)) p + m_X6_safe h) 40 (hi - m_X6_falls h m (z_I h 52 (z_c f)) p) (mi + m_X6_apart h m (z_I h 52 (z_c f)) * (10 - p))).1))) hF g59) dX6_byOf_59 rfl rfl (hF.1 49 _ rfl) ⟨by decide, by decide⟩ (Nat.le_of_ble_eq_true rfl) (Nat.le_refl _) (Nat.le_refl _) (z_cI ?_) z_tI
        refine z_meq (z_fy (z_sc h (upd (upd (upd (upd s 29 mi) 30 m) 31 hi) 32 ((a_rs h f (z_I h 52 (z_c f)) (m_X6_falls h (z_I h 52 (z_c f)) (z_I h 52 (z_c l)) p + m_X6_safe h) 40 (hi - m_X6_falls h m (z_I h 52 (z_c f)) p) (mi + m_X6_apart h m (z_I h 52 (z_c f)) * (10 - p))).1))) (z_I h 52 (z_c l)) (((a_rs h f (z_I h 52 (z_c f)) (m_X6_falls h (z_I h 52 (z_c f)) (z_I h 52 (z_c l)) p + m_X6_safe h) 40 (hi - m_X6_falls h m (z_I h 52 (z_c f)) p) (mi + m_X6_apart h m (z_I h 52 (z_c f)) * (10 - p))).1) - m_X6_falls h (z_I h 52 (z_c f)) (z_I h 52 (z_c l)) p) (((a_rs h f (z_I h 52 (z_c f)) (m_X6_falls h (z_I h 52 (z_c f)) (z_I h 52 (z_c l)) p + m_X6_safe h) 40 (hi - m_X6_falls h m (z_I h 52 (z_c f)) p) (mi + m_X6_apart h m (z_I h 52 (z_c f)) * (10 - p))).2) + m_X6_apart h (z_I h 52 (z_c f)) (z_I h 52 (z_c l)) * (10 - p))) rfl ?_
        refine z_if_eq 105 dX6_byOf_62 (by decide) (fun q => absurd q (by decide)) (fun _ => ?_)
        refine z_aload_n dX6_byOf_65 rfl rfl ?_
        refine z_iload_n dX6_byOf_66 rfl rfl ?_
        refine z_aload_n dX6_byOf_67 rfl rfl ?_
        refine z_getI dX6_byOf_68 fl_X6_25_6 (hF.1 49 _ rfl) rfl ?_
        refine z_eqi (z_I h 49 5) rfl ?_
        refine z_iload_n dX6_byOf_71 rfl rfl ?_
        refine z_iload_n dX6_byOf_72 rfl rfl ?_
        refine z_if_ge 81 dX6_byOf_73 (by decide) (fun _ => ?_) (fun q => by first | exact absurd (show (0 : Int32) ≤ f by rw [hf.1]; exact nI_le (a := 0) (Nat.zero_le _) (by have := hf.2; have := hm.2; omega)) q | exact absurd q (show (0 : Int32) ≤ f by rw [hf.1]; exact nI_le (a := 0) (Nat.zero_le _) (by have := hf.2; have := hm.2; omega)))
        refine z_bipush (v := 40) dX6_byOf_81 rfl ?_
        refine z_eqi (nI 40) rfl ?_
        refine z_vcall vl_X6_344_6 (c_X6_rises (h := h) (B := B + 891 + 40 + 891) hk hl (z_cn_gl (h := h) (z_cn_rs 40 _ _ _ hmi3 (by omega)) (hws _ hf.2) (hws _ hl.2) hp (by omega)) (by decide) (by omega)) dX6_byOf_83 rfl rfl (hF.1 49 _ rfl) ⟨by decide, by decide⟩ (Nat.le_of_ble_eq_true rfl) (Nat.le_refl _) (Nat.le_refl _) (z_cI ?_) z_tI
        refine z_meq (z_fy (z_sc h (upd (upd (upd (upd (upd s 29 mi) 30 m) 31 hi) 32 ((a_rs h f (z_I h 52 (z_c f)) (m_X6_falls h (z_I h 52 (z_c f)) (z_I h 52 (z_c l)) p + m_X6_safe h) 40 (hi - m_X6_falls h m (z_I h 52 (z_c f)) p) (mi + m_X6_apart h m (z_I h 52 (z_c f)) * (10 - p))).1)) 32 ((a_rs h l (z_I h 52 (z_c l)) (m_X6_falls h (z_I h 52 (z_c l)) (z_I h 49 5) p + m_X6_safe h) 40 (((a_rs h f (z_I h 52 (z_c f)) (m_X6_falls h (z_I h 52 (z_c f)) (z_I h 52 (z_c l)) p + m_X6_safe h) 40 (hi - m_X6_falls h m (z_I h 52 (z_c f)) p) (mi + m_X6_apart h m (z_I h 52 (z_c f)) * (10 - p))).1) - m_X6_falls h (z_I h 52 (z_c f)) (z_I h 52 (z_c l)) p) (((a_rs h f (z_I h 52 (z_c f)) (m_X6_falls h (z_I h 52 (z_c f)) (z_I h 52 (z_c l)) p + m_X6_safe h) 40 (hi - m_X6_falls h m (z_I h 52 (z_c f)) p) (mi + m_X6_apart h m (z_I h 52 (z_c f)) * (10 - p))).2) + m_X6_apart h (z_I h 52 (z_c f)) (z_I h 52 (z_c l)) * (10 - p))).1))) (z_I h 52 (z_c l)) ((a_rs h l (z_I h 52 (z_c l)) (m_X6_falls h (z_I h 52 (z_c l)) (z_I h 49 5) p + m_X6_safe h) 40 (((a_rs h f (z_I h 52 (z_c f)) (m_X6_falls h (z_I h 52 (z_c f)) (z_I h 52 (z_c l)) p + m_X6_safe h) 40 (hi - m_X6_falls h m (z_I h 52 (z_c f)) p) (mi + m_X6_apart h m (z_I h 52 (z_c f)) * (10 - p))).1) - m_X6_falls h (z_I h 52 (z_c f)) (z_I h 52 (z_c l)) p) (((a_rs h f (z_I h 52 (z_c f)) (m_X6_falls h (z_I h 52 (z_c f)) (z_I h 52 (z_c l)) p + m_X6_safe h) 40 (hi - m_X6_falls h m (z_I h 52 (z_c f)) p) (mi + m_X6_apart h m (z_I h 52 (z_c f)) * (10 - p))).2) + m_X6_apart h (z_I h 52 (z_c f)) (z_I h 52 (z_c l)) * (10 - p))).1) ((a_rs h l (z_I h 52 (z_c l)) (m_X6_falls h (z_I h 52 (z_c l)) (z_I h 49 5) p + m_X6_safe h) 40 (((a_rs h f (z_I h 52 (z_c f)) (m_X6_falls h (z_I h 52 (z_c f)) (z_I h 52 (z_c l)) p + m_X6_safe h) 40 (hi - m_X6_falls h m (z_I h 52 (z_c f)) p) (mi + m_X6_apart h m (z_I h 52 (z_c f)) * (10 - p))).1) - m_X6_falls h (z_I h 52 (z_c f)) (z_I h 52 (z_c l)) p) (((a_rs h f (z_I h 52 (z_c f)) (m_X6_falls h (z_I h 52 (z_c f)) (z_I h 52 (z_c l)) p + m_X6_safe h) 40 (hi - m_X6_falls h m (z_I h 52 (z_c f)) p) (mi + m_X6_apart h m (z_I h 52 (z_c f)) * (10 - p))).2) + m_X6_apart h (z_I h 52 (z_c f)) (z_I h 52 (z_c l)) * (10 - p))).2)) rfl ?_
        refine z_bif_eq 105 dX6_byOf_86 (by decide) (fun c86 => ?_) (fun c86 => ?_)
        · refine z_iconst (v := 0) dX6_byOf_105 rfl ?_
          refine z_istore dX6_byOf_106 (by decide) rfl ?_
          refine z_aload_n dX6_byOf_108 rfl rfl ?_
          refine z_getI dX6_byOf_109 fl_X6_13_6 (hF.1 49 _ rfl) rfl ?_
          refine z_eqi ((a_rs h l (z_I h 52 (z_c l)) (m_X6_falls h (z_I h 52 (z_c l)) (z_I h 49 5) p + m_X6_safe h) 40 (((a_rs h f (z_I h 52 (z_c f)) (m_X6_falls h (z_I h 52 (z_c f)) (z_I h 52 (z_c l)) p + m_X6_safe h) 40 (hi - m_X6_falls h m (z_I h 52 (z_c f)) p) (mi + m_X6_apart h m (z_I h 52 (z_c f)) * (10 - p))).1) - m_X6_falls h (z_I h 52 (z_c f)) (z_I h 52 (z_c l)) p) (((a_rs h f (z_I h 52 (z_c f)) (m_X6_falls h (z_I h 52 (z_c f)) (z_I h 52 (z_c l)) p + m_X6_safe h) 40 (hi - m_X6_falls h m (z_I h 52 (z_c f)) p) (mi + m_X6_apart h m (z_I h 52 (z_c f)) * (10 - p))).2) + m_X6_apart h (z_I h 52 (z_c f)) (z_I h 52 (z_c l)) * (10 - p))).2) rfl ?_
          refine z_aload_n dX6_byOf_112 rfl rfl ?_
          refine z_getI dX6_byOf_113 fl_X6_99_6 (hF.1 49 _ rfl) rfl ?_
          refine z_eqi (mi) rfl ?_
          refine z_isub dX6_byOf_116 ?_
          refine z_istore dX6_byOf_117 (by decide) rfl ?_
          refine z_aload_n dX6_byOf_119 rfl rfl ?_
          refine z_vcall vl_X6_335_6 (c_X6_putBack hF) dX6_byOf_120 rfl rfl (hF.1 49 _ rfl) ⟨by decide, by decide⟩ (Nat.le_of_ble_eq_true rfl) (Nat.le_refl _) (Nat.le_refl _) (z_cV ?_) z_tV
          refine z_meq (z_fy (z_sc h (upd (upd (upd (upd (upd s 29 mi) 30 m) 31 hi) 32 ((a_rs h f (z_I h 52 (z_c f)) (m_X6_falls h (z_I h 52 (z_c f)) (z_I h 52 (z_c l)) p + m_X6_safe h) 40 (hi - m_X6_falls h m (z_I h 52 (z_c f)) p) (mi + m_X6_apart h m (z_I h 52 (z_c f)) * (10 - p))).1)) 32 ((a_rs h l (z_I h 52 (z_c l)) (m_X6_falls h (z_I h 52 (z_c l)) (z_I h 49 5) p + m_X6_safe h) 40 (((a_rs h f (z_I h 52 (z_c f)) (m_X6_falls h (z_I h 52 (z_c f)) (z_I h 52 (z_c l)) p + m_X6_safe h) 40 (hi - m_X6_falls h m (z_I h 52 (z_c f)) p) (mi + m_X6_apart h m (z_I h 52 (z_c f)) * (10 - p))).1) - m_X6_falls h (z_I h 52 (z_c f)) (z_I h 52 (z_c l)) p) (((a_rs h f (z_I h 52 (z_c f)) (m_X6_falls h (z_I h 52 (z_c f)) (z_I h 52 (z_c l)) p + m_X6_safe h) 40 (hi - m_X6_falls h m (z_I h 52 (z_c f)) p) (mi + m_X6_apart h m (z_I h 52 (z_c f)) * (10 - p))).2) + m_X6_apart h (z_I h 52 (z_c f)) (z_I h 52 (z_c l)) * (10 - p))).1))) m hi mi) rfl ?_
          refine z_iload dX6_byOf_123 rfl ?_
          refine z_if_eq 133 dX6_byOf_125 (by decide) (fun _ => ?_) (fun q => absurd q (by decide))
          refine z_bipush (v := (-5)) dX6_byOf_133 rfl ?_
          refine z_iret dX6_byOf_135 rfl rfl (Nat.le_refl _) (Nat.le_refl _) (z_q3_i ?_ ?_ rfl rfl rfl)
          · unfold m_X6_byOf2; rw [if_pos (show m_X6_falls h m (z_I h 52 (z_c f)) p ≤ hi from g16), if_pos (show m_X6_falls h (z_I h 52 (z_c f)) (z_I h 52 (z_c l)) p + m_X6_safe h ≤ (a_rs h f (z_I h 52 (z_c f)) (m_X6_falls h (z_I h 52 (z_c f)) (z_I h 52 (z_c l)) p + m_X6_safe h) 40 (hi - m_X6_falls h m (z_I h 52 (z_c f)) p) (mi + m_X6_apart h m (z_I h 52 (z_c f)) * (10 - p))).1 from c36), if_pos (show m_X6_falls h (z_I h 52 (z_c f)) (z_I h 52 (z_c l)) p ≤ ((a_rs h f (z_I h 52 (z_c f)) (m_X6_falls h (z_I h 52 (z_c f)) (z_I h 52 (z_c l)) p + m_X6_safe h) 40 (hi - m_X6_falls h m (z_I h 52 (z_c f)) p) (mi + m_X6_apart h m (z_I h 52 (z_c f)) * (10 - p))).1) from g59), if_neg (show ¬ (m_X6_falls h (z_I h 52 (z_c l)) (z_I h 49 5) p + m_X6_safe h ≤ (a_rs h l (z_I h 52 (z_c l)) (m_X6_falls h (z_I h 52 (z_c l)) (z_I h 49 5) p + m_X6_safe h) 40 (((a_rs h f (z_I h 52 (z_c f)) (m_X6_falls h (z_I h 52 (z_c f)) (z_I h 52 (z_c l)) p + m_X6_safe h) 40 (hi - m_X6_falls h m (z_I h 52 (z_c f)) p) (mi + m_X6_apart h m (z_I h 52 (z_c f)) * (10 - p))).1) - m_X6_falls h (z_I h 52 (z_c f)) (z_I h 52 (z_c l)) p) (((a_rs h f (z_I h 52 (z_c f)) (m_X6_falls h (z_I h 52 (z_c f)) (z_I h 52 (z_c l)) p + m_X6_safe h) 40 (hi - m_X6_falls h m (z_I h 52 (z_c f)) p) (mi + m_X6_apart h m (z_I h 52 (z_c f)) * (10 - p))).2) + m_X6_apart h (z_I h 52 (z_c f)) (z_I h 52 (z_c l)) * (10 - p))).1) from c86)]
          · unfold m_X6_byOf2_l; rw [if_pos (show m_X6_falls h m (z_I h 52 (z_c f)) p ≤ hi from g16), if_pos (show m_X6_falls h (z_I h 52 (z_c f)) (z_I h 52 (z_c l)) p + m_X6_safe h ≤ (a_rs h f (z_I h 52 (z_c f)) (m_X6_falls h (z_I h 52 (z_c f)) (z_I h 52 (z_c l)) p + m_X6_safe h) 40 (hi - m_X6_falls h m (z_I h 52 (z_c f)) p) (mi + m_X6_apart h m (z_I h 52 (z_c f)) * (10 - p))).1 from c36), if_pos (show m_X6_falls h (z_I h 52 (z_c f)) (z_I h 52 (z_c l)) p ≤ ((a_rs h f (z_I h 52 (z_c f)) (m_X6_falls h (z_I h 52 (z_c f)) (z_I h 52 (z_c l)) p + m_X6_safe h) 40 (hi - m_X6_falls h m (z_I h 52 (z_c f)) p) (mi + m_X6_apart h m (z_I h 52 (z_c f)) * (10 - p))).1) from g59), if_neg (show ¬ (m_X6_falls h (z_I h 52 (z_c l)) (z_I h 49 5) p + m_X6_safe h ≤ (a_rs h l (z_I h 52 (z_c l)) (m_X6_falls h (z_I h 52 (z_c l)) (z_I h 49 5) p + m_X6_safe h) 40 (((a_rs h f (z_I h 52 (z_c f)) (m_X6_falls h (z_I h 52 (z_c f)) (z_I h 52 (z_c l)) p + m_X6_safe h) 40 (hi - m_X6_falls h m (z_I h 52 (z_c f)) p) (mi + m_X6_apart h m (z_I h 52 (z_c f)) * (10 - p))).1) - m_X6_falls h (z_I h 52 (z_c f)) (z_I h 52 (z_c l)) p) (((a_rs h f (z_I h 52 (z_c f)) (m_X6_falls h (z_I h 52 (z_c f)) (z_I h 52 (z_c l)) p + m_X6_safe h) 40 (hi - m_X6_falls h m (z_I h 52 (z_c f)) p) (mi + m_X6_apart h m (z_I h 52 (z_c f)) * (10 - p))).2) + m_X6_apart h (z_I h 52 (z_c f)) (z_I h 52 (z_c l)) * (10 - p))).1) from c86)]; rfl
        · refine z_aload_n dX6_byOf_89 rfl rfl ?_
          refine z_aload_n dX6_byOf_90 rfl rfl ?_
          refine z_getI dX6_byOf_91 fl_X6_25_6 (hF.1 49 _ rfl) rfl ?_
          refine z_eqi (z_I h 49 5) rfl ?_
          refine z_iload_n dX6_byOf_94 rfl rfl ?_
          by_cases g95 : m_X6_falls h (z_I h 52 (z_c l)) (z_I h 49 5) p ≤ ((a_rs h l (z_I h 52 (z_c l)) (m_X6_falls h (z_I h 52 (z_c l)) (z_I h 49 5) p + m_X6_safe h) 40 (((a_rs h f (z_I h 52 (z_c f)) (m_X6_falls h (z_I h 52 (z_c f)) (z_I h 52 (z_c l)) p + m_X6_safe h) 40 (hi - m_X6_falls h m (z_I h 52 (z_c f)) p) (mi + m_X6_apart h m (z_I h 52 (z_c f)) * (10 - p))).1) - m_X6_falls h (z_I h 52 (z_c f)) (z_I h 52 (z_c l)) p) (((a_rs h f (z_I h 52 (z_c f)) (m_X6_falls h (z_I h 52 (z_c f)) (z_I h 52 (z_c l)) p + m_X6_safe h) 40 (hi - m_X6_falls h m (z_I h 52 (z_c f)) p) (mi + m_X6_apart h m (z_I h 52 (z_c f)) * (10 - p))).2) + m_X6_apart h (z_I h 52 (z_c f)) (z_I h 52 (z_c l)) * (10 - p))).1)
          · refine z_vcall vl_X6_329_6 (c_X6_goGlide_y (h := z_sc h (upd (upd (upd (upd (upd s 29 mi) 30 m) 31 hi) 32 ((a_rs h f (z_I h 52 (z_c f)) (m_X6_falls h (z_I h 52 (z_c f)) (z_I h 52 (z_c l)) p + m_X6_safe h) 40 (hi - m_X6_falls h m (z_I h 52 (z_c f)) p) (mi + m_X6_apart h m (z_I h 52 (z_c f)) * (10 - p))).1)) 32 ((a_rs h l (z_I h 52 (z_c l)) (m_X6_falls h (z_I h 52 (z_c l)) (z_I h 49 5) p + m_X6_safe h) 40 (((a_rs h f (z_I h 52 (z_c f)) (m_X6_falls h (z_I h 52 (z_c f)) (z_I h 52 (z_c l)) p + m_X6_safe h) 40 (hi - m_X6_falls h m (z_I h 52 (z_c f)) p) (mi + m_X6_apart h m (z_I h 52 (z_c f)) * (10 - p))).1) - m_X6_falls h (z_I h 52 (z_c f)) (z_I h 52 (z_c l)) p) (((a_rs h f (z_I h 52 (z_c f)) (m_X6_falls h (z_I h 52 (z_c f)) (z_I h 52 (z_c l)) p + m_X6_safe h) 40 (hi - m_X6_falls h m (z_I h 52 (z_c f)) p) (mi + m_X6_apart h m (z_I h 52 (z_c f)) * (10 - p))).2) + m_X6_apart h (z_I h 52 (z_c f)) (z_I h 52 (z_c l)) * (10 - p))).1))) hF g95) dX6_byOf_95 rfl rfl (hF.1 49 _ rfl) ⟨by decide, by decide⟩ (Nat.le_of_ble_eq_true rfl) (Nat.le_refl _) (Nat.le_refl _) (z_cI ?_) z_tI
            refine z_meq (z_fy (z_sc h (upd (upd (upd (upd (upd s 29 mi) 30 m) 31 hi) 32 ((a_rs h f (z_I h 52 (z_c f)) (m_X6_falls h (z_I h 52 (z_c f)) (z_I h 52 (z_c l)) p + m_X6_safe h) 40 (hi - m_X6_falls h m (z_I h 52 (z_c f)) p) (mi + m_X6_apart h m (z_I h 52 (z_c f)) * (10 - p))).1)) 32 ((a_rs h l (z_I h 52 (z_c l)) (m_X6_falls h (z_I h 52 (z_c l)) (z_I h 49 5) p + m_X6_safe h) 40 (((a_rs h f (z_I h 52 (z_c f)) (m_X6_falls h (z_I h 52 (z_c f)) (z_I h 52 (z_c l)) p + m_X6_safe h) 40 (hi - m_X6_falls h m (z_I h 52 (z_c f)) p) (mi + m_X6_apart h m (z_I h 52 (z_c f)) * (10 - p))).1) - m_X6_falls h (z_I h 52 (z_c f)) (z_I h 52 (z_c l)) p) (((a_rs h f (z_I h 52 (z_c f)) (m_X6_falls h (z_I h 52 (z_c f)) (z_I h 52 (z_c l)) p + m_X6_safe h) 40 (hi - m_X6_falls h m (z_I h 52 (z_c f)) p) (mi + m_X6_apart h m (z_I h 52 (z_c f)) * (10 - p))).2) + m_X6_apart h (z_I h 52 (z_c f)) (z_I h 52 (z_c l)) * (10 - p))).1))) (z_I h 49 5) (((a_rs h l (z_I h 52 (z_c l)) (m_X6_falls h (z_I h 52 (z_c l)) (z_I h 49 5) p + m_X6_safe h) 40 (((a_rs h f (z_I h 52 (z_c f)) (m_X6_falls h (z_I h 52 (z_c f)) (z_I h 52 (z_c l)) p + m_X6_safe h) 40 (hi - m_X6_falls h m (z_I h 52 (z_c f)) p) (mi + m_X6_apart h m (z_I h 52 (z_c f)) * (10 - p))).1) - m_X6_falls h (z_I h 52 (z_c f)) (z_I h 52 (z_c l)) p) (((a_rs h f (z_I h 52 (z_c f)) (m_X6_falls h (z_I h 52 (z_c f)) (z_I h 52 (z_c l)) p + m_X6_safe h) 40 (hi - m_X6_falls h m (z_I h 52 (z_c f)) p) (mi + m_X6_apart h m (z_I h 52 (z_c f)) * (10 - p))).2) + m_X6_apart h (z_I h 52 (z_c f)) (z_I h 52 (z_c l)) * (10 - p))).1) - m_X6_falls h (z_I h 52 (z_c l)) (z_I h 49 5) p) (((a_rs h l (z_I h 52 (z_c l)) (m_X6_falls h (z_I h 52 (z_c l)) (z_I h 49 5) p + m_X6_safe h) 40 (((a_rs h f (z_I h 52 (z_c f)) (m_X6_falls h (z_I h 52 (z_c f)) (z_I h 52 (z_c l)) p + m_X6_safe h) 40 (hi - m_X6_falls h m (z_I h 52 (z_c f)) p) (mi + m_X6_apart h m (z_I h 52 (z_c f)) * (10 - p))).1) - m_X6_falls h (z_I h 52 (z_c f)) (z_I h 52 (z_c l)) p) (((a_rs h f (z_I h 52 (z_c f)) (m_X6_falls h (z_I h 52 (z_c f)) (z_I h 52 (z_c l)) p + m_X6_safe h) 40 (hi - m_X6_falls h m (z_I h 52 (z_c f)) p) (mi + m_X6_apart h m (z_I h 52 (z_c f)) * (10 - p))).2) + m_X6_apart h (z_I h 52 (z_c f)) (z_I h 52 (z_c l)) * (10 - p))).2) + m_X6_apart h (z_I h 52 (z_c l)) (z_I h 49 5) * (10 - p))) rfl ?_
            refine z_if_eq 105 dX6_byOf_98 (by decide) (fun q => absurd q (by decide)) (fun _ => ?_)
            refine z_iconst (v := 1) dX6_byOf_101 rfl ?_
            refine z_goto 106 dX6_byOf_102 (by decide) ?_
            refine z_istore dX6_byOf_106 (by decide) rfl ?_
            refine z_aload_n dX6_byOf_108 rfl rfl ?_
            refine z_getI dX6_byOf_109 fl_X6_13_6 (hF.1 49 _ rfl) rfl ?_
            refine z_eqi (((a_rs h l (z_I h 52 (z_c l)) (m_X6_falls h (z_I h 52 (z_c l)) (z_I h 49 5) p + m_X6_safe h) 40 (((a_rs h f (z_I h 52 (z_c f)) (m_X6_falls h (z_I h 52 (z_c f)) (z_I h 52 (z_c l)) p + m_X6_safe h) 40 (hi - m_X6_falls h m (z_I h 52 (z_c f)) p) (mi + m_X6_apart h m (z_I h 52 (z_c f)) * (10 - p))).1) - m_X6_falls h (z_I h 52 (z_c f)) (z_I h 52 (z_c l)) p) (((a_rs h f (z_I h 52 (z_c f)) (m_X6_falls h (z_I h 52 (z_c f)) (z_I h 52 (z_c l)) p + m_X6_safe h) 40 (hi - m_X6_falls h m (z_I h 52 (z_c f)) p) (mi + m_X6_apart h m (z_I h 52 (z_c f)) * (10 - p))).2) + m_X6_apart h (z_I h 52 (z_c f)) (z_I h 52 (z_c l)) * (10 - p))).2) + m_X6_apart h (z_I h 52 (z_c l)) (z_I h 49 5) * (10 - p)) rfl ?_
            refine z_aload_n dX6_byOf_112 rfl rfl ?_
            refine z_getI dX6_byOf_113 fl_X6_99_6 (hF.1 49 _ rfl) rfl ?_
            refine z_eqi (mi) rfl ?_
            refine z_isub dX6_byOf_116 ?_
            refine z_istore dX6_byOf_117 (by decide) rfl ?_
            refine z_aload_n dX6_byOf_119 rfl rfl ?_
            refine z_vcall vl_X6_335_6 (c_X6_putBack hF) dX6_byOf_120 rfl rfl (hF.1 49 _ rfl) ⟨by decide, by decide⟩ (Nat.le_of_ble_eq_true rfl) (Nat.le_refl _) (Nat.le_refl _) (z_cV ?_) z_tV
            refine z_meq (z_fy (z_sc h (upd (upd (upd (upd (upd s 29 mi) 30 m) 31 hi) 32 ((a_rs h f (z_I h 52 (z_c f)) (m_X6_falls h (z_I h 52 (z_c f)) (z_I h 52 (z_c l)) p + m_X6_safe h) 40 (hi - m_X6_falls h m (z_I h 52 (z_c f)) p) (mi + m_X6_apart h m (z_I h 52 (z_c f)) * (10 - p))).1)) 32 ((a_rs h l (z_I h 52 (z_c l)) (m_X6_falls h (z_I h 52 (z_c l)) (z_I h 49 5) p + m_X6_safe h) 40 (((a_rs h f (z_I h 52 (z_c f)) (m_X6_falls h (z_I h 52 (z_c f)) (z_I h 52 (z_c l)) p + m_X6_safe h) 40 (hi - m_X6_falls h m (z_I h 52 (z_c f)) p) (mi + m_X6_apart h m (z_I h 52 (z_c f)) * (10 - p))).1) - m_X6_falls h (z_I h 52 (z_c f)) (z_I h 52 (z_c l)) p) (((a_rs h f (z_I h 52 (z_c f)) (m_X6_falls h (z_I h 52 (z_c f)) (z_I h 52 (z_c l)) p + m_X6_safe h) 40 (hi - m_X6_falls h m (z_I h 52 (z_c f)) p) (mi + m_X6_apart h m (z_I h 52 (z_c f)) * (10 - p))).2) + m_X6_apart h (z_I h 52 (z_c f)) (z_I h 52 (z_c l)) * (10 - p))).1))) m hi mi) rfl ?_
            refine z_iload dX6_byOf_123 rfl ?_
            refine z_if_eq 133 dX6_byOf_125 (by decide) (fun q => absurd q (by decide)) (fun _ => ?_)
            refine z_iload dX6_byOf_128 rfl ?_
            refine z_goto 135 dX6_byOf_130 (by decide) ?_
            refine z_iret dX6_byOf_135 rfl rfl (Nat.le_refl _) (Nat.le_refl _) (z_q3_i ?_ ?_ rfl rfl rfl)
            · unfold m_X6_byOf2; rw [if_pos (show m_X6_falls h m (z_I h 52 (z_c f)) p ≤ hi from g16), if_pos (show m_X6_falls h (z_I h 52 (z_c f)) (z_I h 52 (z_c l)) p + m_X6_safe h ≤ (a_rs h f (z_I h 52 (z_c f)) (m_X6_falls h (z_I h 52 (z_c f)) (z_I h 52 (z_c l)) p + m_X6_safe h) 40 (hi - m_X6_falls h m (z_I h 52 (z_c f)) p) (mi + m_X6_apart h m (z_I h 52 (z_c f)) * (10 - p))).1 from c36), if_pos (show m_X6_falls h (z_I h 52 (z_c f)) (z_I h 52 (z_c l)) p ≤ ((a_rs h f (z_I h 52 (z_c f)) (m_X6_falls h (z_I h 52 (z_c f)) (z_I h 52 (z_c l)) p + m_X6_safe h) 40 (hi - m_X6_falls h m (z_I h 52 (z_c f)) p) (mi + m_X6_apart h m (z_I h 52 (z_c f)) * (10 - p))).1) from g59), if_pos (show m_X6_falls h (z_I h 52 (z_c l)) (z_I h 49 5) p + m_X6_safe h ≤ (a_rs h l (z_I h 52 (z_c l)) (m_X6_falls h (z_I h 52 (z_c l)) (z_I h 49 5) p + m_X6_safe h) 40 (((a_rs h f (z_I h 52 (z_c f)) (m_X6_falls h (z_I h 52 (z_c f)) (z_I h 52 (z_c l)) p + m_X6_safe h) 40 (hi - m_X6_falls h m (z_I h 52 (z_c f)) p) (mi + m_X6_apart h m (z_I h 52 (z_c f)) * (10 - p))).1) - m_X6_falls h (z_I h 52 (z_c f)) (z_I h 52 (z_c l)) p) (((a_rs h f (z_I h 52 (z_c f)) (m_X6_falls h (z_I h 52 (z_c f)) (z_I h 52 (z_c l)) p + m_X6_safe h) 40 (hi - m_X6_falls h m (z_I h 52 (z_c f)) p) (mi + m_X6_apart h m (z_I h 52 (z_c f)) * (10 - p))).2) + m_X6_apart h (z_I h 52 (z_c f)) (z_I h 52 (z_c l)) * (10 - p))).1 from c86), if_pos (show m_X6_falls h (z_I h 52 (z_c l)) (z_I h 49 5) p ≤ ((a_rs h l (z_I h 52 (z_c l)) (m_X6_falls h (z_I h 52 (z_c l)) (z_I h 49 5) p + m_X6_safe h) 40 (((a_rs h f (z_I h 52 (z_c f)) (m_X6_falls h (z_I h 52 (z_c f)) (z_I h 52 (z_c l)) p + m_X6_safe h) 40 (hi - m_X6_falls h m (z_I h 52 (z_c f)) p) (mi + m_X6_apart h m (z_I h 52 (z_c f)) * (10 - p))).1) - m_X6_falls h (z_I h 52 (z_c f)) (z_I h 52 (z_c l)) p) (((a_rs h f (z_I h 52 (z_c f)) (m_X6_falls h (z_I h 52 (z_c f)) (z_I h 52 (z_c l)) p + m_X6_safe h) 40 (hi - m_X6_falls h m (z_I h 52 (z_c f)) p) (mi + m_X6_apart h m (z_I h 52 (z_c f)) * (10 - p))).2) + m_X6_apart h (z_I h 52 (z_c f)) (z_I h 52 (z_c l)) * (10 - p))).1) from g95)]
            · unfold m_X6_byOf2_l; rw [if_pos (show m_X6_falls h m (z_I h 52 (z_c f)) p ≤ hi from g16), if_pos (show m_X6_falls h (z_I h 52 (z_c f)) (z_I h 52 (z_c l)) p + m_X6_safe h ≤ (a_rs h f (z_I h 52 (z_c f)) (m_X6_falls h (z_I h 52 (z_c f)) (z_I h 52 (z_c l)) p + m_X6_safe h) 40 (hi - m_X6_falls h m (z_I h 52 (z_c f)) p) (mi + m_X6_apart h m (z_I h 52 (z_c f)) * (10 - p))).1 from c36), if_pos (show m_X6_falls h (z_I h 52 (z_c f)) (z_I h 52 (z_c l)) p ≤ ((a_rs h f (z_I h 52 (z_c f)) (m_X6_falls h (z_I h 52 (z_c f)) (z_I h 52 (z_c l)) p + m_X6_safe h) 40 (hi - m_X6_falls h m (z_I h 52 (z_c f)) p) (mi + m_X6_apart h m (z_I h 52 (z_c f)) * (10 - p))).1) from g59), if_pos (show m_X6_falls h (z_I h 52 (z_c l)) (z_I h 49 5) p + m_X6_safe h ≤ (a_rs h l (z_I h 52 (z_c l)) (m_X6_falls h (z_I h 52 (z_c l)) (z_I h 49 5) p + m_X6_safe h) 40 (((a_rs h f (z_I h 52 (z_c f)) (m_X6_falls h (z_I h 52 (z_c f)) (z_I h 52 (z_c l)) p + m_X6_safe h) 40 (hi - m_X6_falls h m (z_I h 52 (z_c f)) p) (mi + m_X6_apart h m (z_I h 52 (z_c f)) * (10 - p))).1) - m_X6_falls h (z_I h 52 (z_c f)) (z_I h 52 (z_c l)) p) (((a_rs h f (z_I h 52 (z_c f)) (m_X6_falls h (z_I h 52 (z_c f)) (z_I h 52 (z_c l)) p + m_X6_safe h) 40 (hi - m_X6_falls h m (z_I h 52 (z_c f)) p) (mi + m_X6_apart h m (z_I h 52 (z_c f)) * (10 - p))).2) + m_X6_apart h (z_I h 52 (z_c f)) (z_I h 52 (z_c l)) * (10 - p))).1 from c86), if_pos (show m_X6_falls h (z_I h 52 (z_c l)) (z_I h 49 5) p ≤ ((a_rs h l (z_I h 52 (z_c l)) (m_X6_falls h (z_I h 52 (z_c l)) (z_I h 49 5) p + m_X6_safe h) 40 (((a_rs h f (z_I h 52 (z_c f)) (m_X6_falls h (z_I h 52 (z_c f)) (z_I h 52 (z_c l)) p + m_X6_safe h) 40 (hi - m_X6_falls h m (z_I h 52 (z_c f)) p) (mi + m_X6_apart h m (z_I h 52 (z_c f)) * (10 - p))).1) - m_X6_falls h (z_I h 52 (z_c f)) (z_I h 52 (z_c l)) p) (((a_rs h f (z_I h 52 (z_c f)) (m_X6_falls h (z_I h 52 (z_c f)) (z_I h 52 (z_c l)) p + m_X6_safe h) 40 (hi - m_X6_falls h m (z_I h 52 (z_c f)) p) (mi + m_X6_apart h m (z_I h 52 (z_c f)) * (10 - p))).2) + m_X6_apart h (z_I h 52 (z_c f)) (z_I h 52 (z_c l)) * (10 - p))).1) from g95)]; rfl
          · refine z_vcall vl_X6_329_6 (c_X6_goGlide_n (h := z_sc h (upd (upd (upd (upd (upd s 29 mi) 30 m) 31 hi) 32 ((a_rs h f (z_I h 52 (z_c f)) (m_X6_falls h (z_I h 52 (z_c f)) (z_I h 52 (z_c l)) p + m_X6_safe h) 40 (hi - m_X6_falls h m (z_I h 52 (z_c f)) p) (mi + m_X6_apart h m (z_I h 52 (z_c f)) * (10 - p))).1)) 32 ((a_rs h l (z_I h 52 (z_c l)) (m_X6_falls h (z_I h 52 (z_c l)) (z_I h 49 5) p + m_X6_safe h) 40 (((a_rs h f (z_I h 52 (z_c f)) (m_X6_falls h (z_I h 52 (z_c f)) (z_I h 52 (z_c l)) p + m_X6_safe h) 40 (hi - m_X6_falls h m (z_I h 52 (z_c f)) p) (mi + m_X6_apart h m (z_I h 52 (z_c f)) * (10 - p))).1) - m_X6_falls h (z_I h 52 (z_c f)) (z_I h 52 (z_c l)) p) (((a_rs h f (z_I h 52 (z_c f)) (m_X6_falls h (z_I h 52 (z_c f)) (z_I h 52 (z_c l)) p + m_X6_safe h) 40 (hi - m_X6_falls h m (z_I h 52 (z_c f)) p) (mi + m_X6_apart h m (z_I h 52 (z_c f)) * (10 - p))).2) + m_X6_apart h (z_I h 52 (z_c f)) (z_I h 52 (z_c l)) * (10 - p))).1))) hF g95) dX6_byOf_95 rfl rfl (hF.1 49 _ rfl) ⟨by decide, by decide⟩ (Nat.le_of_ble_eq_true rfl) (Nat.le_refl _) (Nat.le_refl _) (z_cI ?_) z_tI
            refine z_meq (z_fy (z_sc h (upd (upd (upd (upd (upd s 29 mi) 30 m) 31 hi) 32 ((a_rs h f (z_I h 52 (z_c f)) (m_X6_falls h (z_I h 52 (z_c f)) (z_I h 52 (z_c l)) p + m_X6_safe h) 40 (hi - m_X6_falls h m (z_I h 52 (z_c f)) p) (mi + m_X6_apart h m (z_I h 52 (z_c f)) * (10 - p))).1)) 32 ((a_rs h l (z_I h 52 (z_c l)) (m_X6_falls h (z_I h 52 (z_c l)) (z_I h 49 5) p + m_X6_safe h) 40 (((a_rs h f (z_I h 52 (z_c f)) (m_X6_falls h (z_I h 52 (z_c f)) (z_I h 52 (z_c l)) p + m_X6_safe h) 40 (hi - m_X6_falls h m (z_I h 52 (z_c f)) p) (mi + m_X6_apart h m (z_I h 52 (z_c f)) * (10 - p))).1) - m_X6_falls h (z_I h 52 (z_c f)) (z_I h 52 (z_c l)) p) (((a_rs h f (z_I h 52 (z_c f)) (m_X6_falls h (z_I h 52 (z_c f)) (z_I h 52 (z_c l)) p + m_X6_safe h) 40 (hi - m_X6_falls h m (z_I h 52 (z_c f)) p) (mi + m_X6_apart h m (z_I h 52 (z_c f)) * (10 - p))).2) + m_X6_apart h (z_I h 52 (z_c f)) (z_I h 52 (z_c l)) * (10 - p))).1))) (z_I h 52 (z_c l)) ((a_rs h l (z_I h 52 (z_c l)) (m_X6_falls h (z_I h 52 (z_c l)) (z_I h 49 5) p + m_X6_safe h) 40 (((a_rs h f (z_I h 52 (z_c f)) (m_X6_falls h (z_I h 52 (z_c f)) (z_I h 52 (z_c l)) p + m_X6_safe h) 40 (hi - m_X6_falls h m (z_I h 52 (z_c f)) p) (mi + m_X6_apart h m (z_I h 52 (z_c f)) * (10 - p))).1) - m_X6_falls h (z_I h 52 (z_c f)) (z_I h 52 (z_c l)) p) (((a_rs h f (z_I h 52 (z_c f)) (m_X6_falls h (z_I h 52 (z_c f)) (z_I h 52 (z_c l)) p + m_X6_safe h) 40 (hi - m_X6_falls h m (z_I h 52 (z_c f)) p) (mi + m_X6_apart h m (z_I h 52 (z_c f)) * (10 - p))).2) + m_X6_apart h (z_I h 52 (z_c f)) (z_I h 52 (z_c l)) * (10 - p))).1) ((a_rs h l (z_I h 52 (z_c l)) (m_X6_falls h (z_I h 52 (z_c l)) (z_I h 49 5) p + m_X6_safe h) 40 (((a_rs h f (z_I h 52 (z_c f)) (m_X6_falls h (z_I h 52 (z_c f)) (z_I h 52 (z_c l)) p + m_X6_safe h) 40 (hi - m_X6_falls h m (z_I h 52 (z_c f)) p) (mi + m_X6_apart h m (z_I h 52 (z_c f)) * (10 - p))).1) - m_X6_falls h (z_I h 52 (z_c f)) (z_I h 52 (z_c l)) p) (((a_rs h f (z_I h 52 (z_c f)) (m_X6_falls h (z_I h 52 (z_c f)) (z_I h 52 (z_c l)) p + m_X6_safe h) 40 (hi - m_X6_falls h m (z_I h 52 (z_c f)) p) (mi + m_X6_apart h m (z_I h 52 (z_c f)) * (10 - p))).2) + m_X6_apart h (z_I h 52 (z_c f)) (z_I h 52 (z_c l)) * (10 - p))).2)) rfl ?_
            refine z_if_eq 105 dX6_byOf_98 (by decide) (fun _ => ?_) (fun q => absurd q (by decide))
            refine z_iconst (v := 0) dX6_byOf_105 rfl ?_
            refine z_istore dX6_byOf_106 (by decide) rfl ?_
            refine z_aload_n dX6_byOf_108 rfl rfl ?_
            refine z_getI dX6_byOf_109 fl_X6_13_6 (hF.1 49 _ rfl) rfl ?_
            refine z_eqi ((a_rs h l (z_I h 52 (z_c l)) (m_X6_falls h (z_I h 52 (z_c l)) (z_I h 49 5) p + m_X6_safe h) 40 (((a_rs h f (z_I h 52 (z_c f)) (m_X6_falls h (z_I h 52 (z_c f)) (z_I h 52 (z_c l)) p + m_X6_safe h) 40 (hi - m_X6_falls h m (z_I h 52 (z_c f)) p) (mi + m_X6_apart h m (z_I h 52 (z_c f)) * (10 - p))).1) - m_X6_falls h (z_I h 52 (z_c f)) (z_I h 52 (z_c l)) p) (((a_rs h f (z_I h 52 (z_c f)) (m_X6_falls h (z_I h 52 (z_c f)) (z_I h 52 (z_c l)) p + m_X6_safe h) 40 (hi - m_X6_falls h m (z_I h 52 (z_c f)) p) (mi + m_X6_apart h m (z_I h 52 (z_c f)) * (10 - p))).2) + m_X6_apart h (z_I h 52 (z_c f)) (z_I h 52 (z_c l)) * (10 - p))).2) rfl ?_
            refine z_aload_n dX6_byOf_112 rfl rfl ?_
            refine z_getI dX6_byOf_113 fl_X6_99_6 (hF.1 49 _ rfl) rfl ?_
            refine z_eqi (mi) rfl ?_
            refine z_isub dX6_byOf_116 ?_
            refine z_istore dX6_byOf_117 (by decide) rfl ?_
            refine z_aload_n dX6_byOf_119 rfl rfl ?_
            refine z_vcall vl_X6_335_6 (c_X6_putBack hF) dX6_byOf_120 rfl rfl (hF.1 49 _ rfl) ⟨by decide, by decide⟩ (Nat.le_of_ble_eq_true rfl) (Nat.le_refl _) (Nat.le_refl _) (z_cV ?_) z_tV
            refine z_meq (z_fy (z_sc h (upd (upd (upd (upd (upd s 29 mi) 30 m) 31 hi) 32 ((a_rs h f (z_I h 52 (z_c f)) (m_X6_falls h (z_I h 52 (z_c f)) (z_I h 52 (z_c l)) p + m_X6_safe h) 40 (hi - m_X6_falls h m (z_I h 52 (z_c f)) p) (mi + m_X6_apart h m (z_I h 52 (z_c f)) * (10 - p))).1)) 32 ((a_rs h l (z_I h 52 (z_c l)) (m_X6_falls h (z_I h 52 (z_c l)) (z_I h 49 5) p + m_X6_safe h) 40 (((a_rs h f (z_I h 52 (z_c f)) (m_X6_falls h (z_I h 52 (z_c f)) (z_I h 52 (z_c l)) p + m_X6_safe h) 40 (hi - m_X6_falls h m (z_I h 52 (z_c f)) p) (mi + m_X6_apart h m (z_I h 52 (z_c f)) * (10 - p))).1) - m_X6_falls h (z_I h 52 (z_c f)) (z_I h 52 (z_c l)) p) (((a_rs h f (z_I h 52 (z_c f)) (m_X6_falls h (z_I h 52 (z_c f)) (z_I h 52 (z_c l)) p + m_X6_safe h) 40 (hi - m_X6_falls h m (z_I h 52 (z_c f)) p) (mi + m_X6_apart h m (z_I h 52 (z_c f)) * (10 - p))).2) + m_X6_apart h (z_I h 52 (z_c f)) (z_I h 52 (z_c l)) * (10 - p))).1))) m hi mi) rfl ?_
            refine z_iload dX6_byOf_123 rfl ?_
            refine z_if_eq 133 dX6_byOf_125 (by decide) (fun _ => ?_) (fun q => absurd q (by decide))
            refine z_bipush (v := (-5)) dX6_byOf_133 rfl ?_
            refine z_iret dX6_byOf_135 rfl rfl (Nat.le_refl _) (Nat.le_refl _) (z_q3_i ?_ ?_ rfl rfl rfl)
            · unfold m_X6_byOf2; rw [if_pos (show m_X6_falls h m (z_I h 52 (z_c f)) p ≤ hi from g16), if_pos (show m_X6_falls h (z_I h 52 (z_c f)) (z_I h 52 (z_c l)) p + m_X6_safe h ≤ (a_rs h f (z_I h 52 (z_c f)) (m_X6_falls h (z_I h 52 (z_c f)) (z_I h 52 (z_c l)) p + m_X6_safe h) 40 (hi - m_X6_falls h m (z_I h 52 (z_c f)) p) (mi + m_X6_apart h m (z_I h 52 (z_c f)) * (10 - p))).1 from c36), if_pos (show m_X6_falls h (z_I h 52 (z_c f)) (z_I h 52 (z_c l)) p ≤ ((a_rs h f (z_I h 52 (z_c f)) (m_X6_falls h (z_I h 52 (z_c f)) (z_I h 52 (z_c l)) p + m_X6_safe h) 40 (hi - m_X6_falls h m (z_I h 52 (z_c f)) p) (mi + m_X6_apart h m (z_I h 52 (z_c f)) * (10 - p))).1) from g59), if_pos (show m_X6_falls h (z_I h 52 (z_c l)) (z_I h 49 5) p + m_X6_safe h ≤ (a_rs h l (z_I h 52 (z_c l)) (m_X6_falls h (z_I h 52 (z_c l)) (z_I h 49 5) p + m_X6_safe h) 40 (((a_rs h f (z_I h 52 (z_c f)) (m_X6_falls h (z_I h 52 (z_c f)) (z_I h 52 (z_c l)) p + m_X6_safe h) 40 (hi - m_X6_falls h m (z_I h 52 (z_c f)) p) (mi + m_X6_apart h m (z_I h 52 (z_c f)) * (10 - p))).1) - m_X6_falls h (z_I h 52 (z_c f)) (z_I h 52 (z_c l)) p) (((a_rs h f (z_I h 52 (z_c f)) (m_X6_falls h (z_I h 52 (z_c f)) (z_I h 52 (z_c l)) p + m_X6_safe h) 40 (hi - m_X6_falls h m (z_I h 52 (z_c f)) p) (mi + m_X6_apart h m (z_I h 52 (z_c f)) * (10 - p))).2) + m_X6_apart h (z_I h 52 (z_c f)) (z_I h 52 (z_c l)) * (10 - p))).1 from c86), if_neg (show ¬ (m_X6_falls h (z_I h 52 (z_c l)) (z_I h 49 5) p ≤ ((a_rs h l (z_I h 52 (z_c l)) (m_X6_falls h (z_I h 52 (z_c l)) (z_I h 49 5) p + m_X6_safe h) 40 (((a_rs h f (z_I h 52 (z_c f)) (m_X6_falls h (z_I h 52 (z_c f)) (z_I h 52 (z_c l)) p + m_X6_safe h) 40 (hi - m_X6_falls h m (z_I h 52 (z_c f)) p) (mi + m_X6_apart h m (z_I h 52 (z_c f)) * (10 - p))).1) - m_X6_falls h (z_I h 52 (z_c f)) (z_I h 52 (z_c l)) p) (((a_rs h f (z_I h 52 (z_c f)) (m_X6_falls h (z_I h 52 (z_c f)) (z_I h 52 (z_c l)) p + m_X6_safe h) 40 (hi - m_X6_falls h m (z_I h 52 (z_c f)) p) (mi + m_X6_apart h m (z_I h 52 (z_c f)) * (10 - p))).2) + m_X6_apart h (z_I h 52 (z_c f)) (z_I h 52 (z_c l)) * (10 - p))).1)) from g95)]
            · unfold m_X6_byOf2_l; rw [if_pos (show m_X6_falls h m (z_I h 52 (z_c f)) p ≤ hi from g16), if_pos (show m_X6_falls h (z_I h 52 (z_c f)) (z_I h 52 (z_c l)) p + m_X6_safe h ≤ (a_rs h f (z_I h 52 (z_c f)) (m_X6_falls h (z_I h 52 (z_c f)) (z_I h 52 (z_c l)) p + m_X6_safe h) 40 (hi - m_X6_falls h m (z_I h 52 (z_c f)) p) (mi + m_X6_apart h m (z_I h 52 (z_c f)) * (10 - p))).1 from c36), if_pos (show m_X6_falls h (z_I h 52 (z_c f)) (z_I h 52 (z_c l)) p ≤ ((a_rs h f (z_I h 52 (z_c f)) (m_X6_falls h (z_I h 52 (z_c f)) (z_I h 52 (z_c l)) p + m_X6_safe h) 40 (hi - m_X6_falls h m (z_I h 52 (z_c f)) p) (mi + m_X6_apart h m (z_I h 52 (z_c f)) * (10 - p))).1) from g59), if_pos (show m_X6_falls h (z_I h 52 (z_c l)) (z_I h 49 5) p + m_X6_safe h ≤ (a_rs h l (z_I h 52 (z_c l)) (m_X6_falls h (z_I h 52 (z_c l)) (z_I h 49 5) p + m_X6_safe h) 40 (((a_rs h f (z_I h 52 (z_c f)) (m_X6_falls h (z_I h 52 (z_c f)) (z_I h 52 (z_c l)) p + m_X6_safe h) 40 (hi - m_X6_falls h m (z_I h 52 (z_c f)) p) (mi + m_X6_apart h m (z_I h 52 (z_c f)) * (10 - p))).1) - m_X6_falls h (z_I h 52 (z_c f)) (z_I h 52 (z_c l)) p) (((a_rs h f (z_I h 52 (z_c f)) (m_X6_falls h (z_I h 52 (z_c f)) (z_I h 52 (z_c l)) p + m_X6_safe h) 40 (hi - m_X6_falls h m (z_I h 52 (z_c f)) p) (mi + m_X6_apart h m (z_I h 52 (z_c f)) * (10 - p))).2) + m_X6_apart h (z_I h 52 (z_c f)) (z_I h 52 (z_c l)) * (10 - p))).1 from c86), if_neg (show ¬ (m_X6_falls h (z_I h 52 (z_c l)) (z_I h 49 5) p ≤ ((a_rs h l (z_I h 52 (z_c l)) (m_X6_falls h (z_I h 52 (z_c l)) (z_I h 49 5) p + m_X6_safe h) 40 (((a_rs h f (z_I h 52 (z_c f)) (m_X6_falls h (z_I h 52 (z_c f)) (z_I h 52 (z_c l)) p + m_X6_safe h) 40 (hi - m_X6_falls h m (z_I h 52 (z_c f)) p) (mi + m_X6_apart h m (z_I h 52 (z_c f)) * (10 - p))).1) - m_X6_falls h (z_I h 52 (z_c f)) (z_I h 52 (z_c l)) p) (((a_rs h f (z_I h 52 (z_c f)) (m_X6_falls h (z_I h 52 (z_c f)) (z_I h 52 (z_c l)) p + m_X6_safe h) 40 (hi - m_X6_falls h m (z_I h 52 (z_c f)) p) (mi + m_X6_apart h m (z_I h 52 (z_c f)) * (10 - p))).2) + m_X6_apart h (z_I h 52 (z_c f)) (z_I h 52 (z_c l)) * (10 - p))).1)) from g95)]; rfl
      · refine z_vcall vl_X6_329_6 (c_X6_goGlide_n (h := z_sc h (upd (upd (upd (upd s 29 mi) 30 m) 31 hi) 32 ((a_rs h f (z_I h 52 (z_c f)) (m_X6_falls h (z_I h 52 (z_c f)) (z_I h 52 (z_c l)) p + m_X6_safe h) 40 (hi - m_X6_falls h m (z_I h 52 (z_c f)) p) (mi + m_X6_apart h m (z_I h 52 (z_c f)) * (10 - p))).1))) hF g59) dX6_byOf_59 rfl rfl (hF.1 49 _ rfl) ⟨by decide, by decide⟩ (Nat.le_of_ble_eq_true rfl) (Nat.le_refl _) (Nat.le_refl _) (z_cI ?_) z_tI
        refine z_meq (z_fy (z_sc h (upd (upd (upd (upd s 29 mi) 30 m) 31 hi) 32 ((a_rs h f (z_I h 52 (z_c f)) (m_X6_falls h (z_I h 52 (z_c f)) (z_I h 52 (z_c l)) p + m_X6_safe h) 40 (hi - m_X6_falls h m (z_I h 52 (z_c f)) p) (mi + m_X6_apart h m (z_I h 52 (z_c f)) * (10 - p))).1))) (z_I h 52 (z_c f)) ((a_rs h f (z_I h 52 (z_c f)) (m_X6_falls h (z_I h 52 (z_c f)) (z_I h 52 (z_c l)) p + m_X6_safe h) 40 (hi - m_X6_falls h m (z_I h 52 (z_c f)) p) (mi + m_X6_apart h m (z_I h 52 (z_c f)) * (10 - p))).1) ((a_rs h f (z_I h 52 (z_c f)) (m_X6_falls h (z_I h 52 (z_c f)) (z_I h 52 (z_c l)) p + m_X6_safe h) 40 (hi - m_X6_falls h m (z_I h 52 (z_c f)) p) (mi + m_X6_apart h m (z_I h 52 (z_c f)) * (10 - p))).2)) rfl ?_
        refine z_if_eq 105 dX6_byOf_62 (by decide) (fun _ => ?_) (fun q => absurd q (by decide))
        refine z_iconst (v := 0) dX6_byOf_105 rfl ?_
        refine z_istore dX6_byOf_106 (by decide) rfl ?_
        refine z_aload_n dX6_byOf_108 rfl rfl ?_
        refine z_getI dX6_byOf_109 fl_X6_13_6 (hF.1 49 _ rfl) rfl ?_
        refine z_eqi ((a_rs h f (z_I h 52 (z_c f)) (m_X6_falls h (z_I h 52 (z_c f)) (z_I h 52 (z_c l)) p + m_X6_safe h) 40 (hi - m_X6_falls h m (z_I h 52 (z_c f)) p) (mi + m_X6_apart h m (z_I h 52 (z_c f)) * (10 - p))).2) rfl ?_
        refine z_aload_n dX6_byOf_112 rfl rfl ?_
        refine z_getI dX6_byOf_113 fl_X6_99_6 (hF.1 49 _ rfl) rfl ?_
        refine z_eqi (mi) rfl ?_
        refine z_isub dX6_byOf_116 ?_
        refine z_istore dX6_byOf_117 (by decide) rfl ?_
        refine z_aload_n dX6_byOf_119 rfl rfl ?_
        refine z_vcall vl_X6_335_6 (c_X6_putBack hF) dX6_byOf_120 rfl rfl (hF.1 49 _ rfl) ⟨by decide, by decide⟩ (Nat.le_of_ble_eq_true rfl) (Nat.le_refl _) (Nat.le_refl _) (z_cV ?_) z_tV
        refine z_meq (z_fy (z_sc h (upd (upd (upd (upd s 29 mi) 30 m) 31 hi) 32 ((a_rs h f (z_I h 52 (z_c f)) (m_X6_falls h (z_I h 52 (z_c f)) (z_I h 52 (z_c l)) p + m_X6_safe h) 40 (hi - m_X6_falls h m (z_I h 52 (z_c f)) p) (mi + m_X6_apart h m (z_I h 52 (z_c f)) * (10 - p))).1))) m hi mi) rfl ?_
        refine z_iload dX6_byOf_123 rfl ?_
        refine z_if_eq 133 dX6_byOf_125 (by decide) (fun _ => ?_) (fun q => absurd q (by decide))
        refine z_bipush (v := (-5)) dX6_byOf_133 rfl ?_
        refine z_iret dX6_byOf_135 rfl rfl (Nat.le_refl _) (Nat.le_refl _) (z_q3_i ?_ ?_ rfl rfl rfl)
        · unfold m_X6_byOf2; rw [if_pos (show m_X6_falls h m (z_I h 52 (z_c f)) p ≤ hi from g16), if_pos (show m_X6_falls h (z_I h 52 (z_c f)) (z_I h 52 (z_c l)) p + m_X6_safe h ≤ (a_rs h f (z_I h 52 (z_c f)) (m_X6_falls h (z_I h 52 (z_c f)) (z_I h 52 (z_c l)) p + m_X6_safe h) 40 (hi - m_X6_falls h m (z_I h 52 (z_c f)) p) (mi + m_X6_apart h m (z_I h 52 (z_c f)) * (10 - p))).1 from c36), if_neg (show ¬ (m_X6_falls h (z_I h 52 (z_c f)) (z_I h 52 (z_c l)) p ≤ ((a_rs h f (z_I h 52 (z_c f)) (m_X6_falls h (z_I h 52 (z_c f)) (z_I h 52 (z_c l)) p + m_X6_safe h) 40 (hi - m_X6_falls h m (z_I h 52 (z_c f)) p) (mi + m_X6_apart h m (z_I h 52 (z_c f)) * (10 - p))).1)) from g59)]
        · unfold m_X6_byOf2_l; rw [if_pos (show m_X6_falls h m (z_I h 52 (z_c f)) p ≤ hi from g16), if_pos (show m_X6_falls h (z_I h 52 (z_c f)) (z_I h 52 (z_c l)) p + m_X6_safe h ≤ (a_rs h f (z_I h 52 (z_c f)) (m_X6_falls h (z_I h 52 (z_c f)) (z_I h 52 (z_c l)) p + m_X6_safe h) 40 (hi - m_X6_falls h m (z_I h 52 (z_c f)) p) (mi + m_X6_apart h m (z_I h 52 (z_c f)) * (10 - p))).1 from c36), if_neg (show ¬ (m_X6_falls h (z_I h 52 (z_c f)) (z_I h 52 (z_c l)) p ≤ ((a_rs h f (z_I h 52 (z_c f)) (m_X6_falls h (z_I h 52 (z_c f)) (z_I h 52 (z_c l)) p + m_X6_safe h) 40 (hi - m_X6_falls h m (z_I h 52 (z_c f)) p) (mi + m_X6_apart h m (z_I h 52 (z_c f)) * (10 - p))).1)) from g59)]; rfl
  · refine z_vcall vl_X6_329_6 (c_X6_goGlide_n (h := z_sc h (upd (upd (upd s 29 mi) 30 m) 31 hi)) hF g16) dX6_byOf_16 rfl rfl (hF.1 49 _ rfl) ⟨by decide, by decide⟩ (Nat.le_of_ble_eq_true rfl) (Nat.le_refl _) (Nat.le_refl _) (z_cI ?_) z_tI
    refine z_meq (z_fy (z_sc h (upd (upd (upd s 29 mi) 30 m) 31 hi)) m hi mi) rfl ?_
    refine z_if_eq 43 dX6_byOf_19 (by decide) (fun _ => ?_) (fun q => absurd q (by decide))
    refine z_iconst (v := 0) dX6_byOf_43 rfl ?_
    refine z_istore dX6_byOf_44 (by decide) rfl ?_
    refine z_iload dX6_byOf_46 rfl ?_
    refine z_if_eq 105 dX6_byOf_48 (by decide) (fun _ => ?_) (fun q => absurd q (by decide))
    refine z_iconst (v := 0) dX6_byOf_105 rfl ?_
    refine z_istore dX6_byOf_106 (by decide) rfl ?_
    refine z_aload_n dX6_byOf_108 rfl rfl ?_
    refine z_getI dX6_byOf_109 fl_X6_13_6 (hF.1 49 _ rfl) rfl ?_
    refine z_eqi (mi) rfl ?_
    refine z_aload_n dX6_byOf_112 rfl rfl ?_
    refine z_getI dX6_byOf_113 fl_X6_99_6 (hF.1 49 _ rfl) rfl ?_
    refine z_eqi (mi) rfl ?_
    refine z_isub dX6_byOf_116 ?_
    refine z_istore dX6_byOf_117 (by decide) rfl ?_
    refine z_aload_n dX6_byOf_119 rfl rfl ?_
    refine z_vcall vl_X6_335_6 (c_X6_putBack hF) dX6_byOf_120 rfl rfl (hF.1 49 _ rfl) ⟨by decide, by decide⟩ (Nat.le_of_ble_eq_true rfl) (Nat.le_refl _) (Nat.le_refl _) (z_cV ?_) z_tV
    refine z_meq (z_fy (z_sc h (upd (upd (upd s 29 mi) 30 m) 31 hi)) m hi mi) rfl ?_
    refine z_iload dX6_byOf_123 rfl ?_
    refine z_if_eq 133 dX6_byOf_125 (by decide) (fun _ => ?_) (fun q => absurd q (by decide))
    refine z_bipush (v := (-5)) dX6_byOf_133 rfl ?_
    refine z_iret dX6_byOf_135 rfl rfl (Nat.le_refl _) (Nat.le_refl _) (z_q3_i ?_ ?_ rfl rfl rfl)
    · unfold m_X6_byOf2; rw [if_neg (show ¬ (m_X6_falls h m (z_I h 52 (z_c f)) p ≤ hi) from g16)]
    · unfold m_X6_byOf2_l; rw [if_neg (show ¬ (m_X6_falls h m (z_I h 52 (z_c f)) p ≤ hi) from g16)]; rfl
