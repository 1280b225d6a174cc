/-! THE REFERENCE: two, flights, seen, odds, books (printed by model11.py) -/
set_option maxRecDepth 20000
def a_t0 (x n : Int32) (b : Int32 × Int32) : Int32 × Int32 := if n < 0 then b else if b.1 < 0 then (x, n) else if n < b.2 then (x, n) else b
def a_t2 (h : z_H) (a p m hi mi : Int32) (b : Int32 × Int32) : Nat → Int32 × Int32
  | 0 => b
  | n + 1 => a_t0 (10 * a + nI n) (if a = nI n then -5 else m_X6_byOf2 h a (nI n) p m hi mi) (a_t2 h a p m hi mi b n)
def a_t1 (h : z_H) (p m hi mi : Int32) : Nat → Int32 × Int32
  | 0 => (-5, -5)
  | n + 1 => a_t2 h (nI n) p m hi mi (a_t1 h p m hi mi n) (z_c (z_I h 49 0))
theorem a_t0_n (x : Int32) (b : Int32 × Int32) : a_t0 x (-5) b = b := if_pos (by decide)
theorem lp2_X6_two {Γ : z_W} {h : z_H} {a p w m hi mi : Int32} (hk : z_ok h) (hl : a = nI (z_c a) ∧ z_c a < z_c (z_I h 49 0)) (hp : z_in p 1 9) (hmm : z_in m 0 99) {B : Nat} (hmi : z_cn mi B) (hB : B + 891 + 40 + 891 + 60 < 2 ^ 31) {t : Int32 × Int32} (k : ∀ s b o, z_G Γ M_X6_two (z_rm 8 0 0) (z_qi h m hi mi (if w = 0 then (a_t1 h p m hi mi (z_c (z_I h 49 0))).1 else (a_t1 h p m hi mi (z_c (z_I h 49 0))).2)) 0 0 115 [some (.ref 49), some (.int p), some (.int w), some (.int ((a_t2 h a p m hi mi t (z_c (z_I h 49 0))).1)), some (.int ((a_t2 h a p m hi mi t (z_c (z_I h 49 0))).2)), some (.int (a)), b, o] [] (z_fy (z_sc h s) m hi mi)) : ∀ (r i : Nat) (s : Nat → Int32) (o : Option Value), i + r = z_c (z_I h 49 0) → z_G Γ M_X6_two (z_rm 8 0 0) (z_qi h m hi mi (if w = 0 then (a_t1 h p m hi mi (z_c (z_I h 49 0))).1 else (a_t1 h p m hi mi (z_c (z_I h 49 0))).2)) 0 0 45 [some (.ref 49), some (.int p), some (.int w), some (.int ((a_t2 h a p m hi mi t i).1)), some (.int ((a_t2 h a p m hi mi t i).2)), some (.int (a)), some (.int (nI i)), o] [] (z_fy (z_sc h s) m hi mi) := by
  obtain ⟨hF, ha, hm, hvs, hws, hho⟩ := id hk
  intro r
  induction r with
  | zero =>
    intro i s o hi0
    have hi1 : i = z_c (z_I h 49 0) := by omega
    refine z_iload dX6_two_45 rfl ?_
    refine z_aload_n dX6_two_47 rfl rfl ?_
    refine z_getI dX6_two_48 fl_X6_7_6 (hF.1 49 _ rfl) rfl ?_
    refine z_eqi (z_I h 49 0) rfl ?_
    refine z_icmp_ge 115 dX6_two_51 (by decide) (fun _ => ?_) (fun q => by first | exact absurd (z_lif hm hi1) q | exact absurd q (z_lif hm hi1))
    subst hi1
    exact k s _ o
  | succ r ih =>
    intro i s o hi0
    have hl2 : nI i = nI (z_c (nI i)) ∧ z_c (nI i) < z_c (z_I h 49 0) := z_ixn (by omega) (by have := hm.2; omega)
    refine z_iload dX6_two_45 rfl ?_
    refine z_aload_n dX6_two_47 rfl rfl ?_
    refine z_getI dX6_two_48 fl_X6_7_6 (hF.1 49 _ rfl) rfl ?_
    refine z_eqi (z_I h 49 0) rfl ?_
    refine z_icmp_ge 115 dX6_two_51 (by decide) (fun q => by first | exact absurd q (z_lin hm (by omega)) | exact absurd (z_lin hm (by omega)) q) (fun _ => ?_)
    refine z_iload dX6_two_54 rfl ?_
    refine z_iload dX6_two_56 rfl ?_
    refine z_icmp_ne 66 dX6_two_58 (by decide) (fun c58 => ?_) (fun c58 => ?_)
    · refine z_aload_n dX6_two_66 rfl rfl ?_
      refine z_iload dX6_two_67 rfl ?_
      refine z_iload dX6_two_69 rfl ?_
      refine z_iload_n dX6_two_71 rfl rfl ?_
      refine z_vcall vl_X6_348_6 (c_X6_byOf2 hk hl hl2 hp hmm hmi hB) dX6_two_72 rfl rfl (hF.1 49 _ rfl) ⟨by decide, by decide⟩ (Nat.le_of_ble_eq_true rfl) (Nat.le_refl _) (Nat.le_refl _) (z_cQ3 (fun s72 e72_32 e72_33 e72_34 e72_35 => ?_)) z_tQ3
      refine z_istore dX6_two_75 (by decide) rfl ?_
      refine z_iload dX6_two_77 rfl ?_
      refine z_if_lt 109 dX6_two_79 (by decide) (fun c79 => ?_) (fun c79 => ?_)
      · refine z_iinc (v := nI (i + 1)) dX6_two_109 rfl (nI_succ _).symm (by decide) rfl ?_
        refine z_goto 45 dX6_two_112 (by decide) ?_
        have e1 : a_t2 h a p m hi mi t (i + 1) = a_t2 h a p m hi mi t i := by simp only [a_t2]; rw [if_neg (show ¬ (a = (nI i)) from c58)]; unfold a_t0; rw [if_pos (show (m_X6_byOf2 h a (nI i) p m hi mi) < 0 from c79)]
        have fin := ih (i + 1) s72 (some (.int (m_X6_byOf2 h a (nI i) p m hi mi))) (by omega)
        rw [e1] at fin
        exact fin
      · refine z_iload_n dX6_two_82 rfl rfl ?_
        refine z_if_lt 96 dX6_two_83 (by decide) (fun c83 => ?_) (fun c83 => ?_)
        · refine z_bipush (v := 10) dX6_two_96 rfl ?_
          refine z_iload dX6_two_98 rfl ?_
          refine z_imul dX6_two_100 ?_
          refine z_iload dX6_two_101 rfl ?_
          refine z_iadd dX6_two_103 ?_
          refine z_istore_n dX6_two_104 rfl (by decide) rfl ?_
          refine z_iload dX6_two_105 rfl ?_
          refine z_istore dX6_two_107 (by decide) rfl ?_
          refine z_iinc (v := nI (i + 1)) dX6_two_109 rfl (nI_succ _).symm (by decide) rfl ?_
          refine z_goto 45 dX6_two_112 (by decide) ?_
          have e1 : a_t2 h a p m hi mi t (i + 1) = (10 * a + nI i, m_X6_byOf2 h a (nI i) p m hi mi) := by simp only [a_t2]; rw [if_neg (show ¬ (a = (nI i)) from c58)]; unfold a_t0; rw [if_neg (show ¬ ((m_X6_byOf2 h a (nI i) p m hi mi) < 0) from c79), if_pos (show ((a_t2 h a p m hi mi t i).1) < 0 from c83)]
          have fin := ih (i + 1) s72 (some (.int (m_X6_byOf2 h a (nI i) p m hi mi))) (by omega)
          rw [e1] at fin
          exact fin
        · refine z_iload dX6_two_86 rfl ?_
          refine z_iload dX6_two_88 rfl ?_
          refine z_icmp_lt 96 dX6_two_90 (by decide) (fun c90 => ?_) (fun c90 => ?_)
          · refine z_bipush (v := 10) dX6_two_96 rfl ?_
            refine z_iload dX6_two_98 rfl ?_
            refine z_imul dX6_two_100 ?_
            refine z_iload dX6_two_101 rfl ?_
            refine z_iadd dX6_two_103 ?_
            refine z_istore_n dX6_two_104 rfl (by decide) rfl ?_
            refine z_iload dX6_two_105 rfl ?_
            refine z_istore dX6_two_107 (by decide) rfl ?_
            refine z_iinc (v := nI (i + 1)) dX6_two_109 rfl (nI_succ _).symm (by decide) rfl ?_
            refine z_goto 45 dX6_two_112 (by decide) ?_
            have e1 : a_t2 h a p m hi mi t (i + 1) = (10 * a + nI i, m_X6_byOf2 h a (nI i) p m hi mi) := by simp only [a_t2]; rw [if_neg (show ¬ (a = (nI i)) from c58)]; unfold a_t0; rw [if_neg (show ¬ ((m_X6_byOf2 h a (nI i) p m hi mi) < 0) from c79), if_neg (show ¬ (((a_t2 h a p m hi mi t i).1) < 0) from c83), if_pos (show (m_X6_byOf2 h a (nI i) p m hi mi) < ((a_t2 h a p m hi mi t i).2) from c90)]
            have fin := ih (i + 1) s72 (some (.int (m_X6_byOf2 h a (nI i) p m hi mi))) (by omega)
            rw [e1] at fin
            exact fin
          · refine z_goto 109 dX6_two_93 (by decide) ?_
            refine z_iinc (v := nI (i + 1)) dX6_two_109 rfl (nI_succ _).symm (by decide) rfl ?_
            refine z_goto 45 dX6_two_112 (by decide) ?_
            have e1 : a_t2 h a p m hi mi t (i + 1) = a_t2 h a p m hi mi t i := by simp only [a_t2]; rw [if_neg (show ¬ (a = (nI i)) from c58)]; unfold a_t0; rw [if_neg (show ¬ ((m_X6_byOf2 h a (nI i) p m hi mi) < 0) from c79), if_neg (show ¬ (((a_t2 h a p m hi mi t i).1) < 0) from c83), if_neg (show ¬ ((m_X6_byOf2 h a (nI i) p m hi mi) < ((a_t2 h a p m hi mi t i).2)) from c90)]
            have fin := ih (i + 1) s72 (some (.int (m_X6_byOf2 h a (nI i) p m hi mi))) (by omega)
            rw [e1] at fin
            exact fin
    · refine z_bipush (v := (-5)) dX6_two_61 rfl ?_
      refine z_goto 75 dX6_two_63 (by decide) ?_
      refine z_istore dX6_two_75 (by decide) rfl ?_
      refine z_iload dX6_two_77 rfl ?_
      refine z_if_lt 109 dX6_two_79 (by decide) (fun _ => ?_) (fun q => by first | exact absurd (show (-5 : Int32) < 0 by decide) q | exact absurd q (show (-5 : Int32) < 0 by decide))
      refine z_iinc (v := nI (i + 1)) dX6_two_109 rfl (nI_succ _).symm (by decide) rfl ?_
      refine z_goto 45 dX6_two_112 (by decide) ?_
      have e1 : a_t2 h a p m hi mi t (i + 1) = a_t2 h a p m hi mi t i := by simp only [a_t2]; rw [if_pos (show a = (nI i) from c58)]; exact a_t0_n _ _
      have fin := ih (i + 1) s (some (.int ((-5)))) (by omega)
      rw [e1] at fin
      exact fin
theorem lp1_X6_two {Γ : z_W} {h : z_H} {p w m hi mi : Int32} (hk : z_ok h) (hp : z_in p 1 9) (hmm : z_in m 0 99) {B : Nat} (hmi : z_cn mi B) (hB : B + 891 + 40 + 891 + 60 < 2 ^ 31) : ∀ (r i : Nat) (s : Nat → Int32) (b o : Option Value), i + r = z_c (z_I h 49 0) → z_G Γ M_X6_two (z_rm 8 0 0) (z_qi h m hi mi (if w = 0 then (a_t1 h p m hi mi (z_c (z_I h 49 0))).1 else (a_t1 h p m hi mi (z_c (z_I h 49 0))).2)) 0 0 33 [some (.ref 49), some (.int p), some (.int w), some (.int ((a_t1 h p m hi mi i).1)), some (.int ((a_t1 h p m hi mi i).2)), some (.int (nI i)), b, o] [] (z_fy (z_sc h s) m hi mi) := by
  obtain ⟨hF, ha, hm, hvs, hws, hho⟩ := id hk
  intro r
  induction r with
  | zero =>
    intro i s b o hi0
    have hi1 : i = z_c (z_I h 49 0) := by omega
    refine z_iload dX6_two_33 rfl ?_
    refine z_aload_n dX6_two_35 rfl rfl ?_
    refine z_getI dX6_two_36 fl_X6_7_6 (hF.1 49 _ rfl) rfl ?_
    refine z_eqi (z_I h 49 0) rfl ?_
    refine z_icmp_ge 121 dX6_two_39 (by decide) (fun _ => ?_) (fun q => by first | exact absurd (z_lif hm hi1) q | exact absurd q (z_lif hm hi1))
    refine z_iload_n dX6_two_121 rfl rfl ?_
    refine z_if_ne 129 dX6_two_122 (by decide) (fun c122 => ?_) (fun c122 => ?_)
    · refine z_iload dX6_two_129 rfl ?_
      refine z_iret dX6_two_131 rfl rfl (Nat.le_refl _) (Nat.le_refl _) (z_qi_i ?_)
      rw [if_neg (show ¬ (w = 0) from c122), hi1]
    · refine z_iload_n dX6_two_125 rfl rfl ?_
      refine z_goto 131 dX6_two_126 (by decide) ?_
      refine z_iret dX6_two_131 rfl rfl (Nat.le_refl _) (Nat.le_refl _) (z_qi_i ?_)
      rw [if_pos (show w = 0 from c122), hi1]
  | succ r ih =>
    intro i s b o hi0
    have hl2 : nI i = nI (z_c (nI i)) ∧ z_c (nI i) < z_c (z_I h 49 0) := z_ixn (by omega) (by have := hm.2; omega)
    refine z_iload dX6_two_33 rfl ?_
    refine z_aload_n dX6_two_35 rfl rfl ?_
    refine z_getI dX6_two_36 fl_X6_7_6 (hF.1 49 _ rfl) rfl ?_
    refine z_eqi (z_I h 49 0) rfl ?_
    refine z_icmp_ge 121 dX6_two_39 (by decide) (fun q => by first | exact absurd q (z_lin hm (by omega)) | exact absurd (z_lin hm (by omega)) q) (fun _ => ?_)
    refine z_iconst (v := 0) dX6_two_42 rfl ?_
    refine z_istore dX6_two_43 (by decide) rfl ?_
    exact lp2_X6_two (t := a_t1 h p m hi mi i) hk hl2 hp hmm hmi hB (fun s b o => z_iinc (v := nI (i + 1)) dX6_two_115 rfl (nI_succ _).symm (by decide) rfl (z_goto 33 dX6_two_118 (by decide) (ih (i + 1) s b o (by omega)))) _ 0 s _ (Nat.zero_add _)
def m_X6_two (h : z_H) (p w m hi mi : Int32) : Int32 := if z_in w 0 1 then (if m_X6_isPace h p then (if w = 0 then (a_t1 h p m hi mi (z_c (z_I h 49 0))).1 else (a_t1 h p m hi mi (z_c (z_I h 49 0))).2) else -2) else -1
theorem c_X6_two {Γ : z_W} {h : z_H} {s : Nat → Int32} {p w m hi mi : Int32} (hk : z_ok h) (hmm : z_in m 0 99) {B : Nat} (hmi : z_cn mi B) (hB : B + 891 + 40 + 891 + 60 < 2 ^ 31) : z_C Γ M_X6_two (z_rm 8 0 0) [.ref 49, .int p, .int w] (z_fy (z_sc h s) m hi mi) (z_qi h m hi mi (m_X6_two h p w m hi mi)) := by
  have hF := hk.1
  refine z_C.of (by decide +kernel) rfl [some (.ref 49), some (.int p), some (.int w), none, none, none, none, none] (Nat.le_of_ble_eq_true rfl) rfl ?_
  refine z_aload_n dX6_two_0 rfl rfl ?_
  refine z_iload_n dX6_two_1 rfl rfl ?_
  refine z_iconst (v := 0) dX6_two_2 rfl ?_
  refine z_iconst (v := 1) dX6_two_3 rfl ?_
  refine z_vcall vl_X6_227_6 (c_X6_in hF) dX6_two_4 rfl rfl (hF.1 49 _ rfl) ⟨by decide, by decide⟩ (Nat.le_of_ble_eq_true rfl) (Nat.le_refl _) (Nat.le_refl _) (z_cI ?_) z_tI
  refine z_bif_ne 12 dX6_two_7 (by decide) (fun c7 => ?_) (fun c7 => ?_)
  · refine z_aload_n dX6_two_12 rfl rfl ?_
    refine z_iload_n dX6_two_13 rfl rfl ?_
    refine z_vcall vl_X6_326_6 (c_X6_isPace hF) dX6_two_14 rfl rfl (hF.1 49 _ rfl) ⟨by decide, by decide⟩ (Nat.le_of_ble_eq_true rfl) (Nat.le_refl _) (Nat.le_refl _) (z_cI ?_) z_tI
    refine z_bif_ne 23 dX6_two_17 (by decide) (fun c17 => ?_) (fun c17 => ?_)
    · refine z_bipush (v := (-5)) dX6_two_23 rfl ?_
      refine z_istore_n dX6_two_25 rfl (by decide) rfl ?_
      refine z_bipush (v := (-5)) dX6_two_26 rfl ?_
      refine z_istore dX6_two_28 (by decide) rfl ?_
      refine z_iconst (v := 0) dX6_two_30 rfl ?_
      refine z_istore dX6_two_31 (by decide) rfl ?_
      have fin := lp1_X6_two (Γ := Γ) (w := w) (hi := hi) hk c17 hmm hmi hB _ 0 s none none (Nat.zero_add _)
      unfold m_X6_two
      rw [if_pos (show z_in w 0 1 from c7), if_pos (show m_X6_isPace h p from c17)]
      exact fin
    · refine z_bipush (v := (-2)) dX6_two_20 rfl ?_
      refine z_iret dX6_two_22 rfl rfl (Nat.le_refl _) (Nat.le_refl _) (z_qi_i ?_)
      unfold m_X6_two; rw [if_pos (show z_in w 0 1 from c7), if_neg (show ¬ (m_X6_isPace h p) from c17)]
  · refine z_iconst (v := (-1)) dX6_two_10 rfl ?_
    refine z_iret dX6_two_11 rfl rfl (Nat.le_refl _) (Nat.le_refl _) (z_qi_i ?_)
    unfold m_X6_two; rw [if_neg (show ¬ (z_in w 0 1) from c7)]
/-- legs, what is seen and books are as they can be -/
def z_lg (h : z_H) : Prop := z_cn (z_I h 49 36) 4 ∧ (∀ k, k < z_c (z_I h 49 36) → (z_I h 65 k = nI (z_c (z_I h 65 k)) ∧ z_c (z_I h 65 k) < z_c (z_I h 49 0)) ∧ z_in (z_I h 66 k) 0 60) ∧ z_cn (z_I h 49 39) 5 ∧ z_cn (z_I h 49 41) 8 ∧ ∀ k, k < z_c (z_I h 49 41) → z_I h 68 k = nI (z_c (z_I h 68 k)) ∧ z_c (z_I h 68 k) < z_c (z_I h 49 0)
theorem z_cn_lt {x : Int32} {b : Nat} (h : z_cn x b) (hn : ¬ x = nI b) : z_c x < b := by
  have h2 := h.2
  rcases Nat.lt_or_ge (z_c x) b with q | q
  · exact q
  · exact absurd (by rw [h.1, show z_c x = b by omega]) hn
def m_X6_leg (h : z_H) (l : Int32) (n : Int32) : Int32 × z_H :=
  if l = (-1) then
    (0, z_sI h 49 36 0)
  else
    if m_X6_isLift h l then
      if m_X6_isTime h n then
        if (z_I h 49 36) = 4 then
          ((-4), h)
        else
          ((z_I h 49 36) + 1, z_sI (z_sI (z_sI h 65 (z_c (z_I h 49 36)) l) 66 (z_c (z_I h 49 36)) n) 49 36 ((z_I h 49 36) + 1))
      else
        ((-2), h)
    else
      ((-1), h)
theorem c_X6_leg {Γ : z_W} {h : z_H} {l : Int32} {n : Int32} (hF : z_F h) (hg : z_cn (z_I h 49 36) 4) : z_C Γ M_X6_leg (z_rm 3 0 0) [.ref 49, .int l, .int n] h (z_ri (m_X6_leg h l n).1 (m_X6_leg h l n).2) := by
  refine z_C.of (by decide +kernel) rfl [some (.ref 49), some (.int l), some (.int n)] (Nat.le_of_ble_eq_true rfl) rfl ?_
  refine z_iload_n dX6_leg_0 rfl rfl ?_
  refine z_iconst (v := (-1)) dX6_leg_1 rfl ?_
  refine z_icmp_ne 12 dX6_leg_2 (by decide) (fun c2 => ?_) (fun c2 => ?_)
  · refine z_aload_n dX6_leg_12 rfl rfl ?_
    refine z_iload_n dX6_leg_13 rfl rfl ?_
    refine z_vcall vl_X6_235_6 (c_X6_isLift hF) dX6_leg_14 rfl rfl (hF.1 49 _ rfl) ⟨by decide, by decide⟩ (Nat.le_of_ble_eq_true rfl) (Nat.le_refl _) (Nat.le_refl _) (z_cI ?_) z_tI
    refine z_bif_ne 22 dX6_leg_17 (by decide) (fun c17 => ?_) (fun c17 => ?_)
    · refine z_aload_n dX6_leg_22 rfl rfl ?_
      refine z_iload_n dX6_leg_23 rfl rfl ?_
      refine z_vcall vl_X6_320_6 (c_X6_isTime hF) dX6_leg_24 rfl rfl (hF.1 49 _ rfl) ⟨by decide, by decide⟩ (Nat.le_of_ble_eq_true rfl) (Nat.le_refl _) (Nat.le_refl _) (z_cI ?_) z_tI
      refine z_bif_ne 33 dX6_leg_27 (by decide) (fun c27 => ?_) (fun c27 => ?_)
      · refine z_aload_n dX6_leg_33 rfl rfl ?_
        refine z_getI dX6_leg_34 fl_X6_120_6 (hF.1 49 _ rfl) rfl ?_
        refine z_iconst (v := 4) dX6_leg_37 rfl ?_
        refine z_icmp_ne 44 dX6_leg_38 (by decide) (fun c38 => ?_) (fun c38 => ?_)
        · refine z_aload_n dX6_leg_44 rfl rfl ?_
          refine z_getR 65 dX6_leg_45 fl_X6_123_6 (hF.1 49 _ rfl) rfl (hF.2.1 49 37 65 rfl) ?_
          refine z_aload_n dX6_leg_48 rfl rfl ?_
          refine z_getI dX6_leg_49 fl_X6_120_6 (hF.1 49 _ rfl) rfl ?_
          refine z_iload_n dX6_leg_52 rfl rfl ?_
          refine z_iast (z_c (z_I h 49 36)) dX6_leg_53 (hF.1 65 _ rfl) (by decide) hg.1 (z_cn_lt hg c38) (by decide) ?_
          refine z_aload_n dX6_leg_54 rfl rfl ?_
          refine z_getR 66 dX6_leg_55 fl_X6_126_6 (hF.1 49 _ rfl) rfl (hF.2.1 49 38 66 rfl) ?_
          refine z_aload_n dX6_leg_58 rfl rfl ?_
          refine z_getI dX6_leg_59 fl_X6_120_6 (hF.1 49 _ rfl) rfl ?_
          refine z_eqi (z_I h 49 36) rfl ?_
          refine z_iload_n dX6_leg_62 rfl rfl ?_
          refine z_iast (z_c (z_I h 49 36)) dX6_leg_63 (hF.1 66 _ rfl) (by decide) hg.1 (z_cn_lt hg c38) (by decide) ?_
          refine z_aload_n dX6_leg_64 rfl rfl ?_
          refine z_dup dX6_leg_65 rfl ?_
          refine z_getI dX6_leg_66 fl_X6_120_6 (hF.1 49 _ rfl) rfl ?_
          refine z_eqi (z_I h 49 36) rfl ?_
          refine z_iconst (v := 1) dX6_leg_69 rfl ?_
          refine z_iadd dX6_leg_70 ?_
          refine z_putI dX6_leg_71 (pl_X6_120_6 rfl) (hF.1 49 _ rfl) (by decide) rfl ?_
          refine z_aload_n dX6_leg_74 rfl rfl ?_
          refine z_getI dX6_leg_75 fl_X6_120_6 (hF.1 49 _ rfl) rfl ?_
          refine z_eqi ((z_I h 49 36) + 1) rfl ?_
          refine z_iret dX6_leg_78 rfl rfl (Nat.le_refl _) (Nat.le_refl _) (z_ri_i ?_ ?_)
          · first | rfl | (unfold m_X6_leg; rw [if_neg (show ¬ (l = (-1)) from c2), if_pos (show m_X6_isLift h l from c17), if_pos (show m_X6_isTime h n from c27), if_neg (show ¬ ((z_I h 49 36) = 4) from c38)]; first | done | rfl)
          · first | rfl | (unfold m_X6_leg; rw [if_neg (show ¬ (l = (-1)) from c2), if_pos (show m_X6_isLift h l from c17), if_pos (show m_X6_isTime h n from c27), if_neg (show ¬ ((z_I h 49 36) = 4) from c38)]; first | done | rfl)
        · refine z_bipush (v := (-4)) dX6_leg_41 rfl ?_
          refine z_iret dX6_leg_43 rfl rfl (Nat.le_refl _) (Nat.le_refl _) (z_ri_i ?_ ?_)
          · first | rfl | (unfold m_X6_leg; rw [if_neg (show ¬ (l = (-1)) from c2), if_pos (show m_X6_isLift h l from c17), if_pos (show m_X6_isTime h n from c27), if_pos (show (z_I h 49 36) = 4 from c38)]; first | done | rfl)
          · first | rfl | (unfold m_X6_leg; rw [if_neg (show ¬ (l = (-1)) from c2), if_pos (show m_X6_isLift h l from c17), if_pos (show m_X6_isTime h n from c27), if_pos (show (z_I h 49 36) = 4 from c38)]; first | done | rfl)
      · refine z_bipush (v := (-2)) dX6_leg_30 rfl ?_
        refine z_iret dX6_leg_32 rfl rfl (Nat.le_refl _) (Nat.le_refl _) (z_ri_i ?_ ?_)
        · first | rfl | (unfold m_X6_leg; rw [if_neg (show ¬ (l = (-1)) from c2), if_pos (show m_X6_isLift h l from c17), if_neg (show ¬ (m_X6_isTime h n) from c27)]; first | done | rfl)
        · first | rfl | (unfold m_X6_leg; rw [if_neg (show ¬ (l = (-1)) from c2), if_pos (show m_X6_isLift h l from c17), if_neg (show ¬ (m_X6_isTime h n) from c27)]; first | done | rfl)
    · refine z_iconst (v := (-1)) dX6_leg_20 rfl ?_
      refine z_iret dX6_leg_21 rfl rfl (Nat.le_refl _) (Nat.le_refl _) (z_ri_i ?_ ?_)
      · first | rfl | (unfold m_X6_leg; rw [if_neg (show ¬ (l = (-1)) from c2), if_neg (show ¬ (m_X6_isLift h l) from c17)]; first | done | rfl)
      · first | rfl | (unfold m_X6_leg; rw [if_neg (show ¬ (l = (-1)) from c2), if_neg (show ¬ (m_X6_isLift h l) from c17)]; first | done | rfl)
  · refine z_aload_n dX6_leg_5 rfl rfl ?_
    refine z_iconst (v := 0) dX6_leg_6 rfl ?_
    refine z_putI dX6_leg_7 (pl_X6_120_6 rfl) (hF.1 49 _ rfl) (by decide) rfl ?_
    refine z_iconst (v := 0) dX6_leg_10 rfl ?_
    refine z_iret dX6_leg_11 rfl rfl (Nat.le_refl _) (Nat.le_refl _) (z_ri_i ?_ ?_)
    · first | rfl | (unfold m_X6_leg; rw [if_pos (show l = (-1) from c2)]; first | done | rfl)
    · first | rfl | (unfold m_X6_leg; rw [if_pos (show l = (-1) from c2)]; first | done | rfl)
def m_X6_see (h : z_H) (n : Int32) : Int32 × z_H :=
  if n = (-100) then
    (0, z_sI h 49 39 0)
  else
    if z_in n (-99) 99 then
      if (z_I h 49 39) = 5 then
        ((-4), h)
      else
        ((z_I h 49 39) + 1, z_sI (z_sI h 67 (z_c (z_I h 49 39)) n) 49 39 ((z_I h 49 39) + 1))
    else
      ((-2), h)
theorem c_X6_see {Γ : z_W} {h : z_H} {n : Int32} (hF : z_F h) (hg : z_cn (z_I h 49 39) 5) : z_C Γ M_X6_see (z_rm 2 0 0) [.ref 49, .int n] h (z_ri (m_X6_see h n).1 (m_X6_see h n).2) := by
  refine z_C.of (by decide +kernel) rfl [some (.ref 49), some (.int n)] (Nat.le_of_ble_eq_true rfl) rfl ?_
  refine z_iload_n dX6_see_0 rfl rfl ?_
  refine z_bipush (v := (-100)) dX6_see_1 rfl ?_
  refine z_icmp_ne 13 dX6_see_3 (by decide) (fun c3 => ?_) (fun c3 => ?_)
  · refine z_aload_n dX6_see_13 rfl rfl ?_
    refine z_iload_n dX6_see_14 rfl rfl ?_
    refine z_bipush (v := (-99)) dX6_see_15 rfl ?_
    refine z_bipush (v := 99) dX6_see_17 rfl ?_
    refine z_vcall vl_X6_227_6 (c_X6_in hF) dX6_see_19 rfl rfl (hF.1 49 _ rfl) ⟨by decide, by decide⟩ (Nat.le_of_ble_eq_true rfl) (Nat.le_refl _) (Nat.le_refl _) (z_cI ?_) z_tI
    refine z_bif_ne 28 dX6_see_22 (by decide) (fun c22 => ?_) (fun c22 => ?_)
    · refine z_aload_n dX6_see_28 rfl rfl ?_
      refine z_getI dX6_see_29 fl_X6_129_6 (hF.1 49 _ rfl) rfl ?_
      refine z_iconst (v := 5) dX6_see_32 rfl ?_
      refine z_icmp_ne 39 dX6_see_33 (by decide) (fun c33 => ?_) (fun c33 => ?_)
      · refine z_aload_n dX6_see_39 rfl rfl ?_
        refine z_getR 67 dX6_see_40 fl_X6_132_6 (hF.1 49 _ rfl) rfl (hF.2.1 49 40 67 rfl) ?_
        refine z_aload_n dX6_see_43 rfl rfl ?_
        refine z_getI dX6_see_44 fl_X6_129_6 (hF.1 49 _ rfl) rfl ?_
        refine z_iload_n dX6_see_47 rfl rfl ?_
        refine z_iast (z_c (z_I h 49 39)) dX6_see_48 (hF.1 67 _ rfl) (by decide) hg.1 (z_cn_lt hg c33) (by decide) ?_
        refine z_aload_n dX6_see_49 rfl rfl ?_
        refine z_dup dX6_see_50 rfl ?_
        refine z_getI dX6_see_51 fl_X6_129_6 (hF.1 49 _ rfl) rfl ?_
        refine z_eqi (z_I h 49 39) rfl ?_
        refine z_iconst (v := 1) dX6_see_54 rfl ?_
        refine z_iadd dX6_see_55 ?_
        refine z_putI dX6_see_56 (pl_X6_129_6 rfl) (hF.1 49 _ rfl) (by decide) rfl ?_
        refine z_aload_n dX6_see_59 rfl rfl ?_
        refine z_getI dX6_see_60 fl_X6_129_6 (hF.1 49 _ rfl) rfl ?_
        refine z_eqi ((z_I h 49 39) + 1) rfl ?_
        refine z_iret dX6_see_63 rfl rfl (Nat.le_refl _) (Nat.le_refl _) (z_ri_i ?_ ?_)
        · first | rfl | (unfold m_X6_see; rw [if_neg (show ¬ (n = (-100)) from c3), if_pos (show z_in n (-99) 99 from c22), if_neg (show ¬ ((z_I h 49 39) = 5) from c33)]; first | done | rfl)
        · first | rfl | (unfold m_X6_see; rw [if_neg (show ¬ (n = (-100)) from c3), if_pos (show z_in n (-99) 99 from c22), if_neg (show ¬ ((z_I h 49 39) = 5) from c33)]; first | done | rfl)
      · refine z_bipush (v := (-4)) dX6_see_36 rfl ?_
        refine z_iret dX6_see_38 rfl rfl (Nat.le_refl _) (Nat.le_refl _) (z_ri_i ?_ ?_)
        · first | rfl | (unfold m_X6_see; rw [if_neg (show ¬ (n = (-100)) from c3), if_pos (show z_in n (-99) 99 from c22), if_pos (show (z_I h 49 39) = 5 from c33)]; first | done | rfl)
        · first | rfl | (unfold m_X6_see; rw [if_neg (show ¬ (n = (-100)) from c3), if_pos (show z_in n (-99) 99 from c22), if_pos (show (z_I h 49 39) = 5 from c33)]; first | done | rfl)
    · refine z_bipush (v := (-2)) dX6_see_25 rfl ?_
      refine z_iret dX6_see_27 rfl rfl (Nat.le_refl _) (Nat.le_refl _) (z_ri_i ?_ ?_)
      · first | rfl | (unfold m_X6_see; rw [if_neg (show ¬ (n = (-100)) from c3), if_neg (show ¬ (z_in n (-99) 99) from c22)]; first | done | rfl)
      · first | rfl | (unfold m_X6_see; rw [if_neg (show ¬ (n = (-100)) from c3), if_neg (show ¬ (z_in n (-99) 99) from c22)]; first | done | rfl)
  · refine z_aload_n dX6_see_6 rfl rfl ?_
    refine z_iconst (v := 0) dX6_see_7 rfl ?_
    refine z_putI dX6_see_8 (pl_X6_129_6 rfl) (hF.1 49 _ rfl) (by decide) rfl ?_
    refine z_iconst (v := 0) dX6_see_11 rfl ?_
    refine z_iret dX6_see_12 rfl rfl (Nat.le_refl _) (Nat.le_refl _) (z_ri_i ?_ ?_)
    · first | rfl | (unfold m_X6_see; rw [if_pos (show n = (-100) from c3)]; first | done | rfl)
    · first | rfl | (unfold m_X6_see; rw [if_pos (show n = (-100) from c3)]; first | done | rfl)
def m_X6_book (h : z_H) (l : Int32) (n : Int32) : Int32 × z_H :=
  if l = (-1) then
    (0, z_sI h 49 41 0)
  else
    if m_X6_isLift h l then
      if z_in n (-99) 99 then
        if (z_I h 49 41) = 8 then
          ((-4), h)
        else
          ((z_I h 49 41) + 1, z_sI (z_sI (z_sI h 68 (z_c (z_I h 49 41)) l) 69 (z_c (z_I h 49 41)) n) 49 41 ((z_I h 49 41) + 1))
      else
        ((-2), h)
    else
      ((-1), h)
theorem c_X6_book {Γ : z_W} {h : z_H} {l : Int32} {n : Int32} (hF : z_F h) (hg : z_cn (z_I h 49 41) 8) : z_C Γ M_X6_book (z_rm 3 0 0) [.ref 49, .int l, .int n] h (z_ri (m_X6_book h l n).1 (m_X6_book h l n).2) := by
  refine z_C.of (by decide +kernel) rfl [some (.ref 49), some (.int l), some (.int n)] (Nat.le_of_ble_eq_true rfl) rfl ?_
  refine z_iload_n dX6_book_0 rfl rfl ?_
  refine z_iconst (v := (-1)) dX6_book_1 rfl ?_
  refine z_icmp_ne 12 dX6_book_2 (by decide) (fun c2 => ?_) (fun c2 => ?_)
  · refine z_aload_n dX6_book_12 rfl rfl ?_
    refine z_iload_n dX6_book_13 rfl rfl ?_
    refine z_vcall vl_X6_235_6 (c_X6_isLift hF) dX6_book_14 rfl rfl (hF.1 49 _ rfl) ⟨by decide, by decide⟩ (Nat.le_of_ble_eq_true rfl) (Nat.le_refl _) (Nat.le_refl _) (z_cI ?_) z_tI
    refine z_bif_ne 22 dX6_book_17 (by decide) (fun c17 => ?_) (fun c17 => ?_)
    · refine z_aload_n dX6_book_22 rfl rfl ?_
      refine z_iload_n dX6_book_23 rfl rfl ?_
      refine z_bipush (v := (-99)) dX6_book_24 rfl ?_
      refine z_bipush (v := 99) dX6_book_26 rfl ?_
      refine z_vcall vl_X6_227_6 (c_X6_in hF) dX6_book_28 rfl rfl (hF.1 49 _ rfl) ⟨by decide, by decide⟩ (Nat.le_of_ble_eq_true rfl) (Nat.le_refl _) (Nat.le_refl _) (z_cI ?_) z_tI
      refine z_bif_ne 37 dX6_book_31 (by decide) (fun c31 => ?_) (fun c31 => ?_)
      · refine z_aload_n dX6_book_37 rfl rfl ?_
        refine z_getI dX6_book_38 fl_X6_135_6 (hF.1 49 _ rfl) rfl ?_
        refine z_bipush (v := 8) dX6_book_41 rfl ?_
        refine z_icmp_ne 49 dX6_book_43 (by decide) (fun c43 => ?_) (fun c43 => ?_)
        · refine z_aload_n dX6_book_49 rfl rfl ?_
          refine z_getR 68 dX6_book_50 fl_X6_138_6 (hF.1 49 _ rfl) rfl (hF.2.1 49 42 68 rfl) ?_
          refine z_aload_n dX6_book_53 rfl rfl ?_
          refine z_getI dX6_book_54 fl_X6_135_6 (hF.1 49 _ rfl) rfl ?_
          refine z_iload_n dX6_book_57 rfl rfl ?_
          refine z_iast (z_c (z_I h 49 41)) dX6_book_58 (hF.1 68 _ rfl) (by decide) hg.1 (z_cn_lt hg c43) (by decide) ?_
          refine z_aload_n dX6_book_59 rfl rfl ?_
          refine z_getR 69 dX6_book_60 fl_X6_141_6 (hF.1 49 _ rfl) rfl (hF.2.1 49 43 69 rfl) ?_
          refine z_aload_n dX6_book_63 rfl rfl ?_
          refine z_getI dX6_book_64 fl_X6_135_6 (hF.1 49 _ rfl) rfl ?_
          refine z_eqi (z_I h 49 41) rfl ?_
          refine z_iload_n dX6_book_67 rfl rfl ?_
          refine z_iast (z_c (z_I h 49 41)) dX6_book_68 (hF.1 69 _ rfl) (by decide) hg.1 (z_cn_lt hg c43) (by decide) ?_
          refine z_aload_n dX6_book_69 rfl rfl ?_
          refine z_dup dX6_book_70 rfl ?_
          refine z_getI dX6_book_71 fl_X6_135_6 (hF.1 49 _ rfl) rfl ?_
          refine z_eqi (z_I h 49 41) rfl ?_
          refine z_iconst (v := 1) dX6_book_74 rfl ?_
          refine z_iadd dX6_book_75 ?_
          refine z_putI dX6_book_76 (pl_X6_135_6 rfl) (hF.1 49 _ rfl) (by decide) rfl ?_
          refine z_aload_n dX6_book_79 rfl rfl ?_
          refine z_getI dX6_book_80 fl_X6_135_6 (hF.1 49 _ rfl) rfl ?_
          refine z_eqi ((z_I h 49 41) + 1) rfl ?_
          refine z_iret dX6_book_83 rfl rfl (Nat.le_refl _) (Nat.le_refl _) (z_ri_i ?_ ?_)
          · first | rfl | (unfold m_X6_book; rw [if_neg (show ¬ (l = (-1)) from c2), if_pos (show m_X6_isLift h l from c17), if_pos (show z_in n (-99) 99 from c31), if_neg (show ¬ ((z_I h 49 41) = 8) from c43)]; first | done | rfl)
          · first | rfl | (unfold m_X6_book; rw [if_neg (show ¬ (l = (-1)) from c2), if_pos (show m_X6_isLift h l from c17), if_pos (show z_in n (-99) 99 from c31), if_neg (show ¬ ((z_I h 49 41) = 8) from c43)]; first | done | rfl)
        · refine z_bipush (v := (-4)) dX6_book_46 rfl ?_
          refine z_iret dX6_book_48 rfl rfl (Nat.le_refl _) (Nat.le_refl _) (z_ri_i ?_ ?_)
          · first | rfl | (unfold m_X6_book; rw [if_neg (show ¬ (l = (-1)) from c2), if_pos (show m_X6_isLift h l from c17), if_pos (show z_in n (-99) 99 from c31), if_pos (show (z_I h 49 41) = 8 from c43)]; first | done | rfl)
          · first | rfl | (unfold m_X6_book; rw [if_neg (show ¬ (l = (-1)) from c2), if_pos (show m_X6_isLift h l from c17), if_pos (show z_in n (-99) 99 from c31), if_pos (show (z_I h 49 41) = 8 from c43)]; first | done | rfl)
      · refine z_bipush (v := (-2)) dX6_book_34 rfl ?_
        refine z_iret dX6_book_36 rfl rfl (Nat.le_refl _) (Nat.le_refl _) (z_ri_i ?_ ?_)
        · first | rfl | (unfold m_X6_book; rw [if_neg (show ¬ (l = (-1)) from c2), if_pos (show m_X6_isLift h l from c17), if_neg (show ¬ (z_in n (-99) 99) from c31)]; first | done | rfl)
        · first | rfl | (unfold m_X6_book; rw [if_neg (show ¬ (l = (-1)) from c2), if_pos (show m_X6_isLift h l from c17), if_neg (show ¬ (z_in n (-99) 99) from c31)]; first | done | rfl)
    · refine z_iconst (v := (-1)) dX6_book_20 rfl ?_
      refine z_iret dX6_book_21 rfl rfl (Nat.le_refl _) (Nat.le_refl _) (z_ri_i ?_ ?_)
      · first | rfl | (unfold m_X6_book; rw [if_neg (show ¬ (l = (-1)) from c2), if_neg (show ¬ (m_X6_isLift h l) from c17)]; first | done | rfl)
      · first | rfl | (unfold m_X6_book; rw [if_neg (show ¬ (l = (-1)) from c2), if_neg (show ¬ (m_X6_isLift h l) from c17)]; first | done | rfl)
  · refine z_aload_n dX6_book_5 rfl rfl ?_
    refine z_iconst (v := 0) dX6_book_6 rfl ?_
    refine z_putI dX6_book_7 (pl_X6_135_6 rfl) (hF.1 49 _ rfl) (by decide) rfl ?_
    refine z_iconst (v := 0) dX6_book_10 rfl ?_
    refine z_iret dX6_book_11 rfl rfl (Nat.le_refl _) (Nat.le_refl _) (z_ri_i ?_ ?_)
    · first | rfl | (unfold m_X6_book; rw [if_pos (show l = (-1) from c2)]; first | done | rfl)
    · first | rfl | (unfold m_X6_book; rw [if_pos (show l = (-1) from c2)]; first | done | rfl)
def a_se (h : z_H) (l m : Int32) : Nat → Nat → Int32 → Int32 → Bool
  | 0, _, _, _ => true
  | r + 1, k, hi, mi => if a_hi h l m hi mi - hi = z_I h 67 k then a_se h l m r (k + 1) (a_hi h l m hi mi) (mi + 1) else false
abbrev m_X6_isSeen (h : z_H) (l m hi mi : Int32) : Prop := a_se h l m (z_c (z_I h 49 39)) 0 hi mi = true
theorem lp_X6_isSeen {Γ : z_W} {h : z_H} {s : Nat → Int32} {l m : Int32} (hk : z_ok h) (hl : l = nI (z_c l) ∧ z_c l < z_c (z_I h 49 0)) (hs5 : z_cn (z_I h 49 39) 5) : ∀ (r i : Nat) (hi mi : Int32) (B : Nat) (o : Option Value), i + r = z_c (z_I h 49 39) → z_cn mi B → B + r < 2 ^ 31 → z_G Γ M_X6_isSeen (z_rm 6 0 0) (z_ri (z_b (a_se h l m r i hi mi = true)) (z_fy (z_sc h s) (s 30) (s 31) (s 29))) 0 0 8 [some (.ref 49), some (.int l), some (.int 1), some (.int (nI i)), o] [] (z_fy (z_sc h s) m hi mi) := by
  obtain ⟨hF, ha, hm, hvs, hws, hho⟩ := id hk
  have hv := hvs _ hl.2
  have hl : l = nI (z_c l) ∧ z_c l < 6 := ⟨hl.1, by have := hl.2; have := hm.2; omega⟩
  intro r
  induction r with
  | zero =>
    intro i hi mi B o hi0 hmi2 hB
    have hi1 : i = z_c (z_I h 49 39) := by omega
    refine z_iload_n dX6_isSeen_8 rfl rfl ?_
    refine z_aload_n dX6_isSeen_9 rfl rfl ?_
    refine z_getI dX6_isSeen_10 fl_X6_129_6 (hF.1 49 _ rfl) rfl ?_
    refine z_eqi (z_I h 49 39) rfl ?_
    refine z_icmp_ge 59 dX6_isSeen_13 (by decide) (fun _ => ?_) (fun q => by first | exact absurd (show z_I h 49 39 ≤ nI i by rw [hs5.1]; exact nI_le (by omega) (by have := hs5.2; omega)) q | exact absurd q (show z_I h 49 39 ≤ nI i by rw [hs5.1]; exact nI_le (by omega) (by have := hs5.2; omega)))
    refine z_aload_n dX6_isSeen_59 rfl rfl ?_
    refine z_vcall vl_X6_335_6 (c_X6_putBack hF) dX6_isSeen_60 rfl rfl (hF.1 49 _ rfl) ⟨by decide, by decide⟩ (Nat.le_of_ble_eq_true rfl) (Nat.le_refl _) (Nat.le_refl _) (z_cV ?_) z_tV
    refine z_meq (z_fy (z_sc h s) (s 30) (s 31) (s 29)) rfl ?_
    refine z_iload_n dX6_isSeen_63 rfl rfl ?_
    refine z_iret dX6_isSeen_64 rfl rfl (Nat.le_refl _) (Nat.le_refl _) (z_ri_i ?_ ?_)
    · exact (z_b1 rfl).symm
    · rfl
  | succ r ih =>
    intro i hi mi B o hi0 hmi2 hB
    have h5 := hs5.2
    refine z_iload_n dX6_isSeen_8 rfl rfl ?_
    refine z_aload_n dX6_isSeen_9 rfl rfl ?_
    refine z_getI dX6_isSeen_10 fl_X6_129_6 (hF.1 49 _ rfl) rfl ?_
    refine z_eqi (z_I h 49 39) rfl ?_
    refine z_icmp_ge 59 dX6_isSeen_13 (by decide) (fun q => by first | exact absurd q (show ¬ z_I h 49 39 ≤ nI i by rw [hs5.1]; exact nI_ge (by omega) (by have := hs5.2; omega)) | exact absurd (show ¬ z_I h 49 39 ≤ nI i by rw [hs5.1]; exact nI_ge (by omega) (by have := hs5.2; omega)) q) (fun _ => ?_)
    refine z_iload_n dX6_isSeen_16 rfl rfl ?_
    refine z_if_eq 59 dX6_isSeen_17 (by decide) (fun q => absurd q (by decide)) (fun _ => ?_)
    refine z_aload_n dX6_isSeen_20 rfl rfl ?_
    refine z_getI dX6_isSeen_21 fl_X6_19_6 (hF.1 49 _ rfl) rfl ?_
    refine z_eqi (hi) rfl ?_
    refine z_istore dX6_isSeen_24 (by decide) rfl ?_
    refine z_aload_n dX6_isSeen_26 rfl rfl ?_
    refine z_iload_n dX6_isSeen_27 rfl rfl ?_
    refine z_vcall vl_X6_323_6 (c_X6_goMinute (h := z_sc h s) hF ha hl hv hmi2 (by omega)) dX6_isSeen_28 rfl rfl (hF.1 49 _ rfl) ⟨by decide, by decide⟩ (Nat.le_of_ble_eq_true rfl) (Nat.le_refl _) (Nat.le_refl _) (z_cV ?_) z_tV
    refine z_aload_n dX6_isSeen_31 rfl rfl ?_
    refine z_getI dX6_isSeen_32 fl_X6_19_6 (hF.1 49 _ rfl) rfl ?_
    refine z_eqi (a_hi h l m hi mi) rfl ?_
    refine z_iload dX6_isSeen_35 rfl ?_
    refine z_isub dX6_isSeen_37 ?_
    refine z_aload_n dX6_isSeen_38 rfl rfl ?_
    refine z_getR 67 dX6_isSeen_39 fl_X6_132_6 (hF.1 49 _ rfl) rfl (hF.2.1 49 40 67 rfl) ?_
    refine z_iload_n dX6_isSeen_42 rfl rfl ?_
    refine z_iald i dX6_isSeen_43 (hF.1 67 _ rfl) rfl (by omega) (by decide) ?_
    refine z_eqi (z_I h 67 i) rfl ?_
    refine z_icmp_ne 51 dX6_isSeen_44 (by decide) (fun c44 => ?_) (fun c44 => ?_)
    · refine z_iconst (v := 0) dX6_isSeen_51 rfl ?_
      refine z_istore_n dX6_isSeen_52 rfl (by decide) rfl ?_
      refine z_iinc (v := nI (i + 1)) dX6_isSeen_53 rfl (nI_succ _).symm (by decide) rfl ?_
      refine z_goto 8 dX6_isSeen_56 (by decide) ?_
      refine z_iload_n dX6_isSeen_8 rfl rfl ?_
      refine z_aload_n dX6_isSeen_9 rfl rfl ?_
      refine z_getI dX6_isSeen_10 fl_X6_129_6 (hF.1 49 _ rfl) rfl ?_
      refine z_eqi (z_I h 49 39) rfl ?_
      refine z_icmp_ge 59 dX6_isSeen_13 (by decide) (fun d13 => ?_) (fun d13 => ?_)
      · refine z_aload_n dX6_isSeen_59 rfl rfl ?_
        refine z_vcall vl_X6_335_6 (c_X6_putBack hF) dX6_isSeen_60 rfl rfl (hF.1 49 _ rfl) ⟨by decide, by decide⟩ (Nat.le_of_ble_eq_true rfl) (Nat.le_refl _) (Nat.le_refl _) (z_cV ?_) z_tV
        refine z_meq (z_fy (z_sc h s) (s 30) (s 31) (s 29)) rfl ?_
        refine z_iload_n dX6_isSeen_63 rfl rfl ?_
        refine z_iret dX6_isSeen_64 rfl rfl (Nat.le_refl _) (Nat.le_refl _) (z_ri_i ?_ ?_)
        · exact (z_b0 (by rw [a_se, if_neg c44]; decide)).symm
        · rfl
      · refine z_iload_n dX6_isSeen_16 rfl rfl ?_
        refine z_if_eq 59 dX6_isSeen_17 (by decide) (fun _ => ?_) (fun q => absurd q (by decide))
        refine z_aload_n dX6_isSeen_59 rfl rfl ?_
        refine z_vcall vl_X6_335_6 (c_X6_putBack hF) dX6_isSeen_60 rfl rfl (hF.1 49 _ rfl) ⟨by decide, by decide⟩ (Nat.le_of_ble_eq_true rfl) (Nat.le_refl _) (Nat.le_refl _) (z_cV ?_) z_tV
        refine z_meq (z_fy (z_sc h s) (s 30) (s 31) (s 29)) rfl ?_
        refine z_iload_n dX6_isSeen_63 rfl rfl ?_
        refine z_iret dX6_isSeen_64 rfl rfl (Nat.le_refl _) (Nat.le_refl _) (z_ri_i ?_ ?_)
        · exact (z_b0 (by rw [a_se, if_neg c44]; decide)).symm
        · rfl
    · refine z_iconst (v := 1) dX6_isSeen_47 rfl ?_
      refine z_goto 52 dX6_isSeen_48 (by decide) ?_
      refine z_istore_n dX6_isSeen_52 rfl (by decide) rfl ?_
      refine z_iinc (v := nI (i + 1)) dX6_isSeen_53 rfl (nI_succ _).symm (by decide) rfl ?_
      refine z_goto 8 dX6_isSeen_56 (by decide) ?_
      have fin := ih (i + 1) (a_hi h l m hi mi) (mi + 1) (B + 1) (some (.int hi)) (by omega) (z_cn_1 hmi2 (by omega)) (by omega)
      have e1 : a_se h l m (r + 1) i hi mi = a_se h l m r (i + 1) (a_hi h l m hi mi) (mi + 1) := by rw [a_se, if_pos c44]
      rw [e1]
      exact fin
theorem c_X6_isSeen {Γ : z_W} {h : z_H} {s : Nat → Int32} {l m hi mi : Int32} (hk : z_ok h) (hs5 : z_cn (z_I h 49 39) 5) (hl : l = nI (z_c l) ∧ z_c l < z_c (z_I h 49 0)) {B : Nat} (hmi : z_cn mi B) (hB : B + 60 < 2 ^ 31) : z_C Γ M_X6_isSeen (z_rm 6 0 0) [.ref 49, .int l] (z_fy (z_sc h s) m hi mi) (z_qi h m hi mi (z_b (m_X6_isSeen h l m hi mi))) := by
  have hF := hk.1
  have h5 := hs5.2
  refine z_C.mono (Q := z_ri (z_b (m_X6_isSeen h l m hi mi)) (z_fy (z_sc h (upd (upd (upd s 29 mi) 30 m) 31 hi)) m hi mi)) ?_ (fun o h' q => ⟨_, q.1, q.2⟩)
  refine z_C.of (by decide +kernel) rfl [some (.ref 49), some (.int l), none, none, none] (Nat.le_of_ble_eq_true rfl) rfl ?_
  refine z_aload_n dX6_isSeen_0 rfl rfl ?_
  refine z_vcall vl_X6_332_6 (c_X6_save hF) dX6_isSeen_1 rfl rfl (hF.1 49 _ rfl) ⟨by decide, by decide⟩ (Nat.le_of_ble_eq_true rfl) (Nat.le_refl _) (Nat.le_refl _) (z_cV ?_) z_tV
  refine z_iconst (v := 1) dX6_isSeen_4 rfl ?_
  refine z_istore_n dX6_isSeen_5 rfl (by decide) rfl ?_
  refine z_iconst (v := 0) dX6_isSeen_6 rfl ?_
  refine z_istore_n dX6_isSeen_7 rfl (by decide) rfl ?_
  exact lp_X6_isSeen hk hl hs5 _ 0 hi mi B none (Nat.zero_add _) hmi (by omega)
def a_wh (h : z_H) (m hi mi : Int32) : Nat → Int32
  | 0 => 0
  | n + 1 => if m_X6_isSeen h (nI n) m hi mi then a_wh h m hi mi n ||| ((1 : Int32) <<< (nI n &&& 31)) else a_wh h m hi mi n ||| 0
def m_X6_who (h : z_H) (m hi mi : Int32) : Int32 := a_wh h m hi mi (z_c (z_I h 49 0))
theorem lp_X6_who {Γ : z_W} {h : z_H} {m hi mi : Int32} (hk : z_ok h) (hs5 : z_cn (z_I h 49 39) 5) {B : Nat} (hmi : z_cn mi B) (hB : B + 60 < 2 ^ 31) : ∀ (r i : Nat) (s : Nat → Int32), i + r = z_c (z_I h 49 0) →
    z_G Γ M_X6_who (z_rm 7 0 0) (z_qi h m hi mi (m_X6_who h m hi mi)) 0 0 4 [some (.ref 49), some (.int (a_wh h m hi mi i)), some (.int (nI i))] [] (z_fy (z_sc h s) m hi mi) := by
  obtain ⟨hF, ha, hm, hvs, hws, hho⟩ := id hk
  intro r
  induction r with
  | zero =>
    intro i s hi0
    have hi1 : i = z_c (z_I h 49 0) := by omega
    refine z_iload_n dX6_who_4 rfl rfl ?_
    refine z_aload_n dX6_who_5 rfl rfl ?_
    refine z_getI dX6_who_6 fl_X6_7_6 (hF.1 49 _ rfl) rfl ?_
    refine z_eqi (z_I h 49 0) rfl ?_
    refine z_icmp_ge 36 dX6_who_9 (by decide) (fun _ => ?_) (fun q => by first | exact absurd (z_lif hm hi1) q | exact absurd q (z_lif hm hi1))
    refine z_iload_n dX6_who_36 rfl rfl ?_
    refine z_iret dX6_who_37 rfl rfl (Nat.le_refl _) (Nat.le_refl _) (z_qi_i ?_)
    rw [hi1]; rfl
  | succ r ih =>
    intro i s hi0
    have hl : nI i = nI (z_c (nI i)) ∧ z_c (nI i) < z_c (z_I h 49 0) := z_ixn (by omega) (by have := hm.2; omega)
    refine z_iload_n dX6_who_4 rfl rfl ?_
    refine z_aload_n dX6_who_5 rfl rfl ?_
    refine z_getI dX6_who_6 fl_X6_7_6 (hF.1 49 _ rfl) rfl ?_
    refine z_eqi (z_I h 49 0) rfl ?_
    refine z_icmp_ge 36 dX6_who_9 (by decide) (fun q => by first | exact absurd q (z_lin hm (by omega)) | exact absurd (z_lin hm (by omega)) q) (fun _ => ?_)
    refine z_iload_n dX6_who_12 rfl rfl ?_
    refine z_aload_n dX6_who_13 rfl rfl ?_
    refine z_iload_n dX6_who_14 rfl rfl ?_
    refine z_vcall vl_X6_361_6 (c_X6_isSeen hk hs5 hl hmi hB) dX6_who_15 rfl rfl (hF.1 49 _ rfl) ⟨by decide, by decide⟩ (Nat.le_of_ble_eq_true rfl) (Nat.le_refl _) (Nat.le_refl _) (z_cQ (fun s15 => ?_)) z_tQ
    refine z_bif_eq 27 dX6_who_18 (by decide) (fun c18 => ?_) (fun c18 => ?_)
    · refine z_iconst (v := 0) dX6_who_27 rfl ?_
      refine z_ior dX6_who_28 ?_
      refine z_istore_n dX6_who_29 rfl (by decide) rfl ?_
      refine z_iinc (v := nI (i + 1)) dX6_who_30 rfl (nI_succ _).symm (by decide) rfl ?_
      refine z_goto 4 dX6_who_33 (by decide) ?_
      have e1 : a_wh h m hi mi (i + 1) = (a_wh h m hi mi i) ||| 0 := by simp only [a_wh]; rw [if_neg (show ¬ (m_X6_isSeen h (nI i) m hi mi) from c18)]
      have fin := ih (i + 1) s15 (by omega)
      rw [e1] at fin
      exact fin
    · refine z_iconst (v := 1) dX6_who_21 rfl ?_
      refine z_iload_n dX6_who_22 rfl rfl ?_
      refine z_ishl dX6_who_23 ?_
      refine z_goto 28 dX6_who_24 (by decide) ?_
      refine z_ior dX6_who_28 ?_
      refine z_istore_n dX6_who_29 rfl (by decide) rfl ?_
      refine z_iinc (v := nI (i + 1)) dX6_who_30 rfl (nI_succ _).symm (by decide) rfl ?_
      refine z_goto 4 dX6_who_33 (by decide) ?_
      have e1 : a_wh h m hi mi (i + 1) = (a_wh h m hi mi i) ||| (1 <<< ((nI i) &&& 31)) := by simp only [a_wh]; rw [if_pos (show m_X6_isSeen h (nI i) m hi mi from c18)]
      have fin := ih (i + 1) s15 (by omega)
      rw [e1] at fin
      exact fin
theorem c_X6_who {Γ : z_W} {h : z_H} {s : Nat → Int32} {m hi mi : Int32} (hk : z_ok h) (hs5 : z_cn (z_I h 49 39) 5) {B : Nat} (hmi : z_cn mi B) (hB : B + 60 < 2 ^ 31) : z_C Γ M_X6_who (z_rm 7 0 0) [.ref 49] (z_fy (z_sc h s) m hi mi) (z_qi h m hi mi (m_X6_who h m hi mi)) := by
  have hF := hk.1
  refine z_C.of (by decide +kernel) rfl [some (.ref 49), none, none] (Nat.le_of_ble_eq_true rfl) rfl ?_
  refine z_iconst (v := 0) dX6_who_0 rfl ?_
  refine z_istore_n dX6_who_1 rfl (by decide) rfl ?_
  refine z_iconst (v := 0) dX6_who_2 rfl ?_
  refine z_istore_n dX6_who_3 rfl (by decide) rfl ?_
  exact lp_X6_who hk hs5 hmi hB _ 0 s (Nat.zero_add _)
