/-! THE REFERENCE: by, best, worth (printed by model10.py) -/
set_option maxRecDepth 20000
def m_X6_by (h : z_H) (s : Nat → Int32) (l p w m hi mi : Int32) : Int32 := if m_X6_isLift h l then (if z_in w 0 1 then (if m_X6_isPace h p then (if m_X6_byOf1 h l p m hi mi < 0 then m_X6_byOf1 h l p m hi mi else if w = 0 then m_X6_byOf1 h l p m hi mi else m_X6_byOf1_l h s l p m hi mi) else -2) else -1) else -1
theorem c_X6_by {Γ : z_W} {h : z_H} {s : Nat → Int32} {l p w m hi mi : Int32} (hk : z_ok h) (hmm : z_in m 0 99) {B : Nat} (hmi : z_cn mi B) (hB : B + 891 + 60 < 2 ^ 31) : z_C Γ M_X6_by (z_rm 8 0 0) [.ref 49, .int l, .int p, .int w] (z_fy (z_sc h s) m hi mi) (z_qi h m hi mi (m_X6_by h s l p w m hi mi)) := by
  obtain ⟨hF, ha, hm, hvs, hws, hho⟩ := id hk
  refine z_C.of (by decide +kernel) rfl [some (.ref 49), some (.int l), some (.int p), some (.int w), none] (Nat.le_of_ble_eq_true rfl) rfl ?_
  refine z_aload_n dX6_by_0 rfl rfl ?_
  refine z_iload_n dX6_by_1 rfl rfl ?_
  refine z_vcall vl_X6_235_6 (c_X6_isLift hF) dX6_by_2 rfl rfl (hF.1 49 _ rfl) ⟨by decide, by decide⟩ (Nat.le_of_ble_eq_true rfl) (Nat.le_refl _) (Nat.le_refl _) (z_cI ?_) z_tI
  refine z_bif_eq 18 dX6_by_5 (by decide) (fun c5 => ?_) (fun c5 => ?_)
  · refine z_iconst (v := (-1)) dX6_by_18 rfl ?_
    refine z_iret dX6_by_19 rfl rfl (Nat.le_refl _) (Nat.le_refl _) (z_qi_i ?_)
    unfold m_X6_by; rw [if_neg (show ¬ (m_X6_isLift h l) from c5)]
  · have hl := z_ix hm (by decide) c5
    refine z_aload_n dX6_by_8 rfl rfl ?_
    refine z_iload_n dX6_by_9 rfl rfl ?_
    refine z_iconst (v := 0) dX6_by_10 rfl ?_
    refine z_iconst (v := 1) dX6_by_11 rfl ?_
    refine z_vcall vl_X6_227_6 (c_X6_in hF) dX6_by_12 rfl rfl (hF.1 49 _ rfl) ⟨by decide, by decide⟩ (Nat.le_of_ble_eq_true rfl) (Nat.le_refl _) (Nat.le_refl _) (z_cI ?_) z_tI
    refine z_bif_ne 20 dX6_by_15 (by decide) (fun c15 => ?_) (fun c15 => ?_)
    · refine z_aload_n dX6_by_20 rfl rfl ?_
      refine z_iload_n dX6_by_21 rfl rfl ?_
      refine z_vcall vl_X6_326_6 (c_X6_isPace hF) dX6_by_22 rfl rfl (hF.1 49 _ rfl) ⟨by decide, by decide⟩ (Nat.le_of_ble_eq_true rfl) (Nat.le_refl _) (Nat.le_refl _) (z_cI ?_) z_tI
      refine z_bif_ne 31 dX6_by_25 (by decide) (fun c25 => ?_) (fun c25 => ?_)
      · refine z_aload_n dX6_by_31 rfl rfl ?_
        refine z_iconst (v := (-1)) dX6_by_32 rfl ?_
        refine z_iload_n dX6_by_33 rfl rfl ?_
        refine z_iload_n dX6_by_34 rfl rfl ?_
        refine z_vcall vl_X6_348_6 (c_X6_byOf1 hk hl c25 hmm hmi hB) dX6_by_35 rfl rfl (hF.1 49 _ rfl) ⟨by decide, by decide⟩ (Nat.le_of_ble_eq_true rfl) (Nat.le_refl _) (Nat.le_refl _) (z_cQ3 (fun s35 e35_32 e35_33 e35_34 e35_35 => ?_)) z_tQ3
        refine z_istore dX6_by_38 (by decide) rfl ?_
        refine z_iload dX6_by_40 rfl ?_
        refine z_if_lt 49 dX6_by_42 (by decide) (fun c42 => ?_) (fun c42 => ?_)
        · refine z_iload dX6_by_49 rfl ?_
          refine z_goto 58 dX6_by_51 (by decide) ?_
          refine z_iret dX6_by_58 rfl rfl (Nat.le_refl _) (Nat.le_refl _) (z_qi_i ?_)
          unfold m_X6_by; rw [if_pos (show m_X6_isLift h l from c5), if_pos (show z_in w 0 1 from c15), if_pos (show m_X6_isPace h p from c25), if_pos (show (m_X6_byOf1 h l p m hi mi) < 0 from c42)]
        · refine z_iload_n dX6_by_45 rfl rfl ?_
          refine z_if_ne 54 dX6_by_46 (by decide) (fun c46 => ?_) (fun c46 => ?_)
          · refine z_aload_n dX6_by_54 rfl rfl ?_
            refine z_getI dX6_by_55 fl_X6_108_6 (hF.1 49 _ rfl) rfl ?_
            refine z_eqi (m_X6_byOf1_l h s l p m hi mi) e35_32 ?_
            refine z_iret dX6_by_58 rfl rfl (Nat.le_refl _) (Nat.le_refl _) (z_qi_i ?_)
            unfold m_X6_by; rw [if_pos (show m_X6_isLift h l from c5), if_pos (show z_in w 0 1 from c15), if_pos (show m_X6_isPace h p from c25), if_neg (show ¬ ((m_X6_byOf1 h l p m hi mi) < 0) from c42), if_neg (show ¬ (w = 0) from c46)]
          · refine z_iload dX6_by_49 rfl ?_
            refine z_goto 58 dX6_by_51 (by decide) ?_
            refine z_iret dX6_by_58 rfl rfl (Nat.le_refl _) (Nat.le_refl _) (z_qi_i ?_)
            unfold m_X6_by; rw [if_pos (show m_X6_isLift h l from c5), if_pos (show z_in w 0 1 from c15), if_pos (show m_X6_isPace h p from c25), if_neg (show ¬ ((m_X6_byOf1 h l p m hi mi) < 0) from c42), if_pos (show w = 0 from c46)]
      · refine z_bipush (v := (-2)) dX6_by_28 rfl ?_
        refine z_iret dX6_by_30 rfl rfl (Nat.le_refl _) (Nat.le_refl _) (z_qi_i ?_)
        unfold m_X6_by; rw [if_pos (show m_X6_isLift h l from c5), if_pos (show z_in w 0 1 from c15), if_neg (show ¬ (m_X6_isPace h p) from c25)]
    · refine z_iconst (v := (-1)) dX6_by_18 rfl ?_
      refine z_iret dX6_by_19 rfl rfl (Nat.le_refl _) (Nat.le_refl _) (z_qi_i ?_)
      unfold m_X6_by; rw [if_pos (show m_X6_isLift h l from c5), if_neg (show ¬ (z_in w 0 1) from c15)]
def a_tb (w p n : Int32) (b : Int32 × Int32 × Int32) : Int32 × Int32 × Int32 := if n < 0 then b else if b.2.2 < 0 then (w, p, n) else if n < b.2.2 then (w, p, n) else b
def z_q4 (h : z_H) (m hi mi : Int32) (t : Int32 × Int32 × Int32) : Outcome → z_H → Prop := fun o h' => ∃ s', o = .returned none ∧ h' = z_fy (z_sc h s') m hi mi ∧ (s' 33, s' 34, s' 35) = t
section ZQ4
variable {Γ : z_W} {M : z_M} {rm : Room} {Q : Outcome → z_H → Prop} {cs ss pc : Nat} {ls : List (Option Value)} {st rest : List Value} {h : z_H} {m hi mi : Int32} {t : Int32 × Int32 × Int32}
theorem z_q4_i {s : Nat → Int32} (e : (s 33, s 34, s 35) = t) : z_q4 h m hi mi t (.returned none) (z_fy (z_sc h s) m hi mi) := ⟨s, rfl, rfl, e⟩
theorem z_cQ4 (kk : ∀ s, (s 33, s 34, s 35) = t → z_G Γ M rm Q cs ss pc ls rest (z_fy (z_sc h s) m hi mi)) : ∀ v h', z_q4 h m hi mi t (.returned v) h' → z_G Γ M rm Q cs ss pc ls (v.toList ++ rest) h' := by
  intro v h' q
  obtain ⟨s, q1, rfl, e⟩ := q
  cases q1
  exact kk s e
theorem z_tQ4 {P : Nat → z_H → Prop} : ∀ x h', z_q4 h m hi mi t (.threw x) h' → P x h' := fun x h' q => by obtain ⟨s, q1, -⟩ := q; cases q1
end ZQ4
theorem c_X6_takesBest {Γ : z_W} {h : z_H} {s : Nat → Int32} {w p n m hi mi : Int32} (hF : z_F h) : z_C Γ M_X6_takesBest (z_rm 1 0 0) [.ref 49, .int w, .int p, .int n] (z_fy (z_sc h s) m hi mi) (z_q4 h m hi mi (a_tb w p n (s 33, s 34, s 35))) := by
  refine z_C.of (by decide +kernel) rfl [some (.ref 49), some (.int w), some (.int p), some (.int n)] (Nat.le_of_ble_eq_true rfl) rfl ?_
  refine z_iload_n dX6_takesBest_0 rfl rfl ?_
  refine z_if_lt 19 dX6_takesBest_1 (by decide) (fun c1 => ?_) (fun c1 => ?_)
  · refine z_vret dX6_takesBest_19 rfl (Nat.le_refl _) (Nat.le_refl _) (z_q4_i ?_)
    unfold a_tb; rw [if_pos (show n < 0 from c1)]
  · refine z_aload_n dX6_takesBest_4 rfl rfl ?_
    refine z_getI dX6_takesBest_5 fl_X6_117_6 (hF.1 49 _ rfl) rfl ?_
    refine z_eqi (s 35) rfl ?_
    refine z_if_lt 20 dX6_takesBest_8 (by decide) (fun c8 => ?_) (fun c8 => ?_)
    · refine z_aload_n dX6_takesBest_20 rfl rfl ?_
      refine z_iload_n dX6_takesBest_21 rfl rfl ?_
      refine z_putI dX6_takesBest_22 (pl_X6_111_6 rfl) (hF.1 49 _ rfl) (by decide) rfl ?_
      refine z_meq (z_fy (z_sc h (upd s 33 w)) m hi mi) ((z_fy_sI (by decide)).trans (congrArg (fun g => z_fy g _ _ _) (z_sc_s (by decide)))) ?_
      refine z_aload_n dX6_takesBest_25 rfl rfl ?_
      refine z_iload_n dX6_takesBest_26 rfl rfl ?_
      refine z_putI dX6_takesBest_27 (pl_X6_114_6 rfl) (hF.1 49 _ rfl) (by decide) rfl ?_
      refine z_meq (z_fy (z_sc h (upd (upd s 33 w) 34 p)) m hi mi) ((z_fy_sI (by decide)).trans (congrArg (fun g => z_fy g _ _ _) (z_sc_s (by decide)))) ?_
      refine z_aload_n dX6_takesBest_30 rfl rfl ?_
      refine z_iload_n dX6_takesBest_31 rfl rfl ?_
      refine z_putI dX6_takesBest_32 (pl_X6_117_6 rfl) (hF.1 49 _ rfl) (by decide) rfl ?_
      refine z_meq (z_fy (z_sc h (upd (upd (upd s 33 w) 34 p) 35 n)) m hi mi) ((z_fy_sI (by decide)).trans (congrArg (fun g => z_fy g _ _ _) (z_sc_s (by decide)))) ?_
      refine z_vret dX6_takesBest_35 rfl (Nat.le_refl _) (Nat.le_refl _) (z_q4_i ?_)
      unfold a_tb; rw [if_neg (show ¬ (n < 0) from c1), if_pos (show (s 35) < 0 from c8)]; rfl
    · refine z_iload_n dX6_takesBest_11 rfl rfl ?_
      refine z_aload_n dX6_takesBest_12 rfl rfl ?_
      refine z_getI dX6_takesBest_13 fl_X6_117_6 (hF.1 49 _ rfl) rfl ?_
      refine z_eqi (s 35) rfl ?_
      refine z_icmp_lt 20 dX6_takesBest_16 (by decide) (fun c16 => ?_) (fun c16 => ?_)
      · refine z_aload_n dX6_takesBest_20 rfl rfl ?_
        refine z_iload_n dX6_takesBest_21 rfl rfl ?_
        refine z_putI dX6_takesBest_22 (pl_X6_111_6 rfl) (hF.1 49 _ rfl) (by decide) rfl ?_
        refine z_meq (z_fy (z_sc h (upd s 33 w)) m hi mi) ((z_fy_sI (by decide)).trans (congrArg (fun g => z_fy g _ _ _) (z_sc_s (by decide)))) ?_
        refine z_aload_n dX6_takesBest_25 rfl rfl ?_
        refine z_iload_n dX6_takesBest_26 rfl rfl ?_
        refine z_putI dX6_takesBest_27 (pl_X6_114_6 rfl) (hF.1 49 _ rfl) (by decide) rfl ?_
        refine z_meq (z_fy (z_sc h (upd (upd s 33 w) 34 p)) m hi mi) ((z_fy_sI (by decide)).trans (congrArg (fun g => z_fy g _ _ _) (z_sc_s (by decide)))) ?_
        refine z_aload_n dX6_takesBest_30 rfl rfl ?_
        refine z_iload_n dX6_takesBest_31 rfl rfl ?_
        refine z_putI dX6_takesBest_32 (pl_X6_117_6 rfl) (hF.1 49 _ rfl) (by decide) rfl ?_
        refine z_meq (z_fy (z_sc h (upd (upd (upd s 33 w) 34 p) 35 n)) m hi mi) ((z_fy_sI (by decide)).trans (congrArg (fun g => z_fy g _ _ _) (z_sc_s (by decide)))) ?_
        refine z_vret dX6_takesBest_35 rfl (Nat.le_refl _) (Nat.le_refl _) (z_q4_i ?_)
        unfold a_tb; rw [if_neg (show ¬ (n < 0) from c1), if_neg (show ¬ ((s 35) < 0) from c8), if_pos (show n < (s 35) from c16)]; rfl
      · refine z_vret dX6_takesBest_19 rfl (Nat.le_refl _) (Nat.le_refl _) (z_q4_i ?_)
        unfold a_tb; rw [if_neg (show ¬ (n < 0) from c1), if_neg (show ¬ ((s 35) < 0) from c8), if_neg (show ¬ (n < (s 35)) from c16)]
def a_l1 (h : z_H) (m hi mi : Int32) : Nat → Int32 × Int32 × Int32
  | 0 => (-5, -5, -5)
  | n + 1 => a_tb (-1) (nI (n + 1)) (m_X6_straightOf h (nI (n + 1)) m hi mi) (a_l1 h m hi mi n)
def a_l2 (h : z_H) (l m hi mi : Int32) (b : Int32 × Int32 × Int32) : Nat → Int32 × Int32 × Int32
  | 0 => b
  | n + 1 => a_tb l (nI (n + 1)) (m_X6_byOf1 h l (nI (n + 1)) m hi mi) (a_l2 h l m hi mi b n)
def a_l3 (h : z_H) (but m hi mi : Int32) : Nat → Int32 × Int32 × Int32
  | 0 => a_l1 h m hi mi 9
  | n + 1 => if nI n = but then a_l3 h but m hi mi n else a_l2 h (nI n) m hi mi (a_l3 h but m hi mi n) 9
def a_lb (h : z_H) (but m hi mi : Int32) : Int32 × Int32 × Int32 := a_l3 h but m hi mi (z_c (z_I h 49 0))
theorem z_10e {i : Nat} (h : i = 9) : (10 : Int32) ≤ nI (i + 1) := by subst h; decide
theorem z_10n {i : Nat} (h : i < 9) : ¬ (10 : Int32) ≤ nI (i + 1) := nI_ge (b := 10) (by omega) (by decide)
theorem z_pc {i : Nat} (h : i < 9) : z_in (nI (i + 1)) 1 9 := ⟨nI_le (a := 1) (by omega) (by omega), nI_le (b := 9) (by omega) (by omega)⟩
theorem lp3_X6_layBest {Γ : z_W} {h : z_H} {b l m hi mi : Int32} (hk : z_ok h) (hl : l = nI (z_c l) ∧ z_c l < z_c (z_I h 49 0)) (hlb : ¬ l = b) (hmm : z_in m 0 99) {B : Nat} (hmi : z_cn mi B) (hB : B + 891 + 60 < 2 ^ 31) {t : Int32 × Int32 × Int32} (k : ∀ s p, (s 33, s 34, s 35) = a_l2 h l m hi mi t 9 → z_G Γ M_X6_layBest (z_rm 8 0 0) (z_q4 h m hi mi (a_lb h b m hi mi)) 0 0 85 [some (.ref 49), some (.int b), some (.int (l)), p] [] (z_fy (z_sc h s) m hi mi)) : ∀ (r i : Nat) (s : Nat → Int32), i + r = 9 → (s 33, s 34, s 35) = a_l2 h l m hi mi t i → z_G Γ M_X6_layBest (z_rm 8 0 0) (z_q4 h m hi mi (a_lb h b m hi mi)) 0 0 55 [some (.ref 49), some (.int b), some (.int (l)), some (.int (nI (i + 1)))] [] (z_fy (z_sc h s) m hi mi) := by
  obtain ⟨hF, ha, hm, hvs, hws, hho⟩ := id hk
  intro r
  induction r with
  | zero =>
    intro i s hi0 hs
    have hi1 : i = 9 := by omega
    refine z_iload_n dX6_layBest_55 rfl rfl ?_
    refine z_bipush (v := 10) dX6_layBest_56 rfl ?_
    refine z_icmp_ge 85 dX6_layBest_58 (by decide) (fun _ => ?_) (fun q => by first | exact absurd (z_10e hi1) q | exact absurd q (z_10e hi1))
    exact k s _ (by rw [hs, hi1])
  | succ r ih =>
    intro i s hi0 hs
    refine z_iload_n dX6_layBest_55 rfl rfl ?_
    refine z_bipush (v := 10) dX6_layBest_56 rfl ?_
    refine z_icmp_ge 85 dX6_layBest_58 (by decide) (fun q => by first | exact absurd q (z_10n (by omega)) | exact absurd (z_10n (by omega)) q) (fun _ => ?_)
    refine z_iload_n dX6_layBest_61 rfl rfl ?_
    refine z_iload_n dX6_layBest_62 rfl rfl ?_
    refine z_icmp_eq 85 dX6_layBest_63 (by decide) (fun q => by first | exact absurd q hlb | exact absurd hlb q) (fun _ => ?_)
    refine z_aload_n dX6_layBest_66 rfl rfl ?_
    refine z_iload_n dX6_layBest_67 rfl rfl ?_
    refine z_iload_n dX6_layBest_68 rfl rfl ?_
    refine z_aload_n dX6_layBest_69 rfl rfl ?_
    refine z_iconst (v := (-1)) dX6_layBest_70 rfl ?_
    refine z_iload_n dX6_layBest_71 rfl rfl ?_
    refine z_iload_n dX6_layBest_72 rfl rfl ?_
    refine z_vcall vl_X6_348_6 (c_X6_byOf1 hk hl (z_pc (by omega)) hmm hmi hB) dX6_layBest_73 rfl rfl (hF.1 49 _ rfl) ⟨by decide, by decide⟩ (Nat.le_of_ble_eq_true rfl) (Nat.le_refl _) (Nat.le_refl _) (z_cQ3 (fun s73 e73_32 e73_33 e73_34 e73_35 => ?_)) z_tQ3
    refine z_vcall vl_X6_354_6 (c_X6_takesBest hF) dX6_layBest_76 rfl rfl (hF.1 49 _ rfl) ⟨by decide, by decide⟩ (Nat.le_of_ble_eq_true rfl) (Nat.le_refl _) (Nat.le_refl _) (z_cQ4 (fun s76 q76 => ?_)) z_tQ4
    refine z_iinc (v := nI (i + 1 + 1)) dX6_layBest_79 rfl (nI_succ _).symm (by decide) rfl ?_
    refine z_goto 55 dX6_layBest_82 (by decide) ?_
    exact ih (i + 1) _ (by omega) (by rw [q76]; simp only [a_l2]; rw [← hs, ← e73_33, ← e73_34, ← e73_35])
theorem lp2_X6_layBest {Γ : z_W} {h : z_H} {b m hi mi : Int32} (hk : z_ok h) (hmm : z_in m 0 99) {B : Nat} (hmi : z_cn mi B) (hB : B + 891 + 60 < 2 ^ 31) : ∀ (r i : Nat) (s : Nat → Int32) (o : Option Value), i + r = z_c (z_I h 49 0) → (s 33, s 34, s 35) = a_l3 h b m hi mi i → z_G Γ M_X6_layBest (z_rm 8 0 0) (z_q4 h m hi mi (a_lb h b m hi mi)) 0 0 45 [some (.ref 49), some (.int b), some (.int (nI i)), o] [] (z_fy (z_sc h s) m hi mi) := by
  obtain ⟨hF, ha, hm, hvs, hws, hho⟩ := id hk
  intro r
  induction r with
  | zero =>
    intro i s o hi0 hs
    have hi1 : i = z_c (z_I h 49 0) := by omega
    refine z_iload_n dX6_layBest_45 rfl rfl ?_
    refine z_aload_n dX6_layBest_46 rfl rfl ?_
    refine z_getI dX6_layBest_47 fl_X6_7_6 (hF.1 49 _ rfl) rfl ?_
    refine z_eqi (z_I h 49 0) rfl ?_
    refine z_icmp_ge 91 dX6_layBest_50 (by decide) (fun _ => ?_) (fun q => by first | exact absurd (z_lif hm hi1) q | exact absurd q (z_lif hm hi1))
    refine z_vret dX6_layBest_91 rfl (Nat.le_refl _) (Nat.le_refl _) (z_q4_i ?_)
    rw [hs, hi1]; rfl
  | succ r ih =>
    intro i s o hi0 hs
    have hl : nI i = nI (z_c (nI i)) ∧ z_c (nI i) < z_c (z_I h 49 0) := z_ixn (by omega) (by have := hm.2; omega)
    refine z_iload_n dX6_layBest_45 rfl rfl ?_
    refine z_aload_n dX6_layBest_46 rfl rfl ?_
    refine z_getI dX6_layBest_47 fl_X6_7_6 (hF.1 49 _ rfl) rfl ?_
    refine z_eqi (z_I h 49 0) rfl ?_
    refine z_icmp_ge 91 dX6_layBest_50 (by decide) (fun q => by first | exact absurd q (z_lin hm (by omega)) | exact absurd (z_lin hm (by omega)) q) (fun _ => ?_)
    refine z_iconst (v := 1) dX6_layBest_53 rfl ?_
    refine z_istore_n dX6_layBest_54 rfl (by decide) rfl ?_
    by_cases c63 : nI i = b
    rotate_left
    · exact lp3_X6_layBest (t := a_l3 h b m hi mi i) hk hl c63 hmm hmi hB (fun s p e => z_iinc (v := nI (i + 1)) dX6_layBest_85 rfl (nI_succ _).symm (by decide) rfl (z_goto 45 dX6_layBest_88 (by decide) (ih (i + 1) s p (by omega) (by rw [e]; simp only [a_l3]; rw [if_neg c63])))) 9 0 s (by omega) hs
    refine z_iload_n dX6_layBest_55 rfl rfl ?_
    refine z_bipush (v := 10) dX6_layBest_56 rfl ?_
    refine z_icmp_ge 85 dX6_layBest_58 (by decide) (fun q => by first | exact absurd q (z_10n (i := 0) (by omega)) | exact absurd (z_10n (i := 0) (by omega)) q) (fun _ => ?_)
    refine z_iload_n dX6_layBest_61 rfl rfl ?_
    refine z_iload_n dX6_layBest_62 rfl rfl ?_
    refine z_icmp_eq 85 dX6_layBest_63 (by decide) (fun _ => ?_) (fun q => by first | exact absurd c63 q | exact absurd q c63)
    refine z_iinc (v := nI (i + 1)) dX6_layBest_85 rfl (nI_succ _).symm (by decide) rfl ?_
    refine z_goto 45 dX6_layBest_88 (by decide) ?_
    exact ih (i + 1) s _ (by omega) (by rw [hs]; simp only [a_l3]; rw [if_pos (show nI i = b from c63)])
theorem lp1_X6_layBest {Γ : z_W} {h : z_H} {b m hi mi : Int32} (hk : z_ok h) (hmm : z_in m 0 99) {B : Nat} (hmi : z_cn mi B) (hB : B + 891 + 60 < 2 ^ 31) : ∀ (r i : Nat) (s : Nat → Int32), i + r = 9 → (s 33, s 34, s 35) = a_l1 h m hi mi i → z_G Γ M_X6_layBest (z_rm 8 0 0) (z_q4 h m hi mi (a_lb h b m hi mi)) 0 0 20 [some (.ref 49), some (.int b), some (.int (nI (i + 1))), none] [] (z_fy (z_sc h s) m hi mi) := by
  obtain ⟨hF, ha, hm, hvs, hws, hho⟩ := id hk
  intro r
  induction r with
  | zero =>
    intro i s hi0 hs
    have hi1 : i = 9 := by omega
    refine z_iload_n dX6_layBest_20 rfl rfl ?_
    refine z_bipush (v := 10) dX6_layBest_21 rfl ?_
    refine z_icmp_ge 43 dX6_layBest_23 (by decide) (fun _ => ?_) (fun q => by first | exact absurd (z_10e hi1) q | exact absurd q (z_10e hi1))
    refine z_iconst (v := 0) dX6_layBest_43 rfl ?_
    refine z_istore_n dX6_layBest_44 rfl (by decide) rfl ?_
    exact lp2_X6_layBest hk hmm hmi hB _ 0 s none (Nat.zero_add _) (by rw [hs, hi1]; rfl)
  | succ r ih =>
    intro i s hi0 hs
    refine z_iload_n dX6_layBest_20 rfl rfl ?_
    refine z_bipush (v := 10) dX6_layBest_21 rfl ?_
    refine z_icmp_ge 43 dX6_layBest_23 (by decide) (fun q => by first | exact absurd q (z_10n (by omega)) | exact absurd (z_10n (by omega)) q) (fun _ => ?_)
    refine z_aload_n dX6_layBest_26 rfl rfl ?_
    refine z_iconst (v := (-1)) dX6_layBest_27 rfl ?_
    refine z_iload_n dX6_layBest_28 rfl rfl ?_
    refine z_aload_n dX6_layBest_29 rfl rfl ?_
    refine z_iload_n dX6_layBest_30 rfl rfl ?_
    refine z_vcall vl_X6_351_6 (c_X6_straightOf hk) dX6_layBest_31 rfl rfl (hF.1 49 _ rfl) ⟨by decide, by decide⟩ (Nat.le_of_ble_eq_true rfl) (Nat.le_refl _) (Nat.le_refl _) (z_cI ?_) z_tI
    refine z_vcall vl_X6_354_6 (c_X6_takesBest hF) dX6_layBest_34 rfl rfl (hF.1 49 _ rfl) ⟨by decide, by decide⟩ (Nat.le_of_ble_eq_true rfl) (Nat.le_refl _) (Nat.le_refl _) (z_cQ4 (fun s34 q34 => ?_)) z_tQ4
    refine z_iinc (v := nI (i + 1 + 1)) dX6_layBest_37 rfl (nI_succ _).symm (by decide) rfl ?_
    refine z_goto 20 dX6_layBest_40 (by decide) ?_
    exact ih (i + 1) _ (by omega) (by rw [q34]; simp only [a_l1]; rw [← hs])
theorem c_X6_layBest {Γ : z_W} {h : z_H} {s : Nat → Int32} {b m hi mi : Int32} (hk : z_ok h) (hmm : z_in m 0 99) {B : Nat} (hmi : z_cn mi B) (hB : B + 891 + 60 < 2 ^ 31) : z_C Γ M_X6_layBest (z_rm 8 0 0) [.ref 49, .int b] (z_fy (z_sc h s) m hi mi) (z_q4 h m hi mi (a_lb h b m hi mi)) := by
  have hF := hk.1
  refine z_C.of (by decide +kernel) rfl [some (.ref 49), some (.int b), none, none] (Nat.le_of_ble_eq_true rfl) rfl ?_
  refine z_aload_n dX6_layBest_0 rfl rfl ?_
  refine z_bipush (v := (-5)) dX6_layBest_1 rfl ?_
  refine z_putI dX6_layBest_3 (pl_X6_111_6 rfl) (hF.1 49 _ rfl) (by decide) rfl ?_
  refine z_meq (z_fy (z_sc h (upd s 33 (-5))) m hi mi) ((z_fy_sI (by decide)).trans (congrArg (fun g => z_fy g _ _ _) (z_sc_s (by decide)))) ?_
  refine z_aload_n dX6_layBest_6 rfl rfl ?_
  refine z_bipush (v := (-5)) dX6_layBest_7 rfl ?_
  refine z_putI dX6_layBest_9 (pl_X6_114_6 rfl) (hF.1 49 _ rfl) (by decide) rfl ?_
  refine z_meq (z_fy (z_sc h (upd (upd s 33 (-5)) 34 (-5))) m hi mi) ((z_fy_sI (by decide)).trans (congrArg (fun g => z_fy g _ _ _) (z_sc_s (by decide)))) ?_
  refine z_aload_n dX6_layBest_12 rfl rfl ?_
  refine z_bipush (v := (-5)) dX6_layBest_13 rfl ?_
  refine z_putI dX6_layBest_15 (pl_X6_117_6 rfl) (hF.1 49 _ rfl) (by decide) rfl ?_
  refine z_meq (z_fy (z_sc h (upd (upd (upd s 33 (-5)) 34 (-5)) 35 (-5))) m hi mi) ((z_fy_sI (by decide)).trans (congrArg (fun g => z_fy g _ _ _) (z_sc_s (by decide)))) ?_
  refine z_iconst (v := 1) dX6_layBest_18 rfl ?_
  refine z_istore_n dX6_layBest_19 rfl (by decide) rfl ?_
  exact lp1_X6_layBest hk hmm hmi hB 9 0 _ (by omega) rfl
def m_X6_best (h : z_H) (w m hi mi : Int32) : Int32 := if z_in w 0 2 then (if w = 0 then (a_lb h (-1) m hi mi).1 else if w = 1 then (a_lb h (-1) m hi mi).2.1 else (a_lb h (-1) m hi mi).2.2) else -1001
theorem c_X6_best {Γ : z_W} {h : z_H} {s : Nat → Int32} {w m hi mi : Int32} (hk : z_ok h) (hmm : z_in m 0 99) {B : Nat} (hmi : z_cn mi B) (hB : B + 891 + 60 < 2 ^ 31) : z_C Γ M_X6_best (z_rm 9 0 0) [.ref 49, .int w] (z_fy (z_sc h s) m hi mi) (z_qi h m hi mi (m_X6_best h w m hi mi)) := by
  have hF := hk.1
  refine z_C.of (by decide +kernel) rfl [some (.ref 49), some (.int w)] (Nat.le_of_ble_eq_true rfl) rfl ?_
  refine z_aload_n dX6_best_0 rfl rfl ?_
  refine z_iload_n dX6_best_1 rfl rfl ?_
  refine z_iconst (v := 0) dX6_best_2 rfl ?_
  refine z_iconst (v := 2) dX6_best_3 rfl ?_
  refine z_vcall vl_X6_227_6 (c_X6_in hF) dX6_best_4 rfl rfl (hF.1 49 _ rfl) ⟨by decide, by decide⟩ (Nat.le_of_ble_eq_true rfl) (Nat.le_refl _) (Nat.le_refl _) (z_cI ?_) z_tI
  refine z_bif_ne 14 dX6_best_7 (by decide) (fun c7 => ?_) (fun c7 => ?_)
  · refine z_aload_n dX6_best_14 rfl rfl ?_
    refine z_iconst (v := (-1)) dX6_best_15 rfl ?_
    refine z_vcall vl_X6_358_6 (c_X6_layBest hk hmm hmi hB) dX6_best_16 rfl rfl (hF.1 49 _ rfl) ⟨by decide, by decide⟩ (Nat.le_of_ble_eq_true rfl) (Nat.le_refl _) (Nat.le_refl _) (z_cQ4 (fun s16 q16 => ?_)) z_tQ4
    refine z_iload_n dX6_best_19 rfl rfl ?_
    refine z_if_ne 30 dX6_best_20 (by decide) (fun c20 => ?_) (fun c20 => ?_)
    · refine z_iload_n dX6_best_30 rfl rfl ?_
      refine z_iconst (v := 1) dX6_best_31 rfl ?_
      refine z_icmp_ne 42 dX6_best_32 (by decide) (fun c32 => ?_) (fun c32 => ?_)
      · refine z_aload_n dX6_best_42 rfl rfl ?_
        refine z_getI dX6_best_43 fl_X6_117_6 (hF.1 49 _ rfl) rfl ?_
        refine z_eqi ((a_lb h (-1) m hi mi).2.2) (congrArg (fun t => t.2.2) q16) ?_
        refine z_iret dX6_best_46 rfl rfl (Nat.le_refl _) (Nat.le_refl _) (z_qi_i ?_)
        unfold m_X6_best; rw [if_pos (show z_in w 0 2 from c7), if_neg (show ¬ (w = 0) from c20), if_neg (show ¬ (w = 1) from c32)]
      · refine z_aload_n dX6_best_35 rfl rfl ?_
        refine z_getI dX6_best_36 fl_X6_114_6 (hF.1 49 _ rfl) rfl ?_
        refine z_eqi ((a_lb h (-1) m hi mi).2.1) (congrArg (fun t => t.2.1) q16) ?_
        refine z_goto 46 dX6_best_39 (by decide) ?_
        refine z_iret dX6_best_46 rfl rfl (Nat.le_refl _) (Nat.le_refl _) (z_qi_i ?_)
        unfold m_X6_best; rw [if_pos (show z_in w 0 2 from c7), if_neg (show ¬ (w = 0) from c20), if_pos (show w = 1 from c32)]
    · refine z_aload_n dX6_best_23 rfl rfl ?_
      refine z_getI dX6_best_24 fl_X6_111_6 (hF.1 49 _ rfl) rfl ?_
      refine z_eqi ((a_lb h (-1) m hi mi).1) (congrArg (fun t => t.1) q16) ?_
      refine z_goto 46 dX6_best_27 (by decide) ?_
      refine z_iret dX6_best_46 rfl rfl (Nat.le_refl _) (Nat.le_refl _) (z_qi_i ?_)
      unfold m_X6_best; rw [if_pos (show z_in w 0 2 from c7), if_pos (show w = 0 from c20)]
  · refine z_sipush (v := (-1001)) dX6_best_10 rfl ?_
    refine z_iret dX6_best_13 rfl rfl (Nat.le_refl _) (Nat.le_refl _) (z_qi_i ?_)
    unfold m_X6_best; rw [if_neg (show ¬ (z_in w 0 2) from c7)]
def a_nv (n : Int32) : Int32 := if 0 ≤ n then n else 999
def m_X6_worth (h : z_H) (l m hi mi : Int32) : Int32 := if m_X6_isLift h l then a_nv (a_lb h l m hi mi).2.2 - a_nv (a_lb h (-1) m hi mi).2.2 else -1
theorem c_X6_worth {Γ : z_W} {h : z_H} {s : Nat → Int32} {l m hi mi : Int32} (hk : z_ok h) (hmm : z_in m 0 99) {B : Nat} (hmi : z_cn mi B) (hB : B + 891 + 60 < 2 ^ 31) : z_C Γ M_X6_worth (z_rm 9 0 0) [.ref 49, .int l] (z_fy (z_sc h s) m hi mi) (z_qi h m hi mi (m_X6_worth h l m hi mi)) := by
  have hF := hk.1
  refine z_C.of (by decide +kernel) rfl [some (.ref 49), some (.int l), none] (Nat.le_of_ble_eq_true rfl) rfl ?_
  refine z_aload_n dX6_worth_0 rfl rfl ?_
  refine z_iload_n dX6_worth_1 rfl rfl ?_
  refine z_vcall vl_X6_235_6 (c_X6_isLift hF) dX6_worth_2 rfl rfl (hF.1 49 _ rfl) ⟨by decide, by decide⟩ (Nat.le_of_ble_eq_true rfl) (Nat.le_refl _) (Nat.le_refl _) (z_cI ?_) z_tI
  refine z_bif_ne 10 dX6_worth_5 (by decide) (fun c5 => ?_) (fun c5 => ?_)
  · refine z_aload_n dX6_worth_10 rfl rfl ?_
    refine z_iconst (v := (-1)) dX6_worth_11 rfl ?_
    refine z_vcall vl_X6_358_6 (c_X6_layBest hk hmm hmi hB) dX6_worth_12 rfl rfl (hF.1 49 _ rfl) ⟨by decide, by decide⟩ (Nat.le_of_ble_eq_true rfl) (Nat.le_refl _) (Nat.le_refl _) (z_cQ4 (fun s12 q12 => ?_)) z_tQ4
    refine z_aload_n dX6_worth_15 rfl rfl ?_
    refine z_getI dX6_worth_16 fl_X6_117_6 (hF.1 49 _ rfl) rfl ?_
    refine z_eqi ((a_lb h (-1) m hi mi).2.2) (congrArg (fun t => t.2.2) q12) ?_
    refine z_if_ge 28 dX6_worth_19 (by decide) (fun c19 => ?_) (fun c19 => ?_)
    · refine z_aload_n dX6_worth_28 rfl rfl ?_
      refine z_getI dX6_worth_29 fl_X6_117_6 (hF.1 49 _ rfl) rfl ?_
      refine z_eqi ((a_lb h (-1) m hi mi).2.2) (congrArg (fun t => t.2.2) q12) ?_
      refine z_istore_n dX6_worth_32 rfl (by decide) rfl ?_
      refine z_aload_n dX6_worth_33 rfl rfl ?_
      refine z_iload_n dX6_worth_34 rfl rfl ?_
      refine z_vcall vl_X6_358_6 (c_X6_layBest hk hmm hmi hB) dX6_worth_35 rfl rfl (hF.1 49 _ rfl) ⟨by decide, by decide⟩ (Nat.le_of_ble_eq_true rfl) (Nat.le_refl _) (Nat.le_refl _) (z_cQ4 (fun s35 q35 => ?_)) z_tQ4
      refine z_aload_n dX6_worth_38 rfl rfl ?_
      refine z_getI dX6_worth_39 fl_X6_117_6 (hF.1 49 _ rfl) rfl ?_
      refine z_eqi ((a_lb h l m hi mi).2.2) (congrArg (fun t => t.2.2) q35) ?_
      refine z_if_ge 51 dX6_worth_42 (by decide) (fun c42 => ?_) (fun c42 => ?_)
      · refine z_aload_n dX6_worth_51 rfl rfl ?_
        refine z_getI dX6_worth_52 fl_X6_117_6 (hF.1 49 _ rfl) rfl ?_
        refine z_eqi ((a_lb h l m hi mi).2.2) (congrArg (fun t => t.2.2) q35) ?_
        refine z_iload_n dX6_worth_55 rfl rfl ?_
        refine z_isub dX6_worth_56 ?_
        refine z_iret dX6_worth_57 rfl rfl (Nat.le_refl _) (Nat.le_refl _) (z_qi_i ?_)
        unfold m_X6_worth; rw [if_pos (show m_X6_isLift h l from c5)]; unfold a_nv; rw [if_pos (show 0 ≤ ((a_lb h l m hi mi).2.2) from c42), if_pos (show 0 ≤ ((a_lb h (-1) m hi mi).2.2) from c19)]
      · refine z_sipush (v := 999) dX6_worth_45 rfl ?_
        refine z_goto 55 dX6_worth_48 (by decide) ?_
        refine z_iload_n dX6_worth_55 rfl rfl ?_
        refine z_isub dX6_worth_56 ?_
        refine z_iret dX6_worth_57 rfl rfl (Nat.le_refl _) (Nat.le_refl _) (z_qi_i ?_)
        unfold m_X6_worth; rw [if_pos (show m_X6_isLift h l from c5)]; unfold a_nv; rw [if_neg (show ¬ (0 ≤ ((a_lb h l m hi mi).2.2)) from c42), if_pos (show 0 ≤ ((a_lb h (-1) m hi mi).2.2) from c19)]
    · refine z_sipush (v := 999) dX6_worth_22 rfl ?_
      refine z_goto 32 dX6_worth_25 (by decide) ?_
      refine z_istore_n dX6_worth_32 rfl (by decide) rfl ?_
      refine z_aload_n dX6_worth_33 rfl rfl ?_
      refine z_iload_n dX6_worth_34 rfl rfl ?_
      refine z_vcall vl_X6_358_6 (c_X6_layBest hk hmm hmi hB) dX6_worth_35 rfl rfl (hF.1 49 _ rfl) ⟨by decide, by decide⟩ (Nat.le_of_ble_eq_true rfl) (Nat.le_refl _) (Nat.le_refl _) (z_cQ4 (fun s35 q35 => ?_)) z_tQ4
      refine z_aload_n dX6_worth_38 rfl rfl ?_
      refine z_getI dX6_worth_39 fl_X6_117_6 (hF.1 49 _ rfl) rfl ?_
      refine z_eqi ((a_lb h l m hi mi).2.2) (congrArg (fun t => t.2.2) q35) ?_
      refine z_if_ge 51 dX6_worth_42 (by decide) (fun c42 => ?_) (fun c42 => ?_)
      · refine z_aload_n dX6_worth_51 rfl rfl ?_
        refine z_getI dX6_worth_52 fl_X6_117_6 (hF.1 49 _ rfl) rfl ?_
        refine z_eqi ((a_lb h l m hi mi).2.2) (congrArg (fun t => t.2.2) q35) ?_
        refine z_iload_n dX6_worth_55 rfl rfl ?_
        refine z_isub dX6_worth_56 ?_
        refine z_iret dX6_worth_57 rfl rfl (Nat.le_refl _) (Nat.le_refl _) (z_qi_i ?_)
        unfold m_X6_worth; rw [if_pos (show m_X6_isLift h l from c5)]; unfold a_nv; rw [if_pos (show 0 ≤ ((a_lb h l m hi mi).2.2) from c42), if_neg (show ¬ (0 ≤ ((a_lb h (-1) m hi mi).2.2)) from c19)]
      · refine z_sipush (v := 999) dX6_worth_45 rfl ?_
        refine z_goto 55 dX6_worth_48 (by decide) ?_
        refine z_iload_n dX6_worth_55 rfl rfl ?_
        refine z_isub dX6_worth_56 ?_
        refine z_iret dX6_worth_57 rfl rfl (Nat.le_refl _) (Nat.le_refl _) (z_qi_i ?_)
        unfold m_X6_worth; rw [if_pos (show m_X6_isLift h l from c5)]; unfold a_nv; rw [if_neg (show ¬ (0 ≤ ((a_lb h l m hi mi).2.2)) from c42), if_neg (show ¬ (0 ≤ ((a_lb h (-1) m hi mi).2.2)) from c19)]
  · refine z_iconst (v := (-1)) dX6_worth_8 rfl ?_
    refine z_iret dX6_worth_9 rfl rfl (Nat.le_refl _) (Nat.le_refl _) (z_qi_i ?_)
    unfold m_X6_worth; rw [if_neg (show ¬ (m_X6_isLift h l) from c5)]
