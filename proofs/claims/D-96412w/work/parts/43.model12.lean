/-! THE REFERENCE: flown, odds, and what is told (printed by model12.py) -/
set_option maxRecDepth 20000
theorem z_G.mono {Γ : z_W} {M : z_M} {rm : Room} {Q Q' : Outcome → z_H → Prop} {cs ss pc : Nat} {ls : List (Option Value)} {st : List Value} {h : z_H} (k : z_G Γ M rm Q cs ss pc ls st h) (hq : ∀ o h', Q o h' → Q' o h') : z_G Γ M rm Q' cs ss pc ls st h := by
  intro p l e s m args below meth c H locs la h1 h2 h3 h4
  refine z_mono ?_ (k p l e s m args below meth c H locs la h1 h2 h3 h4)
  rintro t ⟨o, a1, a2, ⟨h', b1, b2⟩, a3⟩
  exact ⟨o, a1, a2, ⟨h', hq _ _ b1, b2⟩, a3⟩
/-- a flight by its legs: where it ends, if it does -/
def a_fw (h : z_H) (p : Int32) : Nat → Nat → Int32 → Int32 → Int32 → Option (Int32 × Int32 × Int32)
  | 0, _, m, hi, mi => some (m, hi, mi)
  | r + 1, k, m, hi, mi => if m_X6_falls h m (z_I h 52 (z_c (z_I h 65 k))) p ≤ hi then a_fw h p r (k + 1) (z_I h 52 (z_c (z_I h 65 k))) (a_it h (z_I h 65 k) (z_I h 52 (z_c (z_I h 65 k))) (hi - m_X6_falls h m (z_I h 52 (z_c (z_I h 65 k))) p) (mi + m_X6_apart h m (z_I h 52 (z_c (z_I h 65 k))) * (10 - p)) (z_c (z_I h 66 k))).1 (a_it h (z_I h 65 k) (z_I h 52 (z_c (z_I h 65 k))) (hi - m_X6_falls h m (z_I h 52 (z_c (z_I h 65 k))) p) (mi + m_X6_apart h m (z_I h 52 (z_c (z_I h 65 k))) * (10 - p)) (z_c (z_I h 66 k))).2 else none
def a_fr (h : z_H) (p w mi0 : Int32) : Option (Int32 × Int32 × Int32) → Int32
  | none => -5
  | some (m, hi, mi) => if m_X6_falls h m (z_I h 49 5) p ≤ hi then (if w = 0 then hi - m_X6_falls h m (z_I h 49 5) p else mi + m_X6_apart h m (z_I h 49 5) * (10 - p) - mi0) else -5
def m_X6_flown (h : z_H) (p w m hi mi : Int32) : Int32 := if z_in w 0 1 then (if m_X6_isPace h p then a_fr h p w mi (a_fw h p (z_c (z_I h 49 36)) 0 m hi mi) else -2) else -1
theorem lx1_X6_flown {Γ : z_W} {h : z_H} {s : Nat → Int32} {p w m hi mi : Int32} {o4 o5 : Option Value} (hk : z_ok h) : z_G Γ M_X6_flown (z_rm 6 0 0) (z_ri (a_fr h p w (s 29) (some (m, hi, mi))) (z_fy (z_sc h s) (s 30) (s 31) (s 29))) 0 0 105 [some (.ref 49), some (.int p), some (.int w), some (.int 1), o4, o5] [] (z_fy (z_sc h s) m hi mi) := by
  have hF := hk.1
  refine z_iload_n dX6_flown_105 rfl rfl ?_
  refine z_if_eq 125 dX6_flown_106 (by decide) (fun q => absurd q (by decide)) (fun _ => ?_)
  refine z_aload_n dX6_flown_109 rfl rfl ?_
  refine z_aload_n dX6_flown_110 rfl rfl ?_
  refine z_getI dX6_flown_111 fl_X6_25_6 (hF.1 49 _ rfl) rfl ?_
  refine z_eqi (z_I h 49 5) rfl ?_
  refine z_iload_n dX6_flown_114 rfl rfl ?_
  by_cases g115 : m_X6_falls h m (z_I h 49 5) p ≤ hi
  · refine z_vcall vl_X6_329_6 (c_X6_goGlide_y (h := z_sc h s) hF g115) dX6_flown_115 rfl rfl (hF.1 49 _ rfl) ⟨by decide, by decide⟩ (Nat.le_of_ble_eq_true rfl) (Nat.le_refl _) (Nat.le_refl _) (z_cI ?_) z_tI
    refine z_meq (z_fy (z_sc h s) (z_I h 49 5) (hi - m_X6_falls h m (z_I h 49 5) p) (mi + m_X6_apart h m (z_I h 49 5) * (10 - p))) rfl ?_
    refine z_if_eq 125 dX6_flown_118 (by decide) (fun q => absurd q (by decide)) (fun _ => ?_)
    refine z_iconst (v := 1) dX6_flown_121 rfl ?_
    refine z_goto 126 dX6_flown_122 (by decide) ?_
    refine z_istore_n dX6_flown_126 rfl (by decide) rfl ?_
    refine z_iload_n dX6_flown_127 rfl rfl ?_
    refine z_if_ne 138 dX6_flown_128 (by decide) (fun c128 => ?_) (fun c128 => ?_)
    · refine z_aload_n dX6_flown_138 rfl rfl ?_
      refine z_getI dX6_flown_139 fl_X6_13_6 (hF.1 49 _ rfl) rfl ?_
      refine z_eqi (mi + m_X6_apart h m (z_I h 49 5) * (10 - p)) rfl ?_
      refine z_aload_n dX6_flown_142 rfl rfl ?_
      refine z_getI dX6_flown_143 fl_X6_99_6 (hF.1 49 _ rfl) rfl ?_
      refine z_eqi (s 29) rfl ?_
      refine z_isub dX6_flown_146 ?_
      refine z_istore dX6_flown_147 (by decide) rfl ?_
      refine z_aload_n dX6_flown_149 rfl rfl ?_
      refine z_vcall vl_X6_335_6 (c_X6_putBack hF) dX6_flown_150 rfl rfl (hF.1 49 _ rfl) ⟨by decide, by decide⟩ (Nat.le_of_ble_eq_true rfl) (Nat.le_refl _) (Nat.le_refl _) (z_cV ?_) z_tV
      refine z_meq (z_fy (z_sc h s) (s 30) (s 31) (s 29)) rfl ?_
      refine z_iload_n dX6_flown_153 rfl rfl ?_
      refine z_if_eq 162 dX6_flown_154 (by decide) (fun q => absurd q (by decide)) (fun _ => ?_)
      refine z_iload dX6_flown_157 rfl ?_
      refine z_goto 164 dX6_flown_159 (by decide) ?_
      refine z_iret dX6_flown_164 rfl rfl (Nat.le_refl _) (Nat.le_refl _) (z_ri_i ?_ ?_)
      · unfold a_fr; simp only []; rw [if_pos (show m_X6_falls h m (z_I h 49 5) p ≤ hi from g115), if_neg (show ¬ (w = 0) from c128)]
      · rfl
    · refine z_aload_n dX6_flown_131 rfl rfl ?_
      refine z_getI dX6_flown_132 fl_X6_19_6 (hF.1 49 _ rfl) rfl ?_
      refine z_eqi (hi - m_X6_falls h m (z_I h 49 5) p) rfl ?_
      refine z_goto 147 dX6_flown_135 (by decide) ?_
      refine z_istore dX6_flown_147 (by decide) rfl ?_
      refine z_aload_n dX6_flown_149 rfl rfl ?_
      refine z_vcall vl_X6_335_6 (c_X6_putBack hF) dX6_flown_150 rfl rfl (hF.1 49 _ rfl) ⟨by decide, by decide⟩ (Nat.le_of_ble_eq_true rfl) (Nat.le_refl _) (Nat.le_refl _) (z_cV ?_) z_tV
      refine z_meq (z_fy (z_sc h s) (s 30) (s 31) (s 29)) rfl ?_
      refine z_iload_n dX6_flown_153 rfl rfl ?_
      refine z_if_eq 162 dX6_flown_154 (by decide) (fun q => absurd q (by decide)) (fun _ => ?_)
      refine z_iload dX6_flown_157 rfl ?_
      refine z_goto 164 dX6_flown_159 (by decide) ?_
      refine z_iret dX6_flown_164 rfl rfl (Nat.le_refl _) (Nat.le_refl _) (z_ri_i ?_ ?_)
      · unfold a_fr; simp only []; rw [if_pos (show m_X6_falls h m (z_I h 49 5) p ≤ hi from g115), if_pos (show w = 0 from c128)]
      · rfl
  · refine z_vcall vl_X6_329_6 (c_X6_goGlide_n (h := z_sc h s) hF g115) dX6_flown_115 rfl rfl (hF.1 49 _ rfl) ⟨by decide, by decide⟩ (Nat.le_of_ble_eq_true rfl) (Nat.le_refl _) (Nat.le_refl _) (z_cI ?_) z_tI
    refine z_meq (z_fy (z_sc h s) m hi mi) rfl ?_
    refine z_if_eq 125 dX6_flown_118 (by decide) (fun _ => ?_) (fun q => absurd q (by decide))
    refine z_iconst (v := 0) dX6_flown_125 rfl ?_
    refine z_istore_n dX6_flown_126 rfl (by decide) rfl ?_
    refine z_iload_n dX6_flown_127 rfl rfl ?_
    refine z_if_ne 138 dX6_flown_128 (by decide) (fun c128 => ?_) (fun c128 => ?_)
    · refine z_aload_n dX6_flown_138 rfl rfl ?_
      refine z_getI dX6_flown_139 fl_X6_13_6 (hF.1 49 _ rfl) rfl ?_
      refine z_eqi (mi) rfl ?_
      refine z_aload_n dX6_flown_142 rfl rfl ?_
      refine z_getI dX6_flown_143 fl_X6_99_6 (hF.1 49 _ rfl) rfl ?_
      refine z_eqi (s 29) rfl ?_
      refine z_isub dX6_flown_146 ?_
      refine z_istore dX6_flown_147 (by decide) rfl ?_
      refine z_aload_n dX6_flown_149 rfl rfl ?_
      refine z_vcall vl_X6_335_6 (c_X6_putBack hF) dX6_flown_150 rfl rfl (hF.1 49 _ rfl) ⟨by decide, by decide⟩ (Nat.le_of_ble_eq_true rfl) (Nat.le_refl _) (Nat.le_refl _) (z_cV ?_) z_tV
      refine z_meq (z_fy (z_sc h s) (s 30) (s 31) (s 29)) rfl ?_
      refine z_iload_n dX6_flown_153 rfl rfl ?_
      refine z_if_eq 162 dX6_flown_154 (by decide) (fun _ => ?_) (fun q => absurd q (by decide))
      refine z_bipush (v := (-5)) dX6_flown_162 rfl ?_
      refine z_iret dX6_flown_164 rfl rfl (Nat.le_refl _) (Nat.le_refl _) (z_ri_i ?_ ?_)
      · unfold a_fr; simp only []; rw [if_neg (show ¬ (m_X6_falls h m (z_I h 49 5) p ≤ hi) from g115)]
      · rfl
    · refine z_aload_n dX6_flown_131 rfl rfl ?_
      refine z_getI dX6_flown_132 fl_X6_19_6 (hF.1 49 _ rfl) rfl ?_
      refine z_eqi (hi) rfl ?_
      refine z_goto 147 dX6_flown_135 (by decide) ?_
      refine z_istore dX6_flown_147 (by decide) rfl ?_
      refine z_aload_n dX6_flown_149 rfl rfl ?_
      refine z_vcall vl_X6_335_6 (c_X6_putBack hF) dX6_flown_150 rfl rfl (hF.1 49 _ rfl) ⟨by decide, by decide⟩ (Nat.le_of_ble_eq_true rfl) (Nat.le_refl _) (Nat.le_refl _) (z_cV ?_) z_tV
      refine z_meq (z_fy (z_sc h s) (s 30) (s 31) (s 29)) rfl ?_
      refine z_iload_n dX6_flown_153 rfl rfl ?_
      refine z_if_eq 162 dX6_flown_154 (by decide) (fun _ => ?_) (fun q => absurd q (by decide))
      refine z_bipush (v := (-5)) dX6_flown_162 rfl ?_
      refine z_iret dX6_flown_164 rfl rfl (Nat.le_refl _) (Nat.le_refl _) (z_ri_i ?_ ?_)
      · unfold a_fr; simp only []; rw [if_neg (show ¬ (m_X6_falls h m (z_I h 49 5) p ≤ hi) from g115)]
      · rfl
theorem lx0_X6_flown {Γ : z_W} {h : z_H} {s : Nat → Int32} {p w m hi mi : Int32} {o4 o5 : Option Value} (hk : z_ok h) : z_G Γ M_X6_flown (z_rm 6 0 0) (z_ri (-5) (z_fy (z_sc h s) (s 30) (s 31) (s 29))) 0 0 105 [some (.ref 49), some (.int p), some (.int w), some (.int 0), o4, o5] [] (z_fy (z_sc h s) m hi mi) := by
  have hF := hk.1
  refine z_iload_n dX6_flown_105 rfl rfl ?_
  refine z_if_eq 125 dX6_flown_106 (by decide) (fun _ => ?_) (fun q => absurd q (by decide))
  refine z_iconst (v := 0) dX6_flown_125 rfl ?_
  refine z_istore_n dX6_flown_126 rfl (by decide) rfl ?_
  refine z_iload_n dX6_flown_127 rfl rfl ?_
  refine z_if_ne 138 dX6_flown_128 (by decide) (fun c128 => ?_) (fun c128 => ?_)
  · refine z_aload_n dX6_flown_138 rfl rfl ?_
    refine z_getI dX6_flown_139 fl_X6_13_6 (hF.1 49 _ rfl) rfl ?_
    refine z_eqi (mi) rfl ?_
    refine z_aload_n dX6_flown_142 rfl rfl ?_
    refine z_getI dX6_flown_143 fl_X6_99_6 (hF.1 49 _ rfl) rfl ?_
    refine z_eqi (s 29) rfl ?_
    refine z_isub dX6_flown_146 ?_
    refine z_istore dX6_flown_147 (by decide) rfl ?_
    refine z_aload_n dX6_flown_149 rfl rfl ?_
    refine z_vcall vl_X6_335_6 (c_X6_putBack hF) dX6_flown_150 rfl rfl (hF.1 49 _ rfl) ⟨by decide, by decide⟩ (Nat.le_of_ble_eq_true rfl) (Nat.le_refl _) (Nat.le_refl _) (z_cV ?_) z_tV
    refine z_meq (z_fy (z_sc h s) (s 30) (s 31) (s 29)) rfl ?_
    refine z_iload_n dX6_flown_153 rfl rfl ?_
    refine z_if_eq 162 dX6_flown_154 (by decide) (fun _ => ?_) (fun q => absurd q (by decide))
    refine z_bipush (v := (-5)) dX6_flown_162 rfl ?_
    refine z_iret dX6_flown_164 rfl rfl (Nat.le_refl _) (Nat.le_refl _) (z_ri_i ?_ ?_)
    · rfl
    · rfl
  · refine z_aload_n dX6_flown_131 rfl rfl ?_
    refine z_getI dX6_flown_132 fl_X6_19_6 (hF.1 49 _ rfl) rfl ?_
    refine z_eqi (hi) rfl ?_
    refine z_goto 147 dX6_flown_135 (by decide) ?_
    refine z_istore dX6_flown_147 (by decide) rfl ?_
    refine z_aload_n dX6_flown_149 rfl rfl ?_
    refine z_vcall vl_X6_335_6 (c_X6_putBack hF) dX6_flown_150 rfl rfl (hF.1 49 _ rfl) ⟨by decide, by decide⟩ (Nat.le_of_ble_eq_true rfl) (Nat.le_refl _) (Nat.le_refl _) (z_cV ?_) z_tV
    refine z_meq (z_fy (z_sc h s) (s 30) (s 31) (s 29)) rfl ?_
    refine z_iload_n dX6_flown_153 rfl rfl ?_
    refine z_if_eq 162 dX6_flown_154 (by decide) (fun _ => ?_) (fun q => absurd q (by decide))
    refine z_bipush (v := (-5)) dX6_flown_162 rfl ?_
    refine z_iret dX6_flown_164 rfl rfl (Nat.le_refl _) (Nat.le_refl _) (z_ri_i ?_ ?_)
    · rfl
    · rfl
theorem lp2_X6_flown {Γ : z_W} {h : z_H} {s : Nat → Int32} {p w m hi mi R : Int32} (hk : z_ok h) {k : Nat} (hl : z_I h 65 k = nI (z_c (z_I h 65 k)) ∧ z_c (z_I h 65 k) < z_c (z_I h 49 0)) (hk4 : k < 4) {B N : Nat} (hN : z_I h 66 k = nI N) (hN6 : N ≤ 60) (hmi : z_cn mi B) (hB : B + 60 < 2 ^ 31) (kk : ∀ o, z_G Γ M_X6_flown (z_rm 6 0 0) (z_ri (R) (z_fy (z_sc h s) (s 30) (s 31) (s 29))) 0 0 99 [some (.ref 49), some (.int p), some (.int w), some (.int 1), some (.int (nI k)), o] [] (z_fy (z_sc h s) m (a_it h (z_I h 65 k) m hi mi N).1 (a_it h (z_I h 65 k) m hi mi N).2)) : ∀ (r i : Nat), i + r = N → z_G Γ M_X6_flown (z_rm 6 0 0) (z_ri (R) (z_fy (z_sc h s) (s 30) (s 31) (s 29))) 0 0 66 [some (.ref 49), some (.int p), some (.int w), some (.int 1), some (.int (nI k)), some (.int (nI i))] [] (z_fy (z_sc h s) m (a_it h (z_I h 65 k) m hi mi i).1 (a_it h (z_I h 65 k) m hi mi i).2) := by
  obtain ⟨hF, ha, hm, hvs, hws, hho⟩ := id hk
  have hv := hvs _ hl.2
  have hl : z_I h 65 k = nI (z_c (z_I h 65 k)) ∧ z_c (z_I h 65 k) < 6 := ⟨hl.1, by have := hl.2; have := hm.2; omega⟩
  intro r
  induction r with
  | zero =>
    intro i hi0
    have hi1 : i = N := by omega
    subst hi1
    refine z_iload dX6_flown_66 rfl ?_
    refine z_aload_n dX6_flown_68 rfl rfl ?_
    refine z_getR 66 dX6_flown_69 fl_X6_126_6 (hF.1 49 _ rfl) rfl (hF.2.1 49 38 66 rfl) ?_
    refine z_iload dX6_flown_72 rfl ?_
    refine z_iald k dX6_flown_74 (hF.1 66 _ rfl) rfl (by omega) (by decide) ?_
    refine z_eqi (nI i) hN ?_
    refine z_icmp_ge 99 dX6_flown_75 (by decide) (fun _ => ?_) (fun q => by first | exact absurd (Int32.le_refl _) q | exact absurd q (Int32.le_refl _))
    exact kk _
  | succ r ih =>
    intro i hi0
    have hmi2 := z_cn_it (h := h) (l := z_I h 65 k) (m := m) (hi := hi) (n := i) hmi (by omega)
    refine z_iload dX6_flown_66 rfl ?_
    refine z_aload_n dX6_flown_68 rfl rfl ?_
    refine z_getR 66 dX6_flown_69 fl_X6_126_6 (hF.1 49 _ rfl) rfl (hF.2.1 49 38 66 rfl) ?_
    refine z_iload dX6_flown_72 rfl ?_
    refine z_iald k dX6_flown_74 (hF.1 66 _ rfl) rfl (by omega) (by decide) ?_
    refine z_eqi (nI N) hN ?_
    refine z_icmp_ge 99 dX6_flown_75 (by decide) (fun q => by first | exact absurd q (nI_ge (show i < N by omega) (by omega)) | exact absurd (nI_ge (show i < N by omega) (by omega)) q) (fun _ => ?_)
    refine z_iload_n dX6_flown_78 rfl rfl ?_
    refine z_if_eq 99 dX6_flown_79 (by decide) (fun q => absurd q (by decide)) (fun _ => ?_)
    refine z_aload_n dX6_flown_82 rfl rfl ?_
    refine z_aload_n dX6_flown_83 rfl rfl ?_
    refine z_getR 65 dX6_flown_84 fl_X6_123_6 (hF.1 49 _ rfl) rfl (hF.2.1 49 37 65 rfl) ?_
    refine z_iload dX6_flown_87 rfl ?_
    refine z_iald k dX6_flown_89 (hF.1 65 _ rfl) rfl (by omega) (by decide) ?_
    refine z_eqi (z_I h 65 k) rfl ?_
    refine z_vcall vl_X6_323_6 (c_X6_goMinute (h := z_sc h s) hF ha hl hv hmi2 (by omega)) dX6_flown_90 rfl rfl (hF.1 49 _ rfl) ⟨by decide, by decide⟩ (Nat.le_of_ble_eq_true rfl) (Nat.le_refl _) (Nat.le_refl _) (z_cV ?_) z_tV
    refine z_meq (z_fy (z_sc h s) m ((a_it h (z_I h 65 k) m hi mi (i + 1)).1) ((a_it h (z_I h 65 k) m hi mi (i + 1)).2)) rfl ?_
    refine z_iinc (v := nI (i + 1)) dX6_flown_93 rfl (nI_succ _).symm (by decide) rfl ?_
    refine z_goto 66 dX6_flown_96 (by decide) ?_
    exact ih (i + 1) (by omega)
theorem lp1_X6_flown {Γ : z_W} {h : z_H} {s : Nat → Int32} {p w : Int32} (hk : z_ok h) (hg : z_lg h) (hp : z_in p 1 9) : ∀ (r k : Nat) (m hi mi : Int32) (B : Nat) (o : Option Value), k + r = z_c (z_I h 49 36) → z_in m 0 99 → z_cn mi B → B + 951 * r < 2 ^ 31 → z_G Γ M_X6_flown (z_rm 6 0 0) (z_ri (a_fr h p w (s 29) (a_fw h p r k m hi mi)) (z_fy (z_sc h s) (s 30) (s 31) (s 29))) 0 0 32 [some (.ref 49), some (.int p), some (.int w), some (.int 1), some (.int (nI k)), o] [] (z_fy (z_sc h s) m hi mi) := by
  obtain ⟨hF, ha, hm, hvs, hws, hho⟩ := id hk
  obtain ⟨hg4, hgl, -⟩ := id hg
  have h4 := hg4.2
  intro r
  induction r with
  | zero =>
    intro k m hi mi B o hi0 hmm hmi hB
    refine z_iload dX6_flown_32 rfl ?_
    refine z_aload_n dX6_flown_34 rfl rfl ?_
    refine z_getI dX6_flown_35 fl_X6_120_6 (hF.1 49 _ rfl) rfl ?_
    refine z_eqi (z_I h 49 36) rfl ?_
    refine z_icmp_ge 105 dX6_flown_38 (by decide) (fun _ => ?_) (fun q => by first | exact absurd (show z_I h 49 36 ≤ nI k by rw [hg4.1]; exact nI_le (by omega) (by omega)) q | exact absurd q (show z_I h 49 36 ≤ nI k by rw [hg4.1]; exact nI_le (by omega) (by omega)))
    exact lx1_X6_flown hk
  | succ r ih =>
    intro k m hi mi B o hi0 hmm hmi hB
    obtain ⟨hl, hn⟩ := hgl k (by omega)
    have hn := z_pl2 (n := 60) rfl (by decide) hn
    have hl6 : z_I h 65 k = nI (z_c (z_I h 65 k)) ∧ z_c (z_I h 65 k) < 6 := ⟨hl.1, by have := hl.2; have := hm.2; omega⟩
    refine z_iload dX6_flown_32 rfl ?_
    refine z_aload_n dX6_flown_34 rfl rfl ?_
    refine z_getI dX6_flown_35 fl_X6_120_6 (hF.1 49 _ rfl) rfl ?_
    refine z_eqi (z_I h 49 36) rfl ?_
    refine z_icmp_ge 105 dX6_flown_38 (by decide) (fun q => by first | exact absurd q (show ¬ z_I h 49 36 ≤ nI k by rw [hg4.1]; exact nI_ge (by omega) (by omega)) | exact absurd (show ¬ z_I h 49 36 ≤ nI k by rw [hg4.1]; exact nI_ge (by omega) (by omega)) q) (fun _ => ?_)
    refine z_iload_n dX6_flown_41 rfl rfl ?_
    refine z_if_eq 105 dX6_flown_42 (by decide) (fun q => absurd q (by decide)) (fun _ => ?_)
    refine z_aload_n dX6_flown_45 rfl rfl ?_
    refine z_aload_n dX6_flown_46 rfl rfl ?_
    refine z_getR 52 dX6_flown_47 fl_X6_35_6 (hF.1 49 _ rfl) rfl (hF.2.1 49 8 52 rfl) ?_
    refine z_aload_n dX6_flown_50 rfl rfl ?_
    refine z_getR 65 dX6_flown_51 fl_X6_123_6 (hF.1 49 _ rfl) rfl (hF.2.1 49 37 65 rfl) ?_
    refine z_iload dX6_flown_54 rfl ?_
    refine z_iald k dX6_flown_56 (hF.1 65 _ rfl) rfl (by omega) (by decide) ?_
    refine z_eqi (z_I h 65 k) rfl ?_
    refine z_iald (z_c (z_I h 65 k)) dX6_flown_57 (hF.1 52 _ rfl) hl6.1 hl6.2 (by decide) ?_
    refine z_eqi (z_I h 52 (z_c (z_I h 65 k))) rfl ?_
    refine z_iload_n dX6_flown_58 rfl rfl ?_
    by_cases g59 : m_X6_falls h m (z_I h 52 (z_c (z_I h 65 k))) p ≤ hi
    · refine z_vcall vl_X6_329_6 (c_X6_goGlide_y (h := z_sc h s) hF g59) dX6_flown_59 rfl rfl (hF.1 49 _ rfl) ⟨by decide, by decide⟩ (Nat.le_of_ble_eq_true rfl) (Nat.le_refl _) (Nat.le_refl _) (z_cI ?_) z_tI
      refine z_meq (z_fy (z_sc h s) (z_I h 52 (z_c (z_I h 65 k))) (hi - m_X6_falls h m (z_I h 52 (z_c (z_I h 65 k))) p) (mi + m_X6_apart h m (z_I h 52 (z_c (z_I h 65 k))) * (10 - p))) rfl ?_
      refine z_istore_n dX6_flown_62 rfl (by decide) rfl ?_
      refine z_iconst (v := 0) dX6_flown_63 rfl ?_
      refine z_istore dX6_flown_64 (by decide) rfl ?_
      have hmi3 := z_cn_gl (h := h) hmi hmm (hws _ hl.2) hp (by omega)
      refine lp2_X6_flown hk hl (by omega) hn.1 hn.2 hmi3 (by omega) (fun o => ?_) _ 0 (Nat.zero_add _)
      refine z_iinc (v := nI (k + 1)) dX6_flown_99 rfl (nI_succ _).symm (by decide) rfl (z_goto 32 dX6_flown_102 (by decide) ?_)
      rw [show a_fw h p (r + 1) k m hi mi = _ by rw [a_fw, if_pos g59]]
      exact ih (k + 1) _ _ _ (B + 891 + 60) o (by omega) (hws _ hl.2) (z_cn_le (z_cn_it hmi3 (by omega)) (by omega)) (by omega)
    · refine z_vcall vl_X6_329_6 (c_X6_goGlide_n (h := z_sc h s) hF g59) dX6_flown_59 rfl rfl (hF.1 49 _ rfl) ⟨by decide, by decide⟩ (Nat.le_of_ble_eq_true rfl) (Nat.le_refl _) (Nat.le_refl _) (z_cI ?_) z_tI
      refine z_meq (z_fy (z_sc h s) m hi mi) rfl ?_
      refine z_istore_n dX6_flown_62 rfl (by decide) rfl ?_
      refine z_iconst (v := 0) dX6_flown_63 rfl ?_
      refine z_istore dX6_flown_64 (by decide) rfl ?_
      refine z_iload dX6_flown_66 rfl ?_
      refine z_aload_n dX6_flown_68 rfl rfl ?_
      refine z_getR 66 dX6_flown_69 fl_X6_126_6 (hF.1 49 _ rfl) rfl (hF.2.1 49 38 66 rfl) ?_
      refine z_iload dX6_flown_72 rfl ?_
      refine z_iald k dX6_flown_74 (hF.1 66 _ rfl) rfl (by omega) (by decide) ?_
      refine z_eqi (z_I h 66 k) rfl ?_
      refine z_icmp_ge 99 dX6_flown_75 (by decide) (fun c75 => ?_) (fun c75 => ?_)
      · refine z_iinc (v := nI (k + 1)) dX6_flown_99 rfl (nI_succ _).symm (by decide) rfl ?_
        refine z_goto 32 dX6_flown_102 (by decide) ?_
        refine z_iload dX6_flown_32 rfl ?_
        refine z_aload_n dX6_flown_34 rfl rfl ?_
        refine z_getI dX6_flown_35 fl_X6_120_6 (hF.1 49 _ rfl) rfl ?_
        refine z_eqi (z_I h 49 36) rfl ?_
        refine z_icmp_ge 105 dX6_flown_38 (by decide) (fun d38 => ?_) (fun d38 => ?_)
        · rw [show a_fw h p (r + 1) k m hi mi = none by rw [a_fw, if_neg g59]]
          exact lx0_X6_flown hk
        · refine z_iload_n dX6_flown_41 rfl rfl ?_
          refine z_if_eq 105 dX6_flown_42 (by decide) (fun _ => ?_) (fun q => absurd q (by decide))
          rw [show a_fw h p (r + 1) k m hi mi = none by rw [a_fw, if_neg g59]]
          exact lx0_X6_flown hk
      · refine z_iload_n dX6_flown_78 rfl rfl ?_
        refine z_if_eq 99 dX6_flown_79 (by decide) (fun _ => ?_) (fun q => absurd q (by decide))
        refine z_iinc (v := nI (k + 1)) dX6_flown_99 rfl (nI_succ _).symm (by decide) rfl ?_
        refine z_goto 32 dX6_flown_102 (by decide) ?_
        refine z_iload dX6_flown_32 rfl ?_
        refine z_aload_n dX6_flown_34 rfl rfl ?_
        refine z_getI dX6_flown_35 fl_X6_120_6 (hF.1 49 _ rfl) rfl ?_
        refine z_eqi (z_I h 49 36) rfl ?_
        refine z_icmp_ge 105 dX6_flown_38 (by decide) (fun d38 => ?_) (fun d38 => ?_)
        · rw [show a_fw h p (r + 1) k m hi mi = none by rw [a_fw, if_neg g59]]
          exact lx0_X6_flown hk
        · refine z_iload_n dX6_flown_41 rfl rfl ?_
          refine z_if_eq 105 dX6_flown_42 (by decide) (fun _ => ?_) (fun q => absurd q (by decide))
          rw [show a_fw h p (r + 1) k m hi mi = none by rw [a_fw, if_neg g59]]
          exact lx0_X6_flown hk
theorem c_X6_flown {Γ : z_W} {h : z_H} {s : Nat → Int32} {p w m hi mi : Int32} (hk : z_ok h) (hg : z_lg h) (hmm : z_in m 0 99) {B : Nat} (hmi : z_cn mi B) (hB : B + 951 * 4 < 2 ^ 31) : z_C Γ M_X6_flown (z_rm 6 0 0) [.ref 49, .int p, .int w] (z_fy (z_sc h s) m hi mi) (z_qi h m hi mi (m_X6_flown h p w m hi mi)) := by
  have hF := hk.1
  have h4 := hg.1.2
  refine z_C.of (by decide +kernel) rfl [some (.ref 49), some (.int p), some (.int w), none, none, none] (Nat.le_of_ble_eq_true rfl) rfl ?_
  refine z_aload_n dX6_flown_0 rfl rfl ?_
  refine z_iload_n dX6_flown_1 rfl rfl ?_
  refine z_iconst (v := 0) dX6_flown_2 rfl ?_
  refine z_iconst (v := 1) dX6_flown_3 rfl ?_
  refine z_vcall vl_X6_227_6 (c_X6_in hF) dX6_flown_4 rfl rfl (hF.1 49 _ rfl) ⟨by decide, by decide⟩ (Nat.le_of_ble_eq_true rfl) (Nat.le_refl _) (Nat.le_refl _) (z_cI ?_) z_tI
  refine z_bif_ne 12 dX6_flown_7 (by decide) (fun c7 => ?_) (fun c7 => ?_)
  · refine z_aload_n dX6_flown_12 rfl rfl ?_
    refine z_iload_n dX6_flown_13 rfl rfl ?_
    refine z_vcall vl_X6_326_6 (c_X6_isPace hF) dX6_flown_14 rfl rfl (hF.1 49 _ rfl) ⟨by decide, by decide⟩ (Nat.le_of_ble_eq_true rfl) (Nat.le_refl _) (Nat.le_refl _) (z_cI ?_) z_tI
    refine z_bif_ne 23 dX6_flown_17 (by decide) (fun c17 => ?_) (fun c17 => ?_)
    · refine z_aload_n dX6_flown_23 rfl rfl ?_
      refine z_vcall vl_X6_332_6 (c_X6_save hF) dX6_flown_24 rfl rfl (hF.1 49 _ rfl) ⟨by decide, by decide⟩ (Nat.le_of_ble_eq_true rfl) (Nat.le_refl _) (Nat.le_refl _) (z_cV ?_) z_tV
      refine z_iconst (v := 1) dX6_flown_27 rfl ?_
      refine z_istore_n dX6_flown_28 rfl (by decide) rfl ?_
      refine z_iconst (v := 0) dX6_flown_29 rfl ?_
      refine z_istore dX6_flown_30 (by decide) rfl ?_
      have fin := lp1_X6_flown (Γ := Γ) (h := h) (s := (upd (upd (upd s 29 mi) 30 m) 31 hi)) (p := p) (w := w) hk hg c17 (z_c (z_I h 49 36)) 0 m hi mi B none (Nat.zero_add _) hmm hmi (by omega)
      unfold m_X6_flown
      rw [if_pos (show z_in w 0 1 from c7), if_pos (show m_X6_isPace h p from c17)]
      exact z_G.mono fin (fun o h' q => ⟨_, q.1, q.2⟩)
    · refine z_bipush (v := (-2)) dX6_flown_20 rfl ?_
      refine z_iret dX6_flown_22 rfl rfl (Nat.le_refl _) (Nat.le_refl _) (z_qi_i ?_)
      unfold m_X6_flown; rw [if_pos (show z_in w 0 1 from c7), if_neg (show ¬ (m_X6_isPace h p) from c17)]
  · refine z_iconst (v := (-1)) dX6_flown_10 rfl ?_
    refine z_iret dX6_flown_11 rfl rfl (Nat.le_refl _) (Nat.le_refl _) (z_qi_i ?_)
    unfold m_X6_flown; rw [if_neg (show ¬ (z_in w 0 1) from c7)]
theorem lp_X6_divisor {Γ : z_W} {h : z_H} {x1 x2 : Int32} {n : Nat} : ∀ (b a : Nat) (o5 : Option Value), a < 2 ^ 31 → b < 2 ^ 31 → Nat.gcd a b = n → z_G Γ M_X6_divisor (z_rm 1 0 0) (z_ri (nI n) h) 0 0 5 [some (.ref 49), some (.int x1), some (.int x2), some (.int (nI a)), some (.int (nI b)), o5] [] h := by
  intro b
  induction b using Nat.strongRecOn with
  | _ b ih =>
    intro a o5 ha hb hg
    have h0 : nI b = 0 ↔ b = 0 := nI_eq (b := 0) hb (by decide)
    refine z_iload dX6_divisor_5 rfl ?_
    refine z_if_eq 26 dX6_divisor_7 (by decide) (fun c7 => ?_) (fun c7 => ?_)
    · have hb0 : b = 0 := h0.mp c7
      refine z_iload_n dX6_divisor_26 rfl rfl ?_
      refine z_iret dX6_divisor_27 rfl rfl (Nat.le_refl _) (Nat.le_refl _) (z_ri_i ?_ ?_)
      · rw [← hg, hb0, Nat.gcd_zero_right]
      · rfl
    · have hb0 : 0 < b := Nat.pos_of_ne_zero (fun q => c7 (h0.mpr q))
      refine z_iload_n dX6_divisor_10 rfl rfl ?_
      refine z_iload dX6_divisor_11 rfl ?_
      refine z_irem dX6_divisor_13 (fun q => c7 (by exact q)) ?_
      refine z_eqi (nI (a % b)) (pk_rem ha hb0 hb) ?_
      refine z_istore dX6_divisor_14 (by decide) rfl ?_
      refine z_iload dX6_divisor_16 rfl ?_
      refine z_istore_n dX6_divisor_18 rfl (by decide) rfl ?_
      refine z_iload dX6_divisor_19 rfl ?_
      refine z_istore dX6_divisor_21 (by decide) rfl ?_
      refine z_goto 5 dX6_divisor_23 (by decide) ?_
      exact ih (a % b) (Nat.mod_lt _ (by omega)) b (some (.int (nI (a % b)))) (by omega) (by have := Nat.mod_lt a (show 0 < b by omega); omega) (by rw [← hg, Nat.gcd_comm a b, Nat.gcd_rec b a, Nat.gcd_comm])
theorem c_X6_divisor {Γ : z_W} {h : z_H} {a b : Nat} (ha : a < 2 ^ 31) (hb : b < 2 ^ 31) : z_C Γ M_X6_divisor (z_rm 1 0 0) [.ref 49, .int (nI a), .int (nI b)] h (z_ri (nI (Nat.gcd a b)) h) := by
  refine z_C.of (by decide +kernel) rfl [some (.ref 49), some (.int (nI a)), some (.int (nI b)), none, none, none] (Nat.le_of_ble_eq_true rfl) rfl ?_
  refine z_iload_n dX6_divisor_0 rfl rfl ?_
  refine z_istore_n dX6_divisor_1 rfl (by decide) rfl ?_
  refine z_iload_n dX6_divisor_2 rfl rfl ?_
  refine z_istore dX6_divisor_3 (by decide) rfl ?_
  exact lp_X6_divisor b a none ha hb rfl
def a_lt (a b : Nat) (part : Int32) : Int64 := (if part = 0 then nI (a / Nat.gcd a b) else nI (b / Nat.gcd a b)).toInt64
theorem c_X6_lowestTerms {Γ : z_W} {h : z_H} {a b : Nat} {part : Int32} (hF : z_F h) (ha : a < 2 ^ 31) (hb : b < 2 ^ 31) (h0 : 0 < b) : z_C Γ M_X6_lowestTerms (z_rm 2 0 0) [.ref 49, .int (nI a), .int (nI b), .int part] h (z_rl (a_lt a b part) h) := by
  have hg : 0 < Nat.gcd a b := Nat.gcd_pos_of_pos_right a h0
  have hgb : Nat.gcd a b ≤ b := Nat.gcd_le_right a h0
  have hne : ¬ nI (Nat.gcd a b) = 0 := fun q => by have := (nI_eq (b := 0) (by omega) (by decide)).mp q; omega
  refine z_C.of (by decide +kernel) rfl [some (.ref 49), some (.int (nI a)), some (.int (nI b)), some (.int part), none] (Nat.le_of_ble_eq_true rfl) rfl ?_
  refine z_aload_n dX6_lowestTerms_0 rfl rfl ?_
  refine z_iload_n dX6_lowestTerms_1 rfl rfl ?_
  refine z_iload_n dX6_lowestTerms_2 rfl rfl ?_
  refine z_vcall vl_X6_364_6 (c_X6_divisor ha hb) dX6_lowestTerms_3 rfl rfl (hF.1 49 _ rfl) ⟨by decide, by decide⟩ (Nat.le_of_ble_eq_true rfl) (Nat.le_refl _) (Nat.le_refl _) (z_cI ?_) z_tI
  refine z_istore dX6_lowestTerms_6 (by decide) rfl ?_
  refine z_iload_n dX6_lowestTerms_8 rfl rfl ?_
  refine z_if_ne 20 dX6_lowestTerms_9 (by decide) (fun c9 => ?_) (fun c9 => ?_)
  · refine z_iload_n dX6_lowestTerms_20 rfl rfl ?_
    refine z_iload dX6_lowestTerms_21 rfl ?_
    refine z_idiv dX6_lowestTerms_23 hne ?_
    refine z_i2l dX6_lowestTerms_24 ?_
    refine z_lret dX6_lowestTerms_25 rfl (Nat.le_refl _) (Nat.le_refl _) (z_rl_i ?_ ?_)
    · unfold a_lt; rw [if_neg (show ¬ (part = 0) from c9), pk_div (by omega) hg (by omega)]
    · rfl
  · refine z_iload_n dX6_lowestTerms_12 rfl rfl ?_
    refine z_iload dX6_lowestTerms_13 rfl ?_
    refine z_idiv dX6_lowestTerms_15 hne ?_
    refine z_i2l dX6_lowestTerms_16 ?_
    refine z_goto 25 dX6_lowestTerms_17 (by decide) ?_
    refine z_lret dX6_lowestTerms_25 rfl (Nat.le_refl _) (Nat.le_refl _) (z_rl_i ?_ ?_)
    · unfold a_lt; rw [if_pos (show part = 0 from c9), pk_div (by omega) hg (by omega)]
    · rfl
def a_od (h : z_H) (x : Int32) (n : Nat) (m hi mi : Int32) : Nat → Nat
  | 0 => 0
  | l + 1 => a_od h x n m hi mi l + if x ≤ (a_it h (nI l) m hi mi n).1 then 1 else 0
theorem a_od_le {h : z_H} {x : Int32} {n : Nat} {m hi mi : Int32} : ∀ l, a_od h x n m hi mi l ≤ l
  | 0 => Nat.le_refl _
  | l + 1 => by
    have := a_od_le (h := h) (x := x) (n := n) (m := m) (hi := hi) (mi := mi) l
    unfold a_od
    split <;> omega
def m_X6_odds (h : z_H) (x n part m hi mi : Int32) : Int64 := if z_in x 0 400 then (if m_X6_isTime h n then (if z_in part 0 1 then (if z_I h 49 0 = 0 then -9223372036854775808 else a_lt (a_od h x (z_c n) m hi mi (z_c (z_I h 49 0))) (z_c (z_I h 49 0)) part) else -9223372036854775808) else -9223372036854775808) else -9223372036854775808
def a_mn (h : z_H) (n : Nat) (m hi mi : Int32) : Nat → Nat
  | 0 => 0
  | l + 1 => a_mn h n m hi mi l + z_c (a_it h (nI l) m hi mi n).1
def m_X6_mean (h : z_H) (n part m hi mi : Int32) : Int64 := if m_X6_isTime h n then (if z_in part 0 1 then (if z_I h 49 0 = 0 then -9223372036854775808 else a_lt (a_mn h (z_c n) m hi mi (z_c (z_I h 49 0))) (z_c (z_I h 49 0)) part) else -9223372036854775808) else -9223372036854775808
theorem lp_X6_odds {Γ : z_W} {h : z_H} {x part m hi mi : Int32} {N : Nat} (hk : z_ok h) (hN : N ≤ 60) (h0 : 0 < z_c (z_I h 49 0)) {B : Nat} (hmi : z_cn mi B) (hB : B + 60 < 2 ^ 31) : ∀ (r i : Nat) (s : Nat → Int32), i + r = z_c (z_I h 49 0) →
    z_G Γ M_X6_odds (z_rm 7 0 0) (z_ql h m hi mi (a_lt (a_od h x N m hi mi (z_c (z_I h 49 0))) (z_c (z_I h 49 0)) part)) 0 0 47 [some (.ref 49), some (.int x), some (.int (nI N)), some (.int part), some (.int (nI (a_od h x N m hi mi i))), some (.int (nI i))] [] (z_fy (z_sc h s) m hi mi) := by
  obtain ⟨hF, ha, hm, hvs, hws, hho⟩ := id hk
  intro r
  induction r with
  | zero =>
    intro i s hi0
    have hi1 : i = z_c (z_I h 49 0) := by omega
    refine z_iload dX6_odds_47 rfl ?_
    refine z_aload_n dX6_odds_49 rfl rfl ?_
    refine z_getI dX6_odds_50 fl_X6_7_6 (hF.1 49 _ rfl) rfl ?_
    refine z_eqi (z_I h 49 0) rfl ?_
    refine z_icmp_ge 83 dX6_odds_53 (by decide) (fun _ => ?_) (fun q => by first | exact absurd (z_lif hm hi1) q | exact absurd q (z_lif hm hi1))
    refine z_aload_n dX6_odds_83 rfl rfl ?_
    refine z_iload dX6_odds_84 rfl ?_
    refine z_aload_n dX6_odds_86 rfl rfl ?_
    refine z_getI dX6_odds_87 fl_X6_7_6 (hF.1 49 _ rfl) rfl ?_
    refine z_eqi (nI (z_c (z_I h 49 0))) hm.1 ?_
    refine z_iload_n dX6_odds_90 rfl rfl ?_
    refine z_vcall vl_X6_369_6 (c_X6_lowestTerms hF (by have := hm.2; have := a_od_le (h := h) (x := x) (n := N) (m := m) (hi := hi) (mi := mi) i; omega) (by have := hm.2; omega) h0) dX6_odds_91 rfl rfl (hF.1 49 _ rfl) ⟨by decide, by decide⟩ (Nat.le_of_ble_eq_true rfl) (Nat.le_refl _) (Nat.le_refl _) (z_cL ?_) z_tL
    refine z_lret dX6_odds_94 rfl (Nat.le_refl _) (Nat.le_refl _) (z_ql_i ?_)
    rw [hi1]
  | succ r ih =>
    intro i s hi0
    have hl : nI i = nI (z_c (nI i)) ∧ z_c (nI i) < z_c (z_I h 49 0) := z_ixn (by omega) (by have := hm.2; omega)
    refine z_iload dX6_odds_47 rfl ?_
    refine z_aload_n dX6_odds_49 rfl rfl ?_
    refine z_getI dX6_odds_50 fl_X6_7_6 (hF.1 49 _ rfl) rfl ?_
    refine z_eqi (z_I h 49 0) rfl ?_
    refine z_icmp_ge 83 dX6_odds_53 (by decide) (fun q => by first | exact absurd q (z_lin hm (by omega)) | exact absurd (z_lin hm (by omega)) q) (fun _ => ?_)
    refine z_iload dX6_odds_56 rfl ?_
    refine z_aload_n dX6_odds_58 rfl rfl ?_
    refine z_iload dX6_odds_59 rfl ?_
    refine z_iload_n dX6_odds_61 rfl rfl ?_
    refine z_vcall vl_X6_338_6 (c_X6_upOf hk hl hmi hN hB) dX6_odds_62 rfl rfl (hF.1 49 _ rfl) ⟨by decide, by decide⟩ (Nat.le_of_ble_eq_true rfl) (Nat.le_refl _) (Nat.le_refl _) (z_cI ?_) z_tI
    refine z_iload_n dX6_odds_65 rfl rfl ?_
    refine z_icmp_lt 73 dX6_odds_66 (by decide) (fun c66 => ?_) (fun c66 => ?_)
    · refine z_iconst (v := 0) dX6_odds_73 rfl ?_
      refine z_iadd dX6_odds_74 ?_
      refine z_istore dX6_odds_75 (by decide) rfl ?_
      refine z_iinc (v := nI (i + 1)) dX6_odds_77 rfl (nI_succ _).symm (by decide) rfl ?_
      refine z_goto 47 dX6_odds_80 (by decide) ?_
      have e1 : nI (a_od h x N m hi mi (i + 1)) = (nI (a_od h x N m hi mi i)) + 0 := by simp only [a_od]; rw [if_neg (Int32.not_le.mpr c66), ← nI_add]; rfl
      have fin := ih (i + 1) (upd (upd (upd s 29 mi) 30 m) 31 hi) (by omega)
      rw [e1] at fin
      exact fin
    · refine z_iconst (v := 1) dX6_odds_69 rfl ?_
      refine z_goto 74 dX6_odds_70 (by decide) ?_
      refine z_iadd dX6_odds_74 ?_
      refine z_istore dX6_odds_75 (by decide) rfl ?_
      refine z_iinc (v := nI (i + 1)) dX6_odds_77 rfl (nI_succ _).symm (by decide) rfl ?_
      refine z_goto 47 dX6_odds_80 (by decide) ?_
      have e1 : nI (a_od h x N m hi mi (i + 1)) = (nI (a_od h x N m hi mi i)) + 1 := by simp only [a_od]; rw [if_pos (Int32.not_lt.mp c66), ← nI_add]; rfl
      have fin := ih (i + 1) (upd (upd (upd s 29 mi) 30 m) 31 hi) (by omega)
      rw [e1] at fin
      exact fin
theorem c_X6_odds {Γ : z_W} {h : z_H} {s : Nat → Int32} {x n part m hi mi : Int32} (hk : z_ok h) {B : Nat} (hmi : z_cn mi B) (hB : B + 60 < 2 ^ 31) : z_C Γ M_X6_odds (z_rm 7 0 0) [.ref 49, .int x, .int n, .int part] (z_fy (z_sc h s) m hi mi) (z_ql h m hi mi (m_X6_odds h x n part m hi mi)) := by
  have hF := hk.1
  obtain ⟨-, -, hm, -⟩ := id hk
  refine z_C.of (by decide +kernel) rfl [some (.ref 49), some (.int x), some (.int n), some (.int part), none, none] (Nat.le_of_ble_eq_true rfl) rfl ?_
  refine z_aload_n dX6_odds_0 rfl rfl ?_
  refine z_iload_n dX6_odds_1 rfl rfl ?_
  refine z_iconst (v := 0) dX6_odds_2 rfl ?_
  refine z_sipush (v := 400) dX6_odds_3 rfl ?_
  refine z_vcall vl_X6_227_6 (c_X6_in hF) dX6_odds_6 rfl rfl (hF.1 49 _ rfl) ⟨by decide, by decide⟩ (Nat.le_of_ble_eq_true rfl) (Nat.le_refl _) (Nat.le_refl _) (z_cI ?_) z_tI
  refine z_bif_eq 37 dX6_odds_9 (by decide) (fun c9 => ?_) (fun c9 => ?_)
  · refine z_ldc2 dX6_odds_37 q1942 ?_
    refine z_lret dX6_odds_40 rfl (Nat.le_refl _) (Nat.le_refl _) (z_ql_i ?_)
    unfold m_X6_odds; rw [if_neg (show ¬ (z_in x 0 400) from c9)]
  · refine z_aload_n dX6_odds_12 rfl rfl ?_
    refine z_iload_n dX6_odds_13 rfl rfl ?_
    refine z_vcall vl_X6_320_6 (c_X6_isTime hF) dX6_odds_14 rfl rfl (hF.1 49 _ rfl) ⟨by decide, by decide⟩ (Nat.le_of_ble_eq_true rfl) (Nat.le_refl _) (Nat.le_refl _) (z_cI ?_) z_tI
    refine z_bif_eq 37 dX6_odds_17 (by decide) (fun c17 => ?_) (fun c17 => ?_)
    · refine z_ldc2 dX6_odds_37 q1942 ?_
      refine z_lret dX6_odds_40 rfl (Nat.le_refl _) (Nat.le_refl _) (z_ql_i ?_)
      unfold m_X6_odds; rw [if_pos (show z_in x 0 400 from c9), if_neg (show ¬ (m_X6_isTime h n) from c17)]
    · have hn := z_pl2 (n := 60) rfl (by decide) c17
      refine z_aload_n dX6_odds_20 rfl rfl ?_
      refine z_iload_n dX6_odds_21 rfl rfl ?_
      refine z_iconst (v := 0) dX6_odds_22 rfl ?_
      refine z_iconst (v := 1) dX6_odds_23 rfl ?_
      refine z_vcall vl_X6_227_6 (c_X6_in hF) dX6_odds_24 rfl rfl (hF.1 49 _ rfl) ⟨by decide, by decide⟩ (Nat.le_of_ble_eq_true rfl) (Nat.le_refl _) (Nat.le_refl _) (z_cI ?_) z_tI
      refine z_bif_eq 37 dX6_odds_27 (by decide) (fun c27 => ?_) (fun c27 => ?_)
      · refine z_ldc2 dX6_odds_37 q1942 ?_
        refine z_lret dX6_odds_40 rfl (Nat.le_refl _) (Nat.le_refl _) (z_ql_i ?_)
        unfold m_X6_odds; rw [if_pos (show z_in x 0 400 from c9), if_pos (show m_X6_isTime h n from c17), if_neg (show ¬ (z_in part 0 1) from c27)]
      · refine z_aload_n dX6_odds_30 rfl rfl ?_
        refine z_getI dX6_odds_31 fl_X6_7_6 (hF.1 49 _ rfl) rfl ?_
        refine z_eqi (z_I h 49 0) rfl ?_
        refine z_if_ne 41 dX6_odds_34 (by decide) (fun c34 => ?_) (fun c34 => ?_)
        · have h0 : 0 < z_c (z_I h 49 0) := Nat.pos_of_ne_zero (fun q => c34 (by rw [hm.1, q]; rfl))
          refine z_iconst (v := 0) dX6_odds_41 rfl ?_
          refine z_istore dX6_odds_42 (by decide) rfl ?_
          refine z_iconst (v := 0) dX6_odds_44 rfl ?_
          refine z_istore dX6_odds_45 (by decide) rfl ?_
          have fin := lp_X6_odds (Γ := Γ) (x := x) (part := part) (m := m) (hi := hi) hk hn.2 h0 hmi hB _ 0 s (Nat.zero_add _)
          rw [← hn.1] at fin
          unfold m_X6_odds
          rw [if_pos (show z_in x 0 400 from c9), if_pos (show m_X6_isTime h n from c17), if_pos (show z_in part 0 1 from c27), if_neg (show ¬ ((z_I h 49 0) = 0) from c34)]
          exact fin
        · refine z_ldc2 dX6_odds_37 q1942 ?_
          refine z_lret dX6_odds_40 rfl (Nat.le_refl _) (Nat.le_refl _) (z_ql_i ?_)
          unfold m_X6_odds; rw [if_pos (show z_in x 0 400 from c9), if_pos (show m_X6_isTime h n from c17), if_pos (show z_in part 0 1 from c27), if_pos (show (z_I h 49 0) = 0 from c34)]
theorem a_mn_le {h : z_H} {N B : Nat} {m hi mi : Int32} (hk : z_ok h) (hb : z_bd h) (hh : z_r hi 0 400) (hmi : z_cn mi B) (hB : B + N < 2 ^ 31) : ∀ l, l ≤ z_c (z_I h 49 0) → a_mn h N m hi mi l ≤ 400 * l
  | 0, _ => Nat.le_refl _
  | l + 1, hl => by
    have := a_mn_le (m := m) hk hb hh hmi hB l (by omega)
    have h2 := (z_r0 (z_it_r (m := m) hmi hk hb (z_ixn (n := l) (by omega) (by have := hk.2.2.1.2; omega)) hh N hB) (by decide) (n := 400) (by decide)).2
    unfold a_mn
    omega
theorem lp_X6_mean {Γ : z_W} {h : z_H} {part m hi mi : Int32} {N : Nat} (hk : z_ok h) (hb : z_bd h) (hh : z_r hi 0 400) (hN : N ≤ 60) (h0 : 0 < z_c (z_I h 49 0)) {B : Nat} (hmi : z_cn mi B) (hB : B + 60 < 2 ^ 31) : ∀ (r i : Nat) (s : Nat → Int32), i + r = z_c (z_I h 49 0) →
    z_G Γ M_X6_mean (z_rm 7 0 0) (z_ql h m hi mi (a_lt (a_mn h N m hi mi (z_c (z_I h 49 0))) (z_c (z_I h 49 0)) part)) 0 0 34 [some (.ref 49), some (.int (nI N)), some (.int part), some (.int (nI (a_mn h N m hi mi i))), some (.int (nI i))] [] (z_fy (z_sc h s) m hi mi) := by
  obtain ⟨hF, ha, hm, hvs, hws, hho⟩ := id hk
  intro r
  induction r with
  | zero =>
    intro i s hi0
    have hi1 : i = z_c (z_I h 49 0) := by omega
    refine z_iload dX6_mean_34 rfl ?_
    refine z_aload_n dX6_mean_36 rfl rfl ?_
    refine z_getI dX6_mean_37 fl_X6_7_6 (hF.1 49 _ rfl) rfl ?_
    refine z_eqi (z_I h 49 0) rfl ?_
    refine z_icmp_ge 59 dX6_mean_40 (by decide) (fun _ => ?_) (fun q => by first | exact absurd (z_lif hm hi1) q | exact absurd q (z_lif hm hi1))
    refine z_aload_n dX6_mean_59 rfl rfl ?_
    refine z_iload_n dX6_mean_60 rfl rfl ?_
    refine z_aload_n dX6_mean_61 rfl rfl ?_
    refine z_getI dX6_mean_62 fl_X6_7_6 (hF.1 49 _ rfl) rfl ?_
    refine z_eqi (nI (z_c (z_I h 49 0))) hm.1 ?_
    refine z_iload_n dX6_mean_65 rfl rfl ?_
    refine z_vcall vl_X6_369_6 (c_X6_lowestTerms hF (by have := hm.2; have := a_mn_le (m := m) hk hb hh hmi (show B + N < 2 ^ 31 by omega) i (by omega); omega) (by have := hm.2; omega) h0) dX6_mean_66 rfl rfl (hF.1 49 _ rfl) ⟨by decide, by decide⟩ (Nat.le_of_ble_eq_true rfl) (Nat.le_refl _) (Nat.le_refl _) (z_cL ?_) z_tL
    refine z_lret dX6_mean_69 rfl (Nat.le_refl _) (Nat.le_refl _) (z_ql_i ?_)
    rw [hi1]
  | succ r ih =>
    intro i s hi0
    have hl : nI i = nI (z_c (nI i)) ∧ z_c (nI i) < z_c (z_I h 49 0) := z_ixn (by omega) (by have := hm.2; omega)
    refine z_iload dX6_mean_34 rfl ?_
    refine z_aload_n dX6_mean_36 rfl rfl ?_
    refine z_getI dX6_mean_37 fl_X6_7_6 (hF.1 49 _ rfl) rfl ?_
    refine z_eqi (z_I h 49 0) rfl ?_
    refine z_icmp_ge 59 dX6_mean_40 (by decide) (fun q => by first | exact absurd q (z_lin hm (by omega)) | exact absurd (z_lin hm (by omega)) q) (fun _ => ?_)
    refine z_iload_n dX6_mean_43 rfl rfl ?_
    refine z_aload_n dX6_mean_44 rfl rfl ?_
    refine z_iload dX6_mean_45 rfl ?_
    refine z_iload_n dX6_mean_47 rfl rfl ?_
    refine z_vcall vl_X6_338_6 (c_X6_upOf hk hl hmi hN hB) dX6_mean_48 rfl rfl (hF.1 49 _ rfl) ⟨by decide, by decide⟩ (Nat.le_of_ble_eq_true rfl) (Nat.le_refl _) (Nat.le_refl _) (z_cI ?_) z_tI
    refine z_iadd dX6_mean_51 ?_
    refine z_istore_n dX6_mean_52 rfl (by decide) rfl ?_
    refine z_iinc (v := nI (i + 1)) dX6_mean_53 rfl (nI_succ _).symm (by decide) rfl ?_
    refine z_goto 34 dX6_mean_56 (by decide) ?_
    have e1 : nI (a_mn h N m hi mi (i + 1)) = (nI (a_mn h N m hi mi i)) + ((a_it h (nI i) m hi mi N).1) := by simp only [a_mn]; rw [← nI_add, ← (z_r0 (z_it_r (h := h) (m := m) hmi hk hb hl hh N (by omega)) (by decide) (n := 400) (by decide)).1]
    have fin := ih (i + 1) (upd (upd (upd s 29 mi) 30 m) 31 hi) (by omega)
    rw [e1] at fin
    exact fin
theorem c_X6_mean {Γ : z_W} {h : z_H} {s : Nat → Int32} {n part m hi mi : Int32} (hk : z_ok h) (hb : z_bd h) (hh : z_r hi 0 400) {B : Nat} (hmi : z_cn mi B) (hB : B + 60 < 2 ^ 31) : z_C Γ M_X6_mean (z_rm 7 0 0) [.ref 49, .int n, .int part] (z_fy (z_sc h s) m hi mi) (z_ql h m hi mi (m_X6_mean h n part m hi mi)) := by
  have hF := hk.1
  obtain ⟨-, -, hm, -⟩ := id hk
  refine z_C.of (by decide +kernel) rfl [some (.ref 49), some (.int n), some (.int part), none, none] (Nat.le_of_ble_eq_true rfl) rfl ?_
  refine z_aload_n dX6_mean_0 rfl rfl ?_
  refine z_iload_n dX6_mean_1 rfl rfl ?_
  refine z_vcall vl_X6_320_6 (c_X6_isTime hF) dX6_mean_2 rfl rfl (hF.1 49 _ rfl) ⟨by decide, by decide⟩ (Nat.le_of_ble_eq_true rfl) (Nat.le_refl _) (Nat.le_refl _) (z_cI ?_) z_tI
  refine z_bif_eq 25 dX6_mean_5 (by decide) (fun c5 => ?_) (fun c5 => ?_)
  · refine z_ldc2 dX6_mean_25 q1942 ?_
    refine z_lret dX6_mean_28 rfl (Nat.le_refl _) (Nat.le_refl _) (z_ql_i ?_)
    unfold m_X6_mean; rw [if_neg (show ¬ (m_X6_isTime h n) from c5)]
  · have hn := z_pl2 (n := 60) rfl (by decide) c5
    refine z_aload_n dX6_mean_8 rfl rfl ?_
    refine z_iload_n dX6_mean_9 rfl rfl ?_
    refine z_iconst (v := 0) dX6_mean_10 rfl ?_
    refine z_iconst (v := 1) dX6_mean_11 rfl ?_
    refine z_vcall vl_X6_227_6 (c_X6_in hF) dX6_mean_12 rfl rfl (hF.1 49 _ rfl) ⟨by decide, by decide⟩ (Nat.le_of_ble_eq_true rfl) (Nat.le_refl _) (Nat.le_refl _) (z_cI ?_) z_tI
    refine z_bif_eq 25 dX6_mean_15 (by decide) (fun c15 => ?_) (fun c15 => ?_)
    · refine z_ldc2 dX6_mean_25 q1942 ?_
      refine z_lret dX6_mean_28 rfl (Nat.le_refl _) (Nat.le_refl _) (z_ql_i ?_)
      unfold m_X6_mean; rw [if_pos (show m_X6_isTime h n from c5), if_neg (show ¬ (z_in part 0 1) from c15)]
    · refine z_aload_n dX6_mean_18 rfl rfl ?_
      refine z_getI dX6_mean_19 fl_X6_7_6 (hF.1 49 _ rfl) rfl ?_
      refine z_eqi (z_I h 49 0) rfl ?_
      refine z_if_ne 29 dX6_mean_22 (by decide) (fun c22 => ?_) (fun c22 => ?_)
      · have h0 : 0 < z_c (z_I h 49 0) := Nat.pos_of_ne_zero (fun q => c22 (by rw [hm.1, q]; rfl))
        refine z_iconst (v := 0) dX6_mean_29 rfl ?_
        refine z_istore_n dX6_mean_30 rfl (by decide) rfl ?_
        refine z_iconst (v := 0) dX6_mean_31 rfl ?_
        refine z_istore dX6_mean_32 (by decide) rfl ?_
        have fin := lp_X6_mean (Γ := Γ) (part := part) (m := m) (hi := hi) hk hb hh hn.2 h0 hmi hB _ 0 s (Nat.zero_add _)
        rw [← hn.1] at fin
        unfold m_X6_mean
        rw [if_pos (show m_X6_isTime h n from c5), if_pos (show z_in part 0 1 from c15), if_neg (show ¬ ((z_I h 49 0) = 0) from c22)]
        exact fin
      · refine z_ldc2 dX6_mean_25 q1942 ?_
        refine z_lret dX6_mean_28 rfl (Nat.le_refl _) (Nat.le_refl _) (z_ql_i ?_)
        unfold m_X6_mean; rw [if_pos (show m_X6_isTime h n from c5), if_pos (show z_in part 0 1 from c15), if_pos (show (z_I h 49 0) = 0 from c22)]
