/-! THE CLASS: item (printed by class27.py) -/
set_option maxRecDepth 20000
/-- an item is written -/
def z_wr (h : z_H) (s b i : Nat) (v : Int64) : z_H := match s with
  | 0 => z_sI h b i v.toInt32.toInt8.toInt32.toInt8.toInt32
  | 1 => z_sI h b i v.toInt32.toInt16.toInt32.toInt16.toInt32
  | 2 => z_sI h b i v.toInt32
  | 3 => z_sL h b i v
  | _ => z_sI h b i (if lg_cmp v 0 = 0 then 0 else 1)
def z_itQ (h : z_H) (t i : Int32) (v : Int64) (r : Int32) (h' : z_H) : Prop := r = m_X6_item h t i ∧ ((r ≠ 1 ∧ z_gr h h') ∨ (r = 1 ∧ z_in t 0 5 ∧ ∃ s n b, z_Tr1 h (z_c t) s n b ∧ i = nI (z_c i) ∧ z_c i < n ∧ h' = z_wr h s b (z_c i) v))
theorem z_lsq {Γ : z_W} {M : z_M} {rm : Room} {Q : Outcome → z_H → Prop} {cs ss pc : Nat} {ls : List (Option Value)} {st : List Value} {h : z_H} (ls' : List (Option Value)) (he : ls = ls') (kk : z_G Γ M rm Q cs ss pc ls' st h) : z_G Γ M rm Q cs ss pc ls st h := by rw [he]; exact kk
theorem z_c_nI {n : Nat} (h : n < 2 ^ 31) : z_c (nI n) = n := nI_clamp h
theorem z_s0 {x : Int32} {s : Nat} (hs : s ≤ 4) (e : x = nI s) : 0 ≤ x := by
  rw [e, Int32.le_iff_toInt_le, nI_toInt (by omega), z_i0]
  omega
theorem k_X0_item_0 {Γ : z_W} {h : z_H} {t i : Int32} {v : Int64} {n b : Nat} (hF : z_F h) (c4 : z_in t 0 5) (ht : t = nI (z_c t) ∧ z_c t ≤ 5) (hTr : z_Tr1 h (z_c t) 0 n b) (k2 : n ≤ 60) (k5 : z_R h (43 + z_c t) 0 = some b) (k6 : 85 ≤ b) (k7 : z_T h b = some (.inr (.byte, n))) (hix : i = nI (z_c i) ∧ z_c i < n) (em : (1 : Int32) = m_X6_item h t i) : z_G Γ M_X0_item (z_rm 5 4 2040) (z_rI (z_itQ h t i v)) 1 7 34 [some (.ref 16), some (.int t), some (.int i), some (.long v), none, some (.ref (43 + z_c t)), none, none, none, none, none] [] h := by
  refine z_aload dX0_item_34 rfl ?_
  refine z_getR b dX0_item_36 fl_X0_323_5 (z_t33 hF _ ht.2).2 rfl k5 ?_
  refine z_astore dX0_item_39 (by decide) rfl ?_
  refine z_lsq [some (.ref 16), some (.int t), some (.int i), some (.long v), none, some (.ref (43 + z_c t)), none, none, none, none, some (.ref b)] rfl ?_
  refine z_aload dX0_item_41 rfl ?_
  refine z_instY q1216 (z_rcB k7) dX0_item_43 ?_
  refine z_if_eq 66 dX0_item_46 (by decide) (fun q => absurd q (by decide)) (fun _ => ?_)
  refine z_aload dX0_item_49 rfl ?_
  refine z_castE q1216 (z_rcB k7) dX0_item_51 ?_
  refine z_astore dX0_item_54 (by decide) rfl ?_
  refine z_lsq [some (.ref 16), some (.int t), some (.int i), some (.long v), none, some (.ref (43 + z_c t)), some (.ref b), none, none, none, some (.ref b)] rfl ?_
  refine z_aload dX0_item_56 rfl ?_
  refine z_iload_n dX0_item_58 rfl rfl ?_
  refine z_lload_n dX0_item_59 rfl rfl ?_
  refine z_l2i dX0_item_60 ?_
  refine z_i2b dX0_item_61 ?_
  refine z_bast (z_c i) dX0_item_62 k7 (Nat.le_trans (by decide) k6) hix.1 hix.2 (by omega) ?_
  refine z_goto 180 dX0_item_63 (by decide) ?_
  refine z_iconst (v := 1) dX0_item_180 rfl ?_
  refine z_iret dX0_item_181 rfl rfl (Nat.le_of_ble_eq_true rfl) (Nat.le_of_ble_eq_true rfl) (z_rI_i ?_)
  exact ⟨em, Or.inr ⟨rfl, c4, 0, n, b, hTr, hix.1, hix.2, rfl⟩⟩
theorem k_X0_item_1 {Γ : z_W} {h : z_H} {t i : Int32} {v : Int64} {n b : Nat} (hF : z_F h) (c4 : z_in t 0 5) (ht : t = nI (z_c t) ∧ z_c t ≤ 5) (hTr : z_Tr1 h (z_c t) 1 n b) (k2 : n ≤ 60) (k5 : z_R h (43 + z_c t) 0 = some b) (k6 : 85 ≤ b) (k7 : z_T h b = some (.inr (.short, n))) (hix : i = nI (z_c i) ∧ z_c i < n) (em : (1 : Int32) = m_X6_item h t i) : z_G Γ M_X0_item (z_rm 5 4 2040) (z_rI (z_itQ h t i v)) 1 7 34 [some (.ref 16), some (.int t), some (.int i), some (.long v), none, some (.ref (43 + z_c t)), none, none, none, none, none] [] h := by
  refine z_aload dX0_item_34 rfl ?_
  refine z_getR b dX0_item_36 fl_X0_323_5 (z_t33 hF _ ht.2).2 rfl k5 ?_
  refine z_astore dX0_item_39 (by decide) rfl ?_
  refine z_lsq [some (.ref 16), some (.int t), some (.int i), some (.long v), none, some (.ref (43 + z_c t)), none, none, none, none, some (.ref b)] rfl ?_
  refine z_aload dX0_item_41 rfl ?_
  refine z_instF q1216 nca_SB (z_rcS k7) dX0_item_43 ?_
  refine z_if_eq 66 dX0_item_46 (by decide) (fun _ => ?_) (fun q => absurd q (by decide))
  refine z_aload dX0_item_66 rfl ?_
  refine z_getR b dX0_item_68 fl_X0_323_5 (z_t33 hF _ ht.2).2 rfl k5 ?_
  refine z_astore dX0_item_71 (by decide) rfl ?_
  refine z_lsq [some (.ref 16), some (.int t), some (.int i), some (.long v), none, some (.ref (43 + z_c t)), none, none, none, none, some (.ref b)] rfl ?_
  refine z_aload dX0_item_73 rfl ?_
  refine z_instY q1392 (z_rcS k7) dX0_item_75 ?_
  refine z_if_eq 98 dX0_item_78 (by decide) (fun q => absurd q (by decide)) (fun _ => ?_)
  refine z_aload dX0_item_81 rfl ?_
  refine z_castE q1392 (z_rcS k7) dX0_item_83 ?_
  refine z_astore dX0_item_86 (by decide) rfl ?_
  refine z_lsq [some (.ref 16), some (.int t), some (.int i), some (.long v), none, some (.ref (43 + z_c t)), none, some (.ref b), none, none, some (.ref b)] rfl ?_
  refine z_aload dX0_item_88 rfl ?_
  refine z_iload_n dX0_item_90 rfl rfl ?_
  refine z_lload_n dX0_item_91 rfl rfl ?_
  refine z_l2i dX0_item_92 ?_
  refine z_i2s dX0_item_93 ?_
  refine z_sast (z_c i) dX0_item_94 k7 (Nat.le_trans (by decide) k6) hix.1 hix.2 (by omega) ?_
  refine z_goto 180 dX0_item_95 (by decide) ?_
  refine z_iconst (v := 1) dX0_item_180 rfl ?_
  refine z_iret dX0_item_181 rfl rfl (Nat.le_of_ble_eq_true rfl) (Nat.le_of_ble_eq_true rfl) (z_rI_i ?_)
  exact ⟨em, Or.inr ⟨rfl, c4, 1, n, b, hTr, hix.1, hix.2, rfl⟩⟩
theorem k_X0_item_2 {Γ : z_W} {h : z_H} {t i : Int32} {v : Int64} {n b : Nat} (hF : z_F h) (c4 : z_in t 0 5) (ht : t = nI (z_c t) ∧ z_c t ≤ 5) (hTr : z_Tr1 h (z_c t) 2 n b) (k2 : n ≤ 60) (k5 : z_R h (43 + z_c t) 0 = some b) (k6 : 85 ≤ b) (k7 : z_T h b = some (.inr (.int, n))) (hix : i = nI (z_c i) ∧ z_c i < n) (em : (1 : Int32) = m_X6_item h t i) : z_G Γ M_X0_item (z_rm 5 4 2040) (z_rI (z_itQ h t i v)) 1 7 34 [some (.ref 16), some (.int t), some (.int i), some (.long v), none, some (.ref (43 + z_c t)), none, none, none, none, none] [] h := by
  refine z_aload dX0_item_34 rfl ?_
  refine z_getR b dX0_item_36 fl_X0_323_5 (z_t33 hF _ ht.2).2 rfl k5 ?_
  refine z_astore dX0_item_39 (by decide) rfl ?_
  refine z_lsq [some (.ref 16), some (.int t), some (.int i), some (.long v), none, some (.ref (43 + z_c t)), none, none, none, none, some (.ref b)] rfl ?_
  refine z_aload dX0_item_41 rfl ?_
  refine z_instF q1216 nca_IB (z_rcI k7) dX0_item_43 ?_
  refine z_if_eq 66 dX0_item_46 (by decide) (fun _ => ?_) (fun q => absurd q (by decide))
  refine z_aload dX0_item_66 rfl ?_
  refine z_getR b dX0_item_68 fl_X0_323_5 (z_t33 hF _ ht.2).2 rfl k5 ?_
  refine z_astore dX0_item_71 (by decide) rfl ?_
  refine z_lsq [some (.ref 16), some (.int t), some (.int i), some (.long v), none, some (.ref (43 + z_c t)), none, none, none, none, some (.ref b)] rfl ?_
  refine z_aload dX0_item_73 rfl ?_
  refine z_instF q1392 nca_IS (z_rcI k7) dX0_item_75 ?_
  refine z_if_eq 98 dX0_item_78 (by decide) (fun _ => ?_) (fun q => absurd q (by decide))
  refine z_aload dX0_item_98 rfl ?_
  refine z_getR b dX0_item_100 fl_X0_323_5 (z_t33 hF _ ht.2).2 rfl k5 ?_
  refine z_astore dX0_item_103 (by decide) rfl ?_
  refine z_lsq [some (.ref 16), some (.int t), some (.int i), some (.long v), none, some (.ref (43 + z_c t)), none, none, none, none, some (.ref b)] rfl ?_
  refine z_aload dX0_item_105 rfl ?_
  refine z_instY q1393 (z_rcI k7) dX0_item_107 ?_
  refine z_if_eq 129 dX0_item_110 (by decide) (fun q => absurd q (by decide)) (fun _ => ?_)
  refine z_aload dX0_item_113 rfl ?_
  refine z_castE q1393 (z_rcI k7) dX0_item_115 ?_
  refine z_astore dX0_item_118 (by decide) rfl ?_
  refine z_lsq [some (.ref 16), some (.int t), some (.int i), some (.long v), none, some (.ref (43 + z_c t)), none, none, some (.ref b), none, some (.ref b)] rfl ?_
  refine z_aload dX0_item_120 rfl ?_
  refine z_iload_n dX0_item_122 rfl rfl ?_
  refine z_lload_n dX0_item_123 rfl rfl ?_
  refine z_l2i dX0_item_124 ?_
  refine z_iast (z_c i) dX0_item_125 k7 (Nat.le_trans (by decide) k6) hix.1 hix.2 (by omega) ?_
  refine z_goto 180 dX0_item_126 (by decide) ?_
  refine z_iconst (v := 1) dX0_item_180 rfl ?_
  refine z_iret dX0_item_181 rfl rfl (Nat.le_of_ble_eq_true rfl) (Nat.le_of_ble_eq_true rfl) (z_rI_i ?_)
  exact ⟨em, Or.inr ⟨rfl, c4, 2, n, b, hTr, hix.1, hix.2, rfl⟩⟩
theorem k_X0_item_3 {Γ : z_W} {h : z_H} {t i : Int32} {v : Int64} {n b : Nat} (hF : z_F h) (c4 : z_in t 0 5) (ht : t = nI (z_c t) ∧ z_c t ≤ 5) (hTr : z_Tr1 h (z_c t) 3 n b) (k2 : n ≤ 60) (k5 : z_R h (43 + z_c t) 0 = some b) (k6 : 85 ≤ b) (k7 : z_T h b = some (.inr (.long, n))) (hix : i = nI (z_c i) ∧ z_c i < n) (em : (1 : Int32) = m_X6_item h t i) : z_G Γ M_X0_item (z_rm 5 4 2040) (z_rI (z_itQ h t i v)) 1 7 34 [some (.ref 16), some (.int t), some (.int i), some (.long v), none, some (.ref (43 + z_c t)), none, none, none, none, none] [] h := by
  refine z_aload dX0_item_34 rfl ?_
  refine z_getR b dX0_item_36 fl_X0_323_5 (z_t33 hF _ ht.2).2 rfl k5 ?_
  refine z_astore dX0_item_39 (by decide) rfl ?_
  refine z_lsq [some (.ref 16), some (.int t), some (.int i), some (.long v), none, some (.ref (43 + z_c t)), none, none, none, none, some (.ref b)] rfl ?_
  refine z_aload dX0_item_41 rfl ?_
  refine z_instF q1216 nca_JB (z_rcJ k7) dX0_item_43 ?_
  refine z_if_eq 66 dX0_item_46 (by decide) (fun _ => ?_) (fun q => absurd q (by decide))
  refine z_aload dX0_item_66 rfl ?_
  refine z_getR b dX0_item_68 fl_X0_323_5 (z_t33 hF _ ht.2).2 rfl k5 ?_
  refine z_astore dX0_item_71 (by decide) rfl ?_
  refine z_lsq [some (.ref 16), some (.int t), some (.int i), some (.long v), none, some (.ref (43 + z_c t)), none, none, none, none, some (.ref b)] rfl ?_
  refine z_aload dX0_item_73 rfl ?_
  refine z_instF q1392 nca_JS (z_rcJ k7) dX0_item_75 ?_
  refine z_if_eq 98 dX0_item_78 (by decide) (fun _ => ?_) (fun q => absurd q (by decide))
  refine z_aload dX0_item_98 rfl ?_
  refine z_getR b dX0_item_100 fl_X0_323_5 (z_t33 hF _ ht.2).2 rfl k5 ?_
  refine z_astore dX0_item_103 (by decide) rfl ?_
  refine z_lsq [some (.ref 16), some (.int t), some (.int i), some (.long v), none, some (.ref (43 + z_c t)), none, none, none, none, some (.ref b)] rfl ?_
  refine z_aload dX0_item_105 rfl ?_
  refine z_instF q1393 nca_JI (z_rcJ k7) dX0_item_107 ?_
  refine z_if_eq 129 dX0_item_110 (by decide) (fun _ => ?_) (fun q => absurd q (by decide))
  refine z_aload dX0_item_129 rfl ?_
  refine z_getR b dX0_item_131 fl_X0_323_5 (z_t33 hF _ ht.2).2 rfl k5 ?_
  refine z_astore dX0_item_134 (by decide) rfl ?_
  refine z_lsq [some (.ref 16), some (.int t), some (.int i), some (.long v), none, some (.ref (43 + z_c t)), none, none, none, none, some (.ref b)] rfl ?_
  refine z_aload dX0_item_136 rfl ?_
  refine z_instY q1394 (z_rcJ k7) dX0_item_138 ?_
  refine z_if_eq 159 dX0_item_141 (by decide) (fun q => absurd q (by decide)) (fun _ => ?_)
  refine z_aload dX0_item_144 rfl ?_
  refine z_castE q1394 (z_rcJ k7) dX0_item_146 ?_
  refine z_astore dX0_item_149 (by decide) rfl ?_
  refine z_lsq [some (.ref 16), some (.int t), some (.int i), some (.long v), none, some (.ref (43 + z_c t)), none, none, none, some (.ref b), some (.ref b)] rfl ?_
  refine z_aload dX0_item_151 rfl ?_
  refine z_iload_n dX0_item_153 rfl rfl ?_
  refine z_lload_n dX0_item_154 rfl rfl ?_
  refine z_last (z_c i) dX0_item_155 k7 (Nat.le_trans (by decide) k6) hix.1 hix.2 (by omega) ?_
  refine z_goto 180 dX0_item_156 (by decide) ?_
  refine z_iconst (v := 1) dX0_item_180 rfl ?_
  refine z_iret dX0_item_181 rfl rfl (Nat.le_of_ble_eq_true rfl) (Nat.le_of_ble_eq_true rfl) (z_rI_i ?_)
  exact ⟨em, Or.inr ⟨rfl, c4, 3, n, b, hTr, hix.1, hix.2, rfl⟩⟩
theorem k_X0_item_4 {Γ : z_W} {h : z_H} {t i : Int32} {v : Int64} {n b : Nat} (hF : z_F h) (c4 : z_in t 0 5) (ht : t = nI (z_c t) ∧ z_c t ≤ 5) (hTr : z_Tr1 h (z_c t) 4 n b) (k2 : n ≤ 60) (k5 : z_R h (43 + z_c t) 0 = some b) (k6 : 85 ≤ b) (k7 : z_T h b = some (.inr (.boolean, n))) (hix : i = nI (z_c i) ∧ z_c i < n) (em : (1 : Int32) = m_X6_item h t i) : z_G Γ M_X0_item (z_rm 5 4 2040) (z_rI (z_itQ h t i v)) 1 7 34 [some (.ref 16), some (.int t), some (.int i), some (.long v), none, some (.ref (43 + z_c t)), none, none, none, none, none] [] h := by
  refine z_aload dX0_item_34 rfl ?_
  refine z_getR b dX0_item_36 fl_X0_323_5 (z_t33 hF _ ht.2).2 rfl k5 ?_
  refine z_astore dX0_item_39 (by decide) rfl ?_
  refine z_lsq [some (.ref 16), some (.int t), some (.int i), some (.long v), none, some (.ref (43 + z_c t)), none, none, none, none, some (.ref b)] rfl ?_
  refine z_aload dX0_item_41 rfl ?_
  refine z_instF q1216 nca_ZB (z_rcZ k7) dX0_item_43 ?_
  refine z_if_eq 66 dX0_item_46 (by decide) (fun _ => ?_) (fun q => absurd q (by decide))
  refine z_aload dX0_item_66 rfl ?_
  refine z_getR b dX0_item_68 fl_X0_323_5 (z_t33 hF _ ht.2).2 rfl k5 ?_
  refine z_astore dX0_item_71 (by decide) rfl ?_
  refine z_lsq [some (.ref 16), some (.int t), some (.int i), some (.long v), none, some (.ref (43 + z_c t)), none, none, none, none, some (.ref b)] rfl ?_
  refine z_aload dX0_item_73 rfl ?_
  refine z_instF q1392 nca_ZS (z_rcZ k7) dX0_item_75 ?_
  refine z_if_eq 98 dX0_item_78 (by decide) (fun _ => ?_) (fun q => absurd q (by decide))
  refine z_aload dX0_item_98 rfl ?_
  refine z_getR b dX0_item_100 fl_X0_323_5 (z_t33 hF _ ht.2).2 rfl k5 ?_
  refine z_astore dX0_item_103 (by decide) rfl ?_
  refine z_lsq [some (.ref 16), some (.int t), some (.int i), some (.long v), none, some (.ref (43 + z_c t)), none, none, none, none, some (.ref b)] rfl ?_
  refine z_aload dX0_item_105 rfl ?_
  refine z_instF q1393 nca_ZI (z_rcZ k7) dX0_item_107 ?_
  refine z_if_eq 129 dX0_item_110 (by decide) (fun _ => ?_) (fun q => absurd q (by decide))
  refine z_aload dX0_item_129 rfl ?_
  refine z_getR b dX0_item_131 fl_X0_323_5 (z_t33 hF _ ht.2).2 rfl k5 ?_
  refine z_astore dX0_item_134 (by decide) rfl ?_
  refine z_lsq [some (.ref 16), some (.int t), some (.int i), some (.long v), none, some (.ref (43 + z_c t)), none, none, none, none, some (.ref b)] rfl ?_
  refine z_aload dX0_item_136 rfl ?_
  refine z_instF q1394 nca_ZJ (z_rcZ k7) dX0_item_138 ?_
  refine z_if_eq 159 dX0_item_141 (by decide) (fun _ => ?_) (fun q => absurd q (by decide))
  refine z_aload dX0_item_159 rfl ?_
  refine z_getR b dX0_item_161 fl_X0_323_5 (z_t33 hF _ ht.2).2 rfl k5 ?_
  refine z_castE q1395 (z_rcZ k7) dX0_item_164 ?_
  refine z_iload_n dX0_item_167 rfl rfl ?_
  refine z_lload_n dX0_item_168 rfl rfl ?_
  refine z_lconst (v := 0) dX0_item_169 rfl ?_
  refine z_lcmp dX0_item_170 ?_
  refine z_if_eq 178 dX0_item_171 (by decide) (fun c171 => ?_) (fun c171 => ?_)
  · refine z_iconst (v := 0) dX0_item_178 rfl ?_
    refine z_zast (z_c i) dX0_item_179 k7 (Nat.le_trans (by decide) k6) hix.1 hix.2 (by omega) rfl ?_
    refine z_iconst (v := 1) dX0_item_180 rfl ?_
    refine z_iret dX0_item_181 rfl rfl (Nat.le_of_ble_eq_true rfl) (Nat.le_of_ble_eq_true rfl) (z_rI_i ?_)
    first | exact ⟨em, Or.inr ⟨rfl, c4, 4, n, b, hTr, hix.1, hix.2, (by unfold z_wr; rw [if_pos c171]; rfl)⟩⟩ | exact ⟨em, Or.inr ⟨rfl, c4, 4, n, b, hTr, hix.1, hix.2, (by unfold z_wr; rw [if_neg c171]; rfl)⟩⟩
  · refine z_iconst (v := 1) dX0_item_174 rfl ?_
    refine z_goto 179 dX0_item_175 (by decide) ?_
    refine z_zast (z_c i) dX0_item_179 k7 (Nat.le_trans (by decide) k6) hix.1 hix.2 (by omega) rfl ?_
    refine z_iconst (v := 1) dX0_item_180 rfl ?_
    refine z_iret dX0_item_181 rfl rfl (Nat.le_of_ble_eq_true rfl) (Nat.le_of_ble_eq_true rfl) (z_rI_i ?_)
    first | exact ⟨em, Or.inr ⟨rfl, c4, 4, n, b, hTr, hix.1, hix.2, (by unfold z_wr; rw [if_pos c171]; rfl)⟩⟩ | exact ⟨em, Or.inr ⟨rfl, c4, 4, n, b, hTr, hix.1, hix.2, (by unfold z_wr; rw [if_neg c171]; rfl)⟩⟩
theorem c_X0_item {Γ : z_W} {h : z_H} {t i : Int32} {v : Int64} (hF : z_F h) (hTP : z_TP h) : z_C Γ M_X0_item (z_rm 5 4 2040) [.ref 16, .int t, .int i, .long v] h (z_rI (z_itQ h t i v)) := by
  refine z_C.ofH (by decide +kernel) (by decide) [some (.ref 16), some (.int t), some (.int i), some (.long v), none, none, none, none, none, none, none] (Nat.le_of_ble_eq_true rfl) rfl ?_
  refine z_iload_n dX0_item_0 rfl rfl ?_
  refine z_scall sl_X0_320 (c_X0_isTape) dX0_item_1 rfl rfl ⟨by decide, by decide⟩ (Nat.le_of_ble_eq_true rfl) (Nat.le_of_ble_eq_true rfl) (Nat.le_of_ble_eq_true rfl) (z_cI ?_) z_tI
  refine z_bif_ne 9 dX0_item_4 (by decide) (fun c4 => ?_) (fun c4 => ?_)
  · have ht := z_ixb (l := t) 5 (by decide) c4
    rcases hTP.1 (z_c t) (by have := ht.2; omega) with ⟨e1, e2, e3⟩ | ⟨s, n, b, hTr⟩
    · skip
      refine z_aload_n dX0_item_9 rfl rfl ?_
      refine z_getR 33 dX0_item_10 fl_X0_84_0 (hF.1 16 _ rfl) rfl (hF.2.1 16 21 33 rfl) ?_
      refine z_iload_n dX0_item_13 rfl rfl ?_
      refine z_aald (z_c t) (43 + z_c t) dX0_item_14 (hF.1 33 _ rfl) (by simp [z_at]) ht.1 (by have := ht.2; omega) (by decide) (z_t33 hF _ ht.2).1 ?_
      refine z_astore dX0_item_15 (by decide) rfl ?_
      refine z_aload dX0_item_17 rfl ?_
      refine z_iload_n dX0_item_19 rfl rfl ?_
      refine z_vcall vl_X0_381_5 (c_X5_has_N hF (z_t33 hF _ ht.2).2 e3) dX0_item_20 rfl rfl (z_t33 hF _ ht.2).2 ⟨by decide, by decide⟩ (Nat.le_of_ble_eq_true rfl) (Nat.le_of_ble_eq_true rfl) (Nat.le_of_ble_eq_true rfl) (fun v h' q => by cases q.1) (fun x h' q => ?_)
      obtain ⟨q1, q2⟩ := q
      cases q1
      rw [q2]
      refine z_thCatch (z_Xo_off h (-11)) [] [] rfl (fun y hy => by cases hy) ⟨by decide, by decide⟩ (by decide) q649 q751 ?_
      refine z_astore dX0_item_26 (by decide) rfl ?_
      refine z_aload dX0_item_28 rfl ?_
      refine z_getPl dX0_item_30 fl_X0_215_15 (z_off_T h (-11)) ?_
      refine z_eqi (-11) (z_off_I h (-11)) ?_
      refine z_iret dX0_item_33 rfl rfl (Nat.le_of_ble_eq_true rfl) (Nat.le_of_ble_eq_true rfl) (z_rI_i ⟨?_, Or.inl ⟨by decide, z_gr.off h (-11)⟩⟩)
      unfold m_X6_item
      rw [if_pos c4, if_neg (show ¬ 0 ≤ z_I h 81 (z_c t) by rw [e1]; decide)]
    · obtain ⟨k1, k2, k3, k4, k5, k6, k7, k9, k8⟩ := id hTr
      by_cases hi : z_in i 0 (nI n - 1)
      · have hix : i = nI (z_c i) ∧ z_c i < n := by
          have q := z_ix (z_cn_of k2 (by decide)) (by decide) hi
          rw [z_c_nI (by omega)] at q
          exact q
        have em : (1 : Int32) = m_X6_item h t i := by
          unfold m_X6_item
          rw [if_pos c4, if_pos (z_s0 k1 k3), if_pos (show z_in i 0 (z_I h 82 (z_c t) - 1) by rw [k4]; exact hi)]
        clear k9 k8 k3 k4
        match s, hTr, k7 with
        | 0, hTr, k7 =>
          refine z_aload_n dX0_item_9 rfl rfl ?_
          refine z_getR 33 dX0_item_10 fl_X0_84_0 (hF.1 16 _ rfl) rfl (hF.2.1 16 21 33 rfl) ?_
          refine z_iload_n dX0_item_13 rfl rfl ?_
          refine z_aald (z_c t) (43 + z_c t) dX0_item_14 (hF.1 33 _ rfl) (by simp [z_at]) ht.1 (by have := ht.2; omega) (by decide) (z_t33 hF _ ht.2).1 ?_
          refine z_astore dX0_item_15 (by decide) rfl ?_
          refine z_lsq [some (.ref 16), some (.int t), some (.int i), some (.long v), none, some (.ref (43 + z_c t)), none, none, none, none, none] rfl ?_
          refine z_aload dX0_item_17 rfl ?_
          refine z_iload_n dX0_item_19 rfl rfl ?_
          refine z_vcall vl_X0_381_5 (c_X5_has_y (s := 0) (n := n) hF (z_t33 hF _ ht.2).2 k5 k7 (by decide) hi) dX0_item_20 rfl rfl (z_t33 hF _ ht.2).2 ⟨by decide, by decide⟩ (Nat.le_of_ble_eq_true rfl) (Nat.le_of_ble_eq_true rfl) (Nat.le_of_ble_eq_true rfl) (z_cV ?_) z_tV
          refine z_goto 34 dX0_item_23 (by decide) ?_
          exact k_X0_item_0 hF c4 ht hTr k2 k5 k6 k7 hix em
        | 1, hTr, k7 =>
          refine z_aload_n dX0_item_9 rfl rfl ?_
          refine z_getR 33 dX0_item_10 fl_X0_84_0 (hF.1 16 _ rfl) rfl (hF.2.1 16 21 33 rfl) ?_
          refine z_iload_n dX0_item_13 rfl rfl ?_
          refine z_aald (z_c t) (43 + z_c t) dX0_item_14 (hF.1 33 _ rfl) (by simp [z_at]) ht.1 (by have := ht.2; omega) (by decide) (z_t33 hF _ ht.2).1 ?_
          refine z_astore dX0_item_15 (by decide) rfl ?_
          refine z_lsq [some (.ref 16), some (.int t), some (.int i), some (.long v), none, some (.ref (43 + z_c t)), none, none, none, none, none] rfl ?_
          refine z_aload dX0_item_17 rfl ?_
          refine z_iload_n dX0_item_19 rfl rfl ?_
          refine z_vcall vl_X0_381_5 (c_X5_has_y (s := 1) (n := n) hF (z_t33 hF _ ht.2).2 k5 k7 (by decide) hi) dX0_item_20 rfl rfl (z_t33 hF _ ht.2).2 ⟨by decide, by decide⟩ (Nat.le_of_ble_eq_true rfl) (Nat.le_of_ble_eq_true rfl) (Nat.le_of_ble_eq_true rfl) (z_cV ?_) z_tV
          refine z_goto 34 dX0_item_23 (by decide) ?_
          exact k_X0_item_1 hF c4 ht hTr k2 k5 k6 k7 hix em
        | 2, hTr, k7 =>
          refine z_aload_n dX0_item_9 rfl rfl ?_
          refine z_getR 33 dX0_item_10 fl_X0_84_0 (hF.1 16 _ rfl) rfl (hF.2.1 16 21 33 rfl) ?_
          refine z_iload_n dX0_item_13 rfl rfl ?_
          refine z_aald (z_c t) (43 + z_c t) dX0_item_14 (hF.1 33 _ rfl) (by simp [z_at]) ht.1 (by have := ht.2; omega) (by decide) (z_t33 hF _ ht.2).1 ?_
          refine z_astore dX0_item_15 (by decide) rfl ?_
          refine z_lsq [some (.ref 16), some (.int t), some (.int i), some (.long v), none, some (.ref (43 + z_c t)), none, none, none, none, none] rfl ?_
          refine z_aload dX0_item_17 rfl ?_
          refine z_iload_n dX0_item_19 rfl rfl ?_
          refine z_vcall vl_X0_381_5 (c_X5_has_y (s := 2) (n := n) hF (z_t33 hF _ ht.2).2 k5 k7 (by decide) hi) dX0_item_20 rfl rfl (z_t33 hF _ ht.2).2 ⟨by decide, by decide⟩ (Nat.le_of_ble_eq_true rfl) (Nat.le_of_ble_eq_true rfl) (Nat.le_of_ble_eq_true rfl) (z_cV ?_) z_tV
          refine z_goto 34 dX0_item_23 (by decide) ?_
          exact k_X0_item_2 hF c4 ht hTr k2 k5 k6 k7 hix em
        | 3, hTr, k7 =>
          refine z_aload_n dX0_item_9 rfl rfl ?_
          refine z_getR 33 dX0_item_10 fl_X0_84_0 (hF.1 16 _ rfl) rfl (hF.2.1 16 21 33 rfl) ?_
          refine z_iload_n dX0_item_13 rfl rfl ?_
          refine z_aald (z_c t) (43 + z_c t) dX0_item_14 (hF.1 33 _ rfl) (by simp [z_at]) ht.1 (by have := ht.2; omega) (by decide) (z_t33 hF _ ht.2).1 ?_
          refine z_astore dX0_item_15 (by decide) rfl ?_
          refine z_lsq [some (.ref 16), some (.int t), some (.int i), some (.long v), none, some (.ref (43 + z_c t)), none, none, none, none, none] rfl ?_
          refine z_aload dX0_item_17 rfl ?_
          refine z_iload_n dX0_item_19 rfl rfl ?_
          refine z_vcall vl_X0_381_5 (c_X5_has_y (s := 3) (n := n) hF (z_t33 hF _ ht.2).2 k5 k7 (by decide) hi) dX0_item_20 rfl rfl (z_t33 hF _ ht.2).2 ⟨by decide, by decide⟩ (Nat.le_of_ble_eq_true rfl) (Nat.le_of_ble_eq_true rfl) (Nat.le_of_ble_eq_true rfl) (z_cV ?_) z_tV
          refine z_goto 34 dX0_item_23 (by decide) ?_
          exact k_X0_item_3 hF c4 ht hTr k2 k5 k6 k7 hix em
        | 4, hTr, k7 =>
          refine z_aload_n dX0_item_9 rfl rfl ?_
          refine z_getR 33 dX0_item_10 fl_X0_84_0 (hF.1 16 _ rfl) rfl (hF.2.1 16 21 33 rfl) ?_
          refine z_iload_n dX0_item_13 rfl rfl ?_
          refine z_aald (z_c t) (43 + z_c t) dX0_item_14 (hF.1 33 _ rfl) (by simp [z_at]) ht.1 (by have := ht.2; omega) (by decide) (z_t33 hF _ ht.2).1 ?_
          refine z_astore dX0_item_15 (by decide) rfl ?_
          refine z_lsq [some (.ref 16), some (.int t), some (.int i), some (.long v), none, some (.ref (43 + z_c t)), none, none, none, none, none] rfl ?_
          refine z_aload dX0_item_17 rfl ?_
          refine z_iload_n dX0_item_19 rfl rfl ?_
          refine z_vcall vl_X0_381_5 (c_X5_has_y (s := 4) (n := n) hF (z_t33 hF _ ht.2).2 k5 k7 (by decide) hi) dX0_item_20 rfl rfl (z_t33 hF _ ht.2).2 ⟨by decide, by decide⟩ (Nat.le_of_ble_eq_true rfl) (Nat.le_of_ble_eq_true rfl) (Nat.le_of_ble_eq_true rfl) (z_cV ?_) z_tV
          refine z_goto 34 dX0_item_23 (by decide) ?_
          exact k_X0_item_4 hF c4 ht hTr k2 k5 k6 k7 hix em
        | s + 5, _, _ => omega
      · skip
        refine z_aload_n dX0_item_9 rfl rfl ?_
        refine z_getR 33 dX0_item_10 fl_X0_84_0 (hF.1 16 _ rfl) rfl (hF.2.1 16 21 33 rfl) ?_
        refine z_iload_n dX0_item_13 rfl rfl ?_
        refine z_aald (z_c t) (43 + z_c t) dX0_item_14 (hF.1 33 _ rfl) (by simp [z_at]) ht.1 (by have := ht.2; omega) (by decide) (z_t33 hF _ ht.2).1 ?_
        refine z_astore dX0_item_15 (by decide) rfl ?_
        refine z_aload dX0_item_17 rfl ?_
        refine z_iload_n dX0_item_19 rfl rfl ?_
        refine z_vcall vl_X0_381_5 (c_X5_has_n (s := s) (n := n) hF (z_t33 hF _ ht.2).2 k5 k7 k1 hi) dX0_item_20 rfl rfl (z_t33 hF _ ht.2).2 ⟨by decide, by decide⟩ (Nat.le_of_ble_eq_true rfl) (Nat.le_of_ble_eq_true rfl) (Nat.le_of_ble_eq_true rfl) (fun v h' q => by cases q.1) (fun x h' q => ?_)
        obtain ⟨q1, q2⟩ := q
        cases q1
        rw [q2]
        refine z_thCatch (z_Xo_off h (-13)) [] [] rfl (fun y hy => by cases hy) ⟨by decide, by decide⟩ (by decide) q649 q751 ?_
        refine z_astore dX0_item_26 (by decide) rfl ?_
        refine z_aload dX0_item_28 rfl ?_
        refine z_getPl dX0_item_30 fl_X0_215_15 (z_off_T h (-13)) ?_
        refine z_eqi (-13) (z_off_I h (-13)) ?_
        refine z_iret dX0_item_33 rfl rfl (Nat.le_of_ble_eq_true rfl) (Nat.le_of_ble_eq_true rfl) (z_rI_i ⟨?_, Or.inl ⟨by decide, z_gr.off h (-13)⟩⟩)
        unfold m_X6_item
        rw [if_pos c4, if_pos (z_s0 k1 k3), if_neg (show ¬ z_in i 0 (z_I h 82 (z_c t) - 1) by rw [k4]; exact hi)]
  · refine z_iconst (v := (-1)) dX0_item_7 rfl ?_
    refine z_iret dX0_item_8 rfl rfl (Nat.le_of_ble_eq_true rfl) (Nat.le_of_ble_eq_true rfl) (z_rI_i ?_)
    refine ⟨?_, Or.inl ⟨by decide, z_gr.refl h⟩⟩
    unfold m_X6_item; rw [if_neg c4]
