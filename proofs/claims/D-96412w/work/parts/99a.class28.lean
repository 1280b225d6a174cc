/-! THE CLASS: read (printed by class28.py) -/
set_option maxRecDepth 20000
theorem k_X0_read_0 {Γ : z_W} {h : z_H} {t i : Int32} {n b : Nat} (hF : z_F h) (ht : t = nI (z_c t) ∧ z_c t ≤ 5) (k2 : n ≤ 60) (k5 : z_R h (43 + z_c t) 0 = some b) (k7 : z_T h b = some (.inr (.byte, n))) (k9 : 0 = 4 → ∀ i, i < n → z_I h b i = 0 ∨ z_I h b i = 1) (hi : z_in i 0 (nI n - 1)) (hix : i = nI (z_c i) ∧ z_c i < n) (em : m_X6_read h (z_L h 83) t i = z_L h 83 (60 * z_c t + z_c i)) (ek : z_L h 83 (60 * z_c t + z_c i) = z_it h 0 b (z_c i)) : z_G Γ M_X0_read (z_rm 4 0 0) (z_rl (m_X6_read h (z_L h 83) t i) h) 0 0 7 [some (.ref 16), some (.int t), some (.int i), none, none, none] [] h := by
  have ek := ek.symm
  refine z_aload_n dX0_read_7 rfl rfl ?_
  refine z_getR 33 dX0_read_8 fl_X0_84_0 (hF.1 16 _ rfl) rfl (hF.2.1 16 21 33 rfl) ?_
  refine z_iload_n dX0_read_11 rfl rfl ?_
  refine z_aald (z_c t) (43 + z_c t) dX0_read_12 (hF.1 33 _ rfl) (by simp [z_at]) ht.1 (by have := ht.2; omega) (by decide) (z_t33 hF _ ht.2).1 ?_
  refine z_getR b dX0_read_13 fl_X0_323_5 (z_t33 hF _ ht.2).2 rfl k5 ?_
  refine z_ifnull dX0_read_16 ?_
  refine z_iload_n dX0_read_19 rfl rfl ?_
  refine z_iconst (v := 0) dX0_read_20 rfl ?_
  refine z_aload_n dX0_read_21 rfl rfl ?_
  refine z_getR 33 dX0_read_22 fl_X0_84_0 (hF.1 16 _ rfl) rfl (hF.2.1 16 21 33 rfl) ?_
  refine z_iload_n dX0_read_25 rfl rfl ?_
  refine z_aald (z_c t) (43 + z_c t) dX0_read_26 (hF.1 33 _ rfl) (by simp [z_at]) ht.1 (by have := ht.2; omega) (by decide) (z_t33 hF _ ht.2).1 ?_
  refine z_vcall vl_X0_391_5 (c_X5_size 0 (z_t33 hF _ ht.2).2 k5 k7 (by decide)) dX0_read_27 rfl rfl (z_t33 hF _ ht.2).2 ⟨by decide, by decide⟩ (Nat.le_of_ble_eq_true rfl) (Nat.le_refl _) (Nat.le_refl _) (z_cI ?_) z_tI
  refine z_iconst (v := 1) dX0_read_30 rfl ?_
  refine z_isub dX0_read_31 ?_
  refine z_scall sl_X0_5 (c_X0_in) dX0_read_32 rfl rfl ⟨by decide, by decide⟩ (Nat.le_of_ble_eq_true rfl) (Nat.le_refl _) (Nat.le_refl _) (z_cI ?_) z_tI
  refine z_bif_ne 42 dX0_read_35 (by decide) (fun _ => ?_) (fun q => by first | exact absurd hi q | exact absurd q hi)
  refine z_aload_n dX0_read_42 rfl rfl ?_
  refine z_getR 33 dX0_read_43 fl_X0_84_0 (hF.1 16 _ rfl) rfl (hF.2.1 16 21 33 rfl) ?_
  refine z_iload_n dX0_read_46 rfl rfl ?_
  refine z_aald (z_c t) (43 + z_c t) dX0_read_47 (hF.1 33 _ rfl) (by simp [z_at]) ht.1 (by have := ht.2; omega) (by decide) (z_t33 hF _ ht.2).1 ?_
  refine z_astore_n dX0_read_48 rfl (by decide) rfl ?_
  refine z_lsq [some (.ref 16), some (.int t), some (.int i), some (.ref (43 + z_c t)), none, none] rfl ?_
  refine z_aload_n dX0_read_49 rfl rfl ?_
  refine z_getR b dX0_read_50 fl_X0_323_5 (z_t33 hF _ ht.2).2 rfl k5 ?_
  refine z_astore dX0_read_53 (by decide) rfl ?_
  refine z_lsq [some (.ref 16), some (.int t), some (.int i), some (.ref (43 + z_c t)), none, some (.ref b)] rfl ?_
  refine z_aload dX0_read_55 rfl ?_
  refine z_instY q1216 (z_rcB k7) dX0_read_57 ?_
  refine z_if_eq 76 dX0_read_60 (by decide) (fun q => absurd q (by decide)) (fun _ => ?_)
  refine z_aload dX0_read_63 rfl ?_
  refine z_castE q1216 (z_rcB k7) dX0_read_65 ?_
  refine z_astore dX0_read_68 (by decide) rfl ?_
  refine z_lsq [some (.ref 16), some (.int t), some (.int i), some (.ref (43 + z_c t)), some (.ref b), some (.ref b)] rfl ?_
  refine z_aload dX0_read_70 rfl ?_
  refine z_iload_n dX0_read_72 rfl rfl ?_
  refine z_bald (z_c i) dX0_read_73 k7 hix.1 hix.2 (by omega) ?_
  refine z_i2l dX0_read_74 ?_
  refine z_lret dX0_read_75 rfl (Nat.le_refl _) (Nat.le_refl _) (z_rl_i ?_ ?_)
  · rw [em]; exact ek
  · rfl
theorem k_X0_read_1 {Γ : z_W} {h : z_H} {t i : Int32} {n b : Nat} (hF : z_F h) (ht : t = nI (z_c t) ∧ z_c t ≤ 5) (k2 : n ≤ 60) (k5 : z_R h (43 + z_c t) 0 = some b) (k7 : z_T h b = some (.inr (.short, n))) (k9 : 1 = 4 → ∀ i, i < n → z_I h b i = 0 ∨ z_I h b i = 1) (hi : z_in i 0 (nI n - 1)) (hix : i = nI (z_c i) ∧ z_c i < n) (em : m_X6_read h (z_L h 83) t i = z_L h 83 (60 * z_c t + z_c i)) (ek : z_L h 83 (60 * z_c t + z_c i) = z_it h 1 b (z_c i)) : z_G Γ M_X0_read (z_rm 4 0 0) (z_rl (m_X6_read h (z_L h 83) t i) h) 0 0 7 [some (.ref 16), some (.int t), some (.int i), none, none, none] [] h := by
  have ek := ek.symm
  refine z_aload_n dX0_read_7 rfl rfl ?_
  refine z_getR 33 dX0_read_8 fl_X0_84_0 (hF.1 16 _ rfl) rfl (hF.2.1 16 21 33 rfl) ?_
  refine z_iload_n dX0_read_11 rfl rfl ?_
  refine z_aald (z_c t) (43 + z_c t) dX0_read_12 (hF.1 33 _ rfl) (by simp [z_at]) ht.1 (by have := ht.2; omega) (by decide) (z_t33 hF _ ht.2).1 ?_
  refine z_getR b dX0_read_13 fl_X0_323_5 (z_t33 hF _ ht.2).2 rfl k5 ?_
  refine z_ifnull dX0_read_16 ?_
  refine z_iload_n dX0_read_19 rfl rfl ?_
  refine z_iconst (v := 0) dX0_read_20 rfl ?_
  refine z_aload_n dX0_read_21 rfl rfl ?_
  refine z_getR 33 dX0_read_22 fl_X0_84_0 (hF.1 16 _ rfl) rfl (hF.2.1 16 21 33 rfl) ?_
  refine z_iload_n dX0_read_25 rfl rfl ?_
  refine z_aald (z_c t) (43 + z_c t) dX0_read_26 (hF.1 33 _ rfl) (by simp [z_at]) ht.1 (by have := ht.2; omega) (by decide) (z_t33 hF _ ht.2).1 ?_
  refine z_vcall vl_X0_391_5 (c_X5_size 1 (z_t33 hF _ ht.2).2 k5 k7 (by decide)) dX0_read_27 rfl rfl (z_t33 hF _ ht.2).2 ⟨by decide, by decide⟩ (Nat.le_of_ble_eq_true rfl) (Nat.le_refl _) (Nat.le_refl _) (z_cI ?_) z_tI
  refine z_iconst (v := 1) dX0_read_30 rfl ?_
  refine z_isub dX0_read_31 ?_
  refine z_scall sl_X0_5 (c_X0_in) dX0_read_32 rfl rfl ⟨by decide, by decide⟩ (Nat.le_of_ble_eq_true rfl) (Nat.le_refl _) (Nat.le_refl _) (z_cI ?_) z_tI
  refine z_bif_ne 42 dX0_read_35 (by decide) (fun _ => ?_) (fun q => by first | exact absurd hi q | exact absurd q hi)
  refine z_aload_n dX0_read_42 rfl rfl ?_
  refine z_getR 33 dX0_read_43 fl_X0_84_0 (hF.1 16 _ rfl) rfl (hF.2.1 16 21 33 rfl) ?_
  refine z_iload_n dX0_read_46 rfl rfl ?_
  refine z_aald (z_c t) (43 + z_c t) dX0_read_47 (hF.1 33 _ rfl) (by simp [z_at]) ht.1 (by have := ht.2; omega) (by decide) (z_t33 hF _ ht.2).1 ?_
  refine z_astore_n dX0_read_48 rfl (by decide) rfl ?_
  refine z_lsq [some (.ref 16), some (.int t), some (.int i), some (.ref (43 + z_c t)), none, none] rfl ?_
  refine z_aload_n dX0_read_49 rfl rfl ?_
  refine z_getR b dX0_read_50 fl_X0_323_5 (z_t33 hF _ ht.2).2 rfl k5 ?_
  refine z_astore dX0_read_53 (by decide) rfl ?_
  refine z_lsq [some (.ref 16), some (.int t), some (.int i), some (.ref (43 + z_c t)), none, some (.ref b)] rfl ?_
  refine z_aload dX0_read_55 rfl ?_
  refine z_instF q1216 nca_SB (z_rcS k7) dX0_read_57 ?_
  refine z_if_eq 76 dX0_read_60 (by decide) (fun _ => ?_) (fun q => absurd q (by decide))
  refine z_aload_n dX0_read_76 rfl rfl ?_
  refine z_getR b dX0_read_77 fl_X0_323_5 (z_t33 hF _ ht.2).2 rfl k5 ?_
  refine z_astore dX0_read_80 (by decide) rfl ?_
  refine z_lsq [some (.ref 16), some (.int t), some (.int i), some (.ref (43 + z_c t)), none, some (.ref b)] rfl ?_
  refine z_aload dX0_read_82 rfl ?_
  refine z_instY q1392 (z_rcS k7) dX0_read_84 ?_
  refine z_if_eq 103 dX0_read_87 (by decide) (fun q => absurd q (by decide)) (fun _ => ?_)
  refine z_aload dX0_read_90 rfl ?_
  refine z_castE q1392 (z_rcS k7) dX0_read_92 ?_
  refine z_astore dX0_read_95 (by decide) rfl ?_
  refine z_lsq [some (.ref 16), some (.int t), some (.int i), some (.ref (43 + z_c t)), some (.ref b), some (.ref b)] rfl ?_
  refine z_aload dX0_read_97 rfl ?_
  refine z_iload_n dX0_read_99 rfl rfl ?_
  refine z_sald (z_c i) dX0_read_100 k7 hix.1 hix.2 (by omega) ?_
  refine z_i2l dX0_read_101 ?_
  refine z_lret dX0_read_102 rfl (Nat.le_refl _) (Nat.le_refl _) (z_rl_i ?_ ?_)
  · rw [em]; exact ek
  · rfl
theorem k_X0_read_2 {Γ : z_W} {h : z_H} {t i : Int32} {n b : Nat} (hF : z_F h) (ht : t = nI (z_c t) ∧ z_c t ≤ 5) (k2 : n ≤ 60) (k5 : z_R h (43 + z_c t) 0 = some b) (k7 : z_T h b = some (.inr (.int, n))) (k9 : 2 = 4 → ∀ i, i < n → z_I h b i = 0 ∨ z_I h b i = 1) (hi : z_in i 0 (nI n - 1)) (hix : i = nI (z_c i) ∧ z_c i < n) (em : m_X6_read h (z_L h 83) t i = z_L h 83 (60 * z_c t + z_c i)) (ek : z_L h 83 (60 * z_c t + z_c i) = z_it h 2 b (z_c i)) : z_G Γ M_X0_read (z_rm 4 0 0) (z_rl (m_X6_read h (z_L h 83) t i) h) 0 0 7 [some (.ref 16), some (.int t), some (.int i), none, none, none] [] h := by
  have ek := ek.symm
  refine z_aload_n dX0_read_7 rfl rfl ?_
  refine z_getR 33 dX0_read_8 fl_X0_84_0 (hF.1 16 _ rfl) rfl (hF.2.1 16 21 33 rfl) ?_
  refine z_iload_n dX0_read_11 rfl rfl ?_
  refine z_aald (z_c t) (43 + z_c t) dX0_read_12 (hF.1 33 _ rfl) (by simp [z_at]) ht.1 (by have := ht.2; omega) (by decide) (z_t33 hF _ ht.2).1 ?_
  refine z_getR b dX0_read_13 fl_X0_323_5 (z_t33 hF _ ht.2).2 rfl k5 ?_
  refine z_ifnull dX0_read_16 ?_
  refine z_iload_n dX0_read_19 rfl rfl ?_
  refine z_iconst (v := 0) dX0_read_20 rfl ?_
  refine z_aload_n dX0_read_21 rfl rfl ?_
  refine z_getR 33 dX0_read_22 fl_X0_84_0 (hF.1 16 _ rfl) rfl (hF.2.1 16 21 33 rfl) ?_
  refine z_iload_n dX0_read_25 rfl rfl ?_
  refine z_aald (z_c t) (43 + z_c t) dX0_read_26 (hF.1 33 _ rfl) (by simp [z_at]) ht.1 (by have := ht.2; omega) (by decide) (z_t33 hF _ ht.2).1 ?_
  refine z_vcall vl_X0_391_5 (c_X5_size 2 (z_t33 hF _ ht.2).2 k5 k7 (by decide)) dX0_read_27 rfl rfl (z_t33 hF _ ht.2).2 ⟨by decide, by decide⟩ (Nat.le_of_ble_eq_true rfl) (Nat.le_refl _) (Nat.le_refl _) (z_cI ?_) z_tI
  refine z_iconst (v := 1) dX0_read_30 rfl ?_
  refine z_isub dX0_read_31 ?_
  refine z_scall sl_X0_5 (c_X0_in) dX0_read_32 rfl rfl ⟨by decide, by decide⟩ (Nat.le_of_ble_eq_true rfl) (Nat.le_refl _) (Nat.le_refl _) (z_cI ?_) z_tI
  refine z_bif_ne 42 dX0_read_35 (by decide) (fun _ => ?_) (fun q => by first | exact absurd hi q | exact absurd q hi)
  refine z_aload_n dX0_read_42 rfl rfl ?_
  refine z_getR 33 dX0_read_43 fl_X0_84_0 (hF.1 16 _ rfl) rfl (hF.2.1 16 21 33 rfl) ?_
  refine z_iload_n dX0_read_46 rfl rfl ?_
  refine z_aald (z_c t) (43 + z_c t) dX0_read_47 (hF.1 33 _ rfl) (by simp [z_at]) ht.1 (by have := ht.2; omega) (by decide) (z_t33 hF _ ht.2).1 ?_
  refine z_astore_n dX0_read_48 rfl (by decide) rfl ?_
  refine z_lsq [some (.ref 16), some (.int t), some (.int i), some (.ref (43 + z_c t)), none, none] rfl ?_
  refine z_aload_n dX0_read_49 rfl rfl ?_
  refine z_getR b dX0_read_50 fl_X0_323_5 (z_t33 hF _ ht.2).2 rfl k5 ?_
  refine z_astore dX0_read_53 (by decide) rfl ?_
  refine z_lsq [some (.ref 16), some (.int t), some (.int i), some (.ref (43 + z_c t)), none, some (.ref b)] rfl ?_
  refine z_aload dX0_read_55 rfl ?_
  refine z_instF q1216 nca_IB (z_rcI k7) dX0_read_57 ?_
  refine z_if_eq 76 dX0_read_60 (by decide) (fun _ => ?_) (fun q => absurd q (by decide))
  refine z_aload_n dX0_read_76 rfl rfl ?_
  refine z_getR b dX0_read_77 fl_X0_323_5 (z_t33 hF _ ht.2).2 rfl k5 ?_
  refine z_astore dX0_read_80 (by decide) rfl ?_
  refine z_lsq [some (.ref 16), some (.int t), some (.int i), some (.ref (43 + z_c t)), none, some (.ref b)] rfl ?_
  refine z_aload dX0_read_82 rfl ?_
  refine z_instF q1392 nca_IS (z_rcI k7) dX0_read_84 ?_
  refine z_if_eq 103 dX0_read_87 (by decide) (fun _ => ?_) (fun q => absurd q (by decide))
  refine z_aload_n dX0_read_103 rfl rfl ?_
  refine z_getR b dX0_read_104 fl_X0_323_5 (z_t33 hF _ ht.2).2 rfl k5 ?_
  refine z_astore dX0_read_107 (by decide) rfl ?_
  refine z_lsq [some (.ref 16), some (.int t), some (.int i), some (.ref (43 + z_c t)), none, some (.ref b)] rfl ?_
  refine z_aload dX0_read_109 rfl ?_
  refine z_instY q1393 (z_rcI k7) dX0_read_111 ?_
  refine z_if_eq 130 dX0_read_114 (by decide) (fun q => absurd q (by decide)) (fun _ => ?_)
  refine z_aload dX0_read_117 rfl ?_
  refine z_castE q1393 (z_rcI k7) dX0_read_119 ?_
  refine z_astore dX0_read_122 (by decide) rfl ?_
  refine z_lsq [some (.ref 16), some (.int t), some (.int i), some (.ref (43 + z_c t)), some (.ref b), some (.ref b)] rfl ?_
  refine z_aload dX0_read_124 rfl ?_
  refine z_iload_n dX0_read_126 rfl rfl ?_
  refine z_iald (z_c i) dX0_read_127 k7 hix.1 hix.2 (by omega) ?_
  refine z_i2l dX0_read_128 ?_
  refine z_lret dX0_read_129 rfl (Nat.le_refl _) (Nat.le_refl _) (z_rl_i ?_ ?_)
  · rw [em]; exact ek
  · rfl
theorem k_X0_read_3 {Γ : z_W} {h : z_H} {t i : Int32} {n b : Nat} (hF : z_F h) (ht : t = nI (z_c t) ∧ z_c t ≤ 5) (k2 : n ≤ 60) (k5 : z_R h (43 + z_c t) 0 = some b) (k7 : z_T h b = some (.inr (.long, n))) (k9 : 3 = 4 → ∀ i, i < n → z_I h b i = 0 ∨ z_I h b i = 1) (hi : z_in i 0 (nI n - 1)) (hix : i = nI (z_c i) ∧ z_c i < n) (em : m_X6_read h (z_L h 83) t i = z_L h 83 (60 * z_c t + z_c i)) (ek : z_L h 83 (60 * z_c t + z_c i) = z_it h 3 b (z_c i)) : z_G Γ M_X0_read (z_rm 4 0 0) (z_rl (m_X6_read h (z_L h 83) t i) h) 0 0 7 [some (.ref 16), some (.int t), some (.int i), none, none, none] [] h := by
  have ek := ek.symm
  refine z_aload_n dX0_read_7 rfl rfl ?_
  refine z_getR 33 dX0_read_8 fl_X0_84_0 (hF.1 16 _ rfl) rfl (hF.2.1 16 21 33 rfl) ?_
  refine z_iload_n dX0_read_11 rfl rfl ?_
  refine z_aald (z_c t) (43 + z_c t) dX0_read_12 (hF.1 33 _ rfl) (by simp [z_at]) ht.1 (by have := ht.2; omega) (by decide) (z_t33 hF _ ht.2).1 ?_
  refine z_getR b dX0_read_13 fl_X0_323_5 (z_t33 hF _ ht.2).2 rfl k5 ?_
  refine z_ifnull dX0_read_16 ?_
  refine z_iload_n dX0_read_19 rfl rfl ?_
  refine z_iconst (v := 0) dX0_read_20 rfl ?_
  refine z_aload_n dX0_read_21 rfl rfl ?_
  refine z_getR 33 dX0_read_22 fl_X0_84_0 (hF.1 16 _ rfl) rfl (hF.2.1 16 21 33 rfl) ?_
  refine z_iload_n dX0_read_25 rfl rfl ?_
  refine z_aald (z_c t) (43 + z_c t) dX0_read_26 (hF.1 33 _ rfl) (by simp [z_at]) ht.1 (by have := ht.2; omega) (by decide) (z_t33 hF _ ht.2).1 ?_
  refine z_vcall vl_X0_391_5 (c_X5_size 3 (z_t33 hF _ ht.2).2 k5 k7 (by decide)) dX0_read_27 rfl rfl (z_t33 hF _ ht.2).2 ⟨by decide, by decide⟩ (Nat.le_of_ble_eq_true rfl) (Nat.le_refl _) (Nat.le_refl _) (z_cI ?_) z_tI
  refine z_iconst (v := 1) dX0_read_30 rfl ?_
  refine z_isub dX0_read_31 ?_
  refine z_scall sl_X0_5 (c_X0_in) dX0_read_32 rfl rfl ⟨by decide, by decide⟩ (Nat.le_of_ble_eq_true rfl) (Nat.le_refl _) (Nat.le_refl _) (z_cI ?_) z_tI
  refine z_bif_ne 42 dX0_read_35 (by decide) (fun _ => ?_) (fun q => by first | exact absurd hi q | exact absurd q hi)
  refine z_aload_n dX0_read_42 rfl rfl ?_
  refine z_getR 33 dX0_read_43 fl_X0_84_0 (hF.1 16 _ rfl) rfl (hF.2.1 16 21 33 rfl) ?_
  refine z_iload_n dX0_read_46 rfl rfl ?_
  refine z_aald (z_c t) (43 + z_c t) dX0_read_47 (hF.1 33 _ rfl) (by simp [z_at]) ht.1 (by have := ht.2; omega) (by decide) (z_t33 hF _ ht.2).1 ?_
  refine z_astore_n dX0_read_48 rfl (by decide) rfl ?_
  refine z_lsq [some (.ref 16), some (.int t), some (.int i), some (.ref (43 + z_c t)), none, none] rfl ?_
  refine z_aload_n dX0_read_49 rfl rfl ?_
  refine z_getR b dX0_read_50 fl_X0_323_5 (z_t33 hF _ ht.2).2 rfl k5 ?_
  refine z_astore dX0_read_53 (by decide) rfl ?_
  refine z_lsq [some (.ref 16), some (.int t), some (.int i), some (.ref (43 + z_c t)), none, some (.ref b)] rfl ?_
  refine z_aload dX0_read_55 rfl ?_
  refine z_instF q1216 nca_JB (z_rcJ k7) dX0_read_57 ?_
  refine z_if_eq 76 dX0_read_60 (by decide) (fun _ => ?_) (fun q => absurd q (by decide))
  refine z_aload_n dX0_read_76 rfl rfl ?_
  refine z_getR b dX0_read_77 fl_X0_323_5 (z_t33 hF _ ht.2).2 rfl k5 ?_
  refine z_astore dX0_read_80 (by decide) rfl ?_
  refine z_lsq [some (.ref 16), some (.int t), some (.int i), some (.ref (43 + z_c t)), none, some (.ref b)] rfl ?_
  refine z_aload dX0_read_82 rfl ?_
  refine z_instF q1392 nca_JS (z_rcJ k7) dX0_read_84 ?_
  refine z_if_eq 103 dX0_read_87 (by decide) (fun _ => ?_) (fun q => absurd q (by decide))
  refine z_aload_n dX0_read_103 rfl rfl ?_
  refine z_getR b dX0_read_104 fl_X0_323_5 (z_t33 hF _ ht.2).2 rfl k5 ?_
  refine z_astore dX0_read_107 (by decide) rfl ?_
  refine z_lsq [some (.ref 16), some (.int t), some (.int i), some (.ref (43 + z_c t)), none, some (.ref b)] rfl ?_
  refine z_aload dX0_read_109 rfl ?_
  refine z_instF q1393 nca_JI (z_rcJ k7) dX0_read_111 ?_
  refine z_if_eq 130 dX0_read_114 (by decide) (fun _ => ?_) (fun q => absurd q (by decide))
  refine z_aload_n dX0_read_130 rfl rfl ?_
  refine z_getR b dX0_read_131 fl_X0_323_5 (z_t33 hF _ ht.2).2 rfl k5 ?_
  refine z_astore dX0_read_134 (by decide) rfl ?_
  refine z_lsq [some (.ref 16), some (.int t), some (.int i), some (.ref (43 + z_c t)), none, some (.ref b)] rfl ?_
  refine z_aload dX0_read_136 rfl ?_
  refine z_instY q1394 (z_rcJ k7) dX0_read_138 ?_
  refine z_if_eq 158 dX0_read_141 (by decide) (fun q => absurd q (by decide)) (fun _ => ?_)
  refine z_aload dX0_read_144 rfl ?_
  refine z_castE q1394 (z_rcJ k7) dX0_read_146 ?_
  refine z_astore dX0_read_149 (by decide) rfl ?_
  refine z_lsq [some (.ref 16), some (.int t), some (.int i), some (.ref (43 + z_c t)), some (.ref b), some (.ref b)] rfl ?_
  refine z_aload dX0_read_151 rfl ?_
  refine z_iload_n dX0_read_153 rfl rfl ?_
  refine z_lald (z_c i) dX0_read_154 k7 hix.1 hix.2 (by omega) ?_
  refine z_goto 175 dX0_read_155 (by decide) ?_
  refine z_lret dX0_read_175 rfl (Nat.le_refl _) (Nat.le_refl _) (z_rl_i ?_ ?_)
  · rw [em]; exact ek
  · rfl
theorem k_X0_read_4 {Γ : z_W} {h : z_H} {t i : Int32} {n b : Nat} (hF : z_F h) (ht : t = nI (z_c t) ∧ z_c t ≤ 5) (k2 : n ≤ 60) (k5 : z_R h (43 + z_c t) 0 = some b) (k7 : z_T h b = some (.inr (.boolean, n))) (k9 : 4 = 4 → ∀ i, i < n → z_I h b i = 0 ∨ z_I h b i = 1) (hi : z_in i 0 (nI n - 1)) (hix : i = nI (z_c i) ∧ z_c i < n) (em : m_X6_read h (z_L h 83) t i = z_L h 83 (60 * z_c t + z_c i)) (ek : z_L h 83 (60 * z_c t + z_c i) = z_it h 4 b (z_c i)) : z_G Γ M_X0_read (z_rm 4 0 0) (z_rl (m_X6_read h (z_L h 83) t i) h) 0 0 7 [some (.ref 16), some (.int t), some (.int i), none, none, none] [] h := by
  refine z_aload_n dX0_read_7 rfl rfl ?_
  refine z_getR 33 dX0_read_8 fl_X0_84_0 (hF.1 16 _ rfl) rfl (hF.2.1 16 21 33 rfl) ?_
  refine z_iload_n dX0_read_11 rfl rfl ?_
  refine z_aald (z_c t) (43 + z_c t) dX0_read_12 (hF.1 33 _ rfl) (by simp [z_at]) ht.1 (by have := ht.2; omega) (by decide) (z_t33 hF _ ht.2).1 ?_
  refine z_getR b dX0_read_13 fl_X0_323_5 (z_t33 hF _ ht.2).2 rfl k5 ?_
  refine z_ifnull dX0_read_16 ?_
  refine z_iload_n dX0_read_19 rfl rfl ?_
  refine z_iconst (v := 0) dX0_read_20 rfl ?_
  refine z_aload_n dX0_read_21 rfl rfl ?_
  refine z_getR 33 dX0_read_22 fl_X0_84_0 (hF.1 16 _ rfl) rfl (hF.2.1 16 21 33 rfl) ?_
  refine z_iload_n dX0_read_25 rfl rfl ?_
  refine z_aald (z_c t) (43 + z_c t) dX0_read_26 (hF.1 33 _ rfl) (by simp [z_at]) ht.1 (by have := ht.2; omega) (by decide) (z_t33 hF _ ht.2).1 ?_
  refine z_vcall vl_X0_391_5 (c_X5_size 4 (z_t33 hF _ ht.2).2 k5 k7 (by decide)) dX0_read_27 rfl rfl (z_t33 hF _ ht.2).2 ⟨by decide, by decide⟩ (Nat.le_of_ble_eq_true rfl) (Nat.le_refl _) (Nat.le_refl _) (z_cI ?_) z_tI
  refine z_iconst (v := 1) dX0_read_30 rfl ?_
  refine z_isub dX0_read_31 ?_
  refine z_scall sl_X0_5 (c_X0_in) dX0_read_32 rfl rfl ⟨by decide, by decide⟩ (Nat.le_of_ble_eq_true rfl) (Nat.le_refl _) (Nat.le_refl _) (z_cI ?_) z_tI
  refine z_bif_ne 42 dX0_read_35 (by decide) (fun _ => ?_) (fun q => by first | exact absurd hi q | exact absurd q hi)
  refine z_aload_n dX0_read_42 rfl rfl ?_
  refine z_getR 33 dX0_read_43 fl_X0_84_0 (hF.1 16 _ rfl) rfl (hF.2.1 16 21 33 rfl) ?_
  refine z_iload_n dX0_read_46 rfl rfl ?_
  refine z_aald (z_c t) (43 + z_c t) dX0_read_47 (hF.1 33 _ rfl) (by simp [z_at]) ht.1 (by have := ht.2; omega) (by decide) (z_t33 hF _ ht.2).1 ?_
  refine z_astore_n dX0_read_48 rfl (by decide) rfl ?_
  refine z_lsq [some (.ref 16), some (.int t), some (.int i), some (.ref (43 + z_c t)), none, none] rfl ?_
  refine z_aload_n dX0_read_49 rfl rfl ?_
  refine z_getR b dX0_read_50 fl_X0_323_5 (z_t33 hF _ ht.2).2 rfl k5 ?_
  refine z_astore dX0_read_53 (by decide) rfl ?_
  refine z_lsq [some (.ref 16), some (.int t), some (.int i), some (.ref (43 + z_c t)), none, some (.ref b)] rfl ?_
  refine z_aload dX0_read_55 rfl ?_
  refine z_instF q1216 nca_ZB (z_rcZ k7) dX0_read_57 ?_
  refine z_if_eq 76 dX0_read_60 (by decide) (fun _ => ?_) (fun q => absurd q (by decide))
  refine z_aload_n dX0_read_76 rfl rfl ?_
  refine z_getR b dX0_read_77 fl_X0_323_5 (z_t33 hF _ ht.2).2 rfl k5 ?_
  refine z_astore dX0_read_80 (by decide) rfl ?_
  refine z_lsq [some (.ref 16), some (.int t), some (.int i), some (.ref (43 + z_c t)), none, some (.ref b)] rfl ?_
  refine z_aload dX0_read_82 rfl ?_
  refine z_instF q1392 nca_ZS (z_rcZ k7) dX0_read_84 ?_
  refine z_if_eq 103 dX0_read_87 (by decide) (fun _ => ?_) (fun q => absurd q (by decide))
  refine z_aload_n dX0_read_103 rfl rfl ?_
  refine z_getR b dX0_read_104 fl_X0_323_5 (z_t33 hF _ ht.2).2 rfl k5 ?_
  refine z_astore dX0_read_107 (by decide) rfl ?_
  refine z_lsq [some (.ref 16), some (.int t), some (.int i), some (.ref (43 + z_c t)), none, some (.ref b)] rfl ?_
  refine z_aload dX0_read_109 rfl ?_
  refine z_instF q1393 nca_ZI (z_rcZ k7) dX0_read_111 ?_
  refine z_if_eq 130 dX0_read_114 (by decide) (fun _ => ?_) (fun q => absurd q (by decide))
  refine z_aload_n dX0_read_130 rfl rfl ?_
  refine z_getR b dX0_read_131 fl_X0_323_5 (z_t33 hF _ ht.2).2 rfl k5 ?_
  refine z_astore dX0_read_134 (by decide) rfl ?_
  refine z_lsq [some (.ref 16), some (.int t), some (.int i), some (.ref (43 + z_c t)), none, some (.ref b)] rfl ?_
  refine z_aload dX0_read_136 rfl ?_
  refine z_instF q1394 nca_ZJ (z_rcZ k7) dX0_read_138 ?_
  refine z_if_eq 158 dX0_read_141 (by decide) (fun _ => ?_) (fun q => absurd q (by decide))
  refine z_aload_n dX0_read_158 rfl rfl ?_
  refine z_getR b dX0_read_159 fl_X0_323_5 (z_t33 hF _ ht.2).2 rfl k5 ?_
  refine z_castE q1395 (z_rcZ k7) dX0_read_162 ?_
  refine z_iload_n dX0_read_165 rfl rfl ?_
  refine z_zald (z_c i) dX0_read_166 k7 hix.1 hix.2 (by omega) ?_
  refine z_if_eq 174 dX0_read_167 (by decide) (fun c167 => ?_) (fun c167 => ?_)
  · refine z_lconst (v := 0) dX0_read_174 rfl ?_
    refine z_lret dX0_read_175 rfl (Nat.le_refl _) (Nat.le_refl _) (z_rl_i ?_ ?_)
    · rw [em, ek]; show _ = (z_I h b (z_c i)).toInt64; first | (rw [c167]; rfl) | (rw [(k9 rfl _ hix.2).resolve_left c167]; rfl)
    · rfl
  · refine z_lconst (v := 1) dX0_read_170 rfl ?_
    refine z_goto 175 dX0_read_171 (by decide) ?_
    refine z_lret dX0_read_175 rfl (Nat.le_refl _) (Nat.le_refl _) (z_rl_i ?_ ?_)
    · rw [em, ek]; show _ = (z_I h b (z_c i)).toInt64; first | (rw [c167]; rfl) | (rw [(k9 rfl _ hix.2).resolve_left c167]; rfl)
    · rfl
theorem c_X0_read {Γ : z_W} {h : z_H} {t i : Int32} (hF : z_F h) (hTP : z_TP h) : z_C Γ M_X0_read (z_rm 4 0 0) [.ref 16, .int t, .int i] h (z_rl (m_X6_read h (z_L h 83) t i) h) := by
  refine z_C.of (by decide +kernel) rfl [some (.ref 16), some (.int t), some (.int i), none, none, none] (Nat.le_of_ble_eq_true rfl) rfl ?_
  refine z_iload_n dX0_read_0 rfl rfl ?_
  refine z_scall sl_X0_320 (c_X0_isTape) dX0_read_1 rfl rfl ⟨by decide, by decide⟩ (Nat.le_of_ble_eq_true rfl) (Nat.le_refl _) (Nat.le_refl _) (z_cI ?_) z_tI
  refine z_bif_eq 38 dX0_read_4 (by decide) (fun c4 => ?_) (fun c4 => ?_)
  · refine z_ldc2 dX0_read_38 q1162 ?_
    refine z_lret dX0_read_41 rfl (Nat.le_refl _) (Nat.le_refl _) (z_rl_i ?_ ?_)
    · unfold m_X6_read; rw [if_neg c4]
    · rfl
  · have ht := z_ixb (l := t) 5 (by decide) c4
    rcases hTP.1 (z_c t) (by have := ht.2; omega) with ⟨e1, e2, e3⟩ | ⟨s, n, b, k1, k2, k3, k4, k5, k6, k7, k9, k8⟩
    · skip
      refine z_aload_n dX0_read_7 rfl rfl ?_
      refine z_getR 33 dX0_read_8 fl_X0_84_0 (hF.1 16 _ rfl) rfl (hF.2.1 16 21 33 rfl) ?_
      refine z_iload_n dX0_read_11 rfl rfl ?_
      refine z_aald (z_c t) (43 + z_c t) dX0_read_12 (hF.1 33 _ rfl) (by simp [z_at]) ht.1 (by have := ht.2; omega) (by decide) (z_t33 hF _ ht.2).1 ?_
      refine z_getN dX0_read_13 fl_X0_323_5 (z_t33 hF _ ht.2).2 rfl e3 ?_
      refine z_ifnullN 38 dX0_read_16 (by decide) ?_
      refine z_ldc2 dX0_read_38 q1162 ?_
      refine z_lret dX0_read_41 rfl (Nat.le_refl _) (Nat.le_refl _) (z_rl_i ?_ ?_)
      · unfold m_X6_read; rw [if_pos c4, if_pos (show z_I h 81 (z_c t) < 0 by rw [e1]; decide)]
      · rfl
    · by_cases hi : z_in i 0 (nI n - 1)
      · have hix : i = nI (z_c i) ∧ z_c i < n := by
          have q := z_ix (z_cn_of k2 (by decide)) (by decide) hi
          rw [z_c_nI (by omega)] at q
          exact q
        have em : m_X6_read h (z_L h 83) t i = z_L h 83 (60 * z_c t + z_c i) := by
          unfold m_X6_read
          rw [if_pos c4, if_neg (show ¬ z_I h 81 (z_c t) < 0 from Int32.not_lt.mpr (z_s0 k1 k3)), if_pos (show z_in i 0 (z_I h 82 (z_c t) - 1) by rw [k4]; exact hi)]
        have ek := k8 _ hix.2
        clear k8 k3 k4
        match s, k7, k9, ek with
        | 0, k7, k9, ek => exact k_X0_read_0 hF ht k2 k5 k7 k9.1 hi hix em ek
        | 1, k7, k9, ek => exact k_X0_read_1 hF ht k2 k5 k7 k9.1 hi hix em ek
        | 2, k7, k9, ek => exact k_X0_read_2 hF ht k2 k5 k7 k9.1 hi hix em ek
        | 3, k7, k9, ek => exact k_X0_read_3 hF ht k2 k5 k7 k9.1 hi hix em ek
        | 4, k7, k9, ek => exact k_X0_read_4 hF ht k2 k5 k7 k9.1 hi hix em ek
        | s + 5, _, _, _ => omega
      · skip
        refine z_aload_n dX0_read_7 rfl rfl ?_
        refine z_getR 33 dX0_read_8 fl_X0_84_0 (hF.1 16 _ rfl) rfl (hF.2.1 16 21 33 rfl) ?_
        refine z_iload_n dX0_read_11 rfl rfl ?_
        refine z_aald (z_c t) (43 + z_c t) dX0_read_12 (hF.1 33 _ rfl) (by simp [z_at]) ht.1 (by have := ht.2; omega) (by decide) (z_t33 hF _ ht.2).1 ?_
        refine z_getR b dX0_read_13 fl_X0_323_5 (z_t33 hF _ ht.2).2 rfl k5 ?_
        refine z_ifnull dX0_read_16 ?_
        refine z_iload_n dX0_read_19 rfl rfl ?_
        refine z_iconst (v := 0) dX0_read_20 rfl ?_
        refine z_aload_n dX0_read_21 rfl rfl ?_
        refine z_getR 33 dX0_read_22 fl_X0_84_0 (hF.1 16 _ rfl) rfl (hF.2.1 16 21 33 rfl) ?_
        refine z_iload_n dX0_read_25 rfl rfl ?_
        refine z_aald (z_c t) (43 + z_c t) dX0_read_26 (hF.1 33 _ rfl) (by simp [z_at]) ht.1 (by have := ht.2; omega) (by decide) (z_t33 hF _ ht.2).1 ?_
        refine z_vcall vl_X0_391_5 (c_X5_size s (z_t33 hF _ ht.2).2 k5 k7 k1) dX0_read_27 rfl rfl (z_t33 hF _ ht.2).2 ⟨by decide, by decide⟩ (Nat.le_of_ble_eq_true rfl) (Nat.le_refl _) (Nat.le_refl _) (z_cI ?_) z_tI
        refine z_iconst (v := 1) dX0_read_30 rfl ?_
        refine z_isub dX0_read_31 ?_
        refine z_scall sl_X0_5 (c_X0_in) dX0_read_32 rfl rfl ⟨by decide, by decide⟩ (Nat.le_of_ble_eq_true rfl) (Nat.le_refl _) (Nat.le_refl _) (z_cI ?_) z_tI
        refine z_bif_ne 42 dX0_read_35 (by decide) (fun q => by first | exact absurd q hi | exact absurd hi q) (fun _ => ?_)
        refine z_ldc2 dX0_read_38 q1162 ?_
        refine z_lret dX0_read_41 rfl (Nat.le_refl _) (Nat.le_refl _) (z_rl_i ?_ ?_)
        · unfold m_X6_read; rw [if_pos c4, if_neg (show ¬ z_I h 81 (z_c t) < 0 from Int32.not_lt.mpr (z_s0 k1 k3)), if_neg (show ¬ z_in i 0 (z_I h 82 (z_c t) - 1) by rw [k4]; exact hi)]
        · rfl
