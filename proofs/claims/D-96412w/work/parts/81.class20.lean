/-! THE CLASS: image, undo (printed by class20.py) -/
set_option maxRecDepth 20000
theorem c_takes_p_34_20 {Γ : z_W} {h : z_H} (hF : z_F h) : z_C Γ M_X1_takes (z_rm 1 0 0) [.ref 34, .ref 20] h (z_rv (z_sI (z_sI (z_sI (z_sI h 34 0 (z_I h 20 0)) 34 1 (z_I h 20 1)) 34 2 (z_I h 20 2)) 34 3 (z_I h 20 3))) := by
  refine z_C.of (by decide +kernel) rfl [some (.ref 34), some (.ref 20)] (Nat.le_of_ble_eq_true rfl) rfl ?_
  refine z_aload_n dX1_takes_0 rfl rfl ?_
  refine z_aload_n dX1_takes_1 rfl rfl ?_
  refine z_getI dX1_takes_2 fl_X1_18_1 (hF.1 20 _ rfl) rfl ?_
  refine z_putI dX1_takes_5 (pl_X1_18_1 rfl) (hF.1 34 _ rfl) (by decide) rfl ?_
  refine z_aload_n dX1_takes_8 rfl rfl ?_
  refine z_aload_n dX1_takes_9 rfl rfl ?_
  refine z_getI dX1_takes_10 fl_X1_9_1 (hF.1 20 _ rfl) rfl ?_
  refine z_eqi (z_I h 20 1) rfl ?_
  refine z_putI dX1_takes_13 (pl_X1_9_1 rfl) (hF.1 34 _ rfl) (by decide) rfl ?_
  refine z_aload_n dX1_takes_16 rfl rfl ?_
  refine z_aload_n dX1_takes_17 rfl rfl ?_
  refine z_getI dX1_takes_18 fl_X1_21_1 (hF.1 20 _ rfl) rfl ?_
  refine z_eqi (z_I h 20 2) rfl ?_
  refine z_putI dX1_takes_21 (pl_X1_21_1 rfl) (hF.1 34 _ rfl) (by decide) rfl ?_
  refine z_aload_n dX1_takes_24 rfl rfl ?_
  refine z_aload_n dX1_takes_25 rfl rfl ?_
  refine z_getI dX1_takes_26 fl_X1_15_1 (hF.1 20 _ rfl) rfl ?_
  refine z_eqi (z_I h 20 3) rfl ?_
  refine z_putI dX1_takes_29 (pl_X1_15_1 rfl) (hF.1 34 _ rfl) (by decide) rfl ?_
  refine z_vret dX1_takes_32 rfl (Nat.le_refl _) (Nat.le_refl _) (z_rv_i ?_)
  rfl
theorem c_takes_p_20_34 {Γ : z_W} {h : z_H} (hF : z_F h) : z_C Γ M_X1_takes (z_rm 1 0 0) [.ref 20, .ref 34] h (z_rv (z_sI (z_sI (z_sI (z_sI h 20 0 (z_I h 34 0)) 20 1 (z_I h 34 1)) 20 2 (z_I h 34 2)) 20 3 (z_I h 34 3))) := by
  refine z_C.of (by decide +kernel) rfl [some (.ref 20), some (.ref 34)] (Nat.le_of_ble_eq_true rfl) rfl ?_
  refine z_aload_n dX1_takes_0 rfl rfl ?_
  refine z_aload_n dX1_takes_1 rfl rfl ?_
  refine z_getI dX1_takes_2 fl_X1_18_1 (hF.1 34 _ rfl) rfl ?_
  refine z_putI dX1_takes_5 (pl_X1_18_1 rfl) (hF.1 20 _ rfl) (by decide) rfl ?_
  refine z_aload_n dX1_takes_8 rfl rfl ?_
  refine z_aload_n dX1_takes_9 rfl rfl ?_
  refine z_getI dX1_takes_10 fl_X1_9_1 (hF.1 34 _ rfl) rfl ?_
  refine z_eqi (z_I h 34 1) rfl ?_
  refine z_putI dX1_takes_13 (pl_X1_9_1 rfl) (hF.1 20 _ rfl) (by decide) rfl ?_
  refine z_aload_n dX1_takes_16 rfl rfl ?_
  refine z_aload_n dX1_takes_17 rfl rfl ?_
  refine z_getI dX1_takes_18 fl_X1_21_1 (hF.1 34 _ rfl) rfl ?_
  refine z_eqi (z_I h 34 2) rfl ?_
  refine z_putI dX1_takes_21 (pl_X1_21_1 rfl) (hF.1 20 _ rfl) (by decide) rfl ?_
  refine z_aload_n dX1_takes_24 rfl rfl ?_
  refine z_aload_n dX1_takes_25 rfl rfl ?_
  refine z_getI dX1_takes_26 fl_X1_15_1 (hF.1 34 _ rfl) rfl ?_
  refine z_eqi (z_I h 34 3) rfl ?_
  refine z_putI dX1_takes_29 (pl_X1_15_1 rfl) (hF.1 20 _ rfl) (by decide) rfl ?_
  refine z_vret dX1_takes_32 rfl (Nat.le_refl _) (Nat.le_refl _) (z_rv_i ?_)
  rfl
/-- what an array of lifts may hold -/
def z_LA (h : z_H) (a : Nat) : Prop := ∀ i, i < 6 → ∀ b, z_R h a i = some b → 85 ≤ b ∧ ∃ k, k ≤ 6 ∧ z_T h b = some (.inl (7 + k))
theorem z_LA.cpv {h : z_H} {a : Nat} (hA : z_LA h a) : z_cpv h (.object "SomebodysLift$Lift") a 0 6 := by
  refine Or.inr ⟨_, rfl, fun i hi b hb => ?_⟩
  rw [Nat.zero_add] at hb
  obtain ⟨-, k, hk, hT⟩ := hA i hi b hb
  match k, hk, hT with
  | 0, _, hT => exact ⟨7, _, hT, rfl, Or.inl rfl⟩
  | 1, _, hT => exact ⟨8, _, hT, rfl, Or.inr q2059⟩
  | 2, _, hT => exact ⟨9, _, hT, rfl, Or.inr q2062⟩
  | 3, _, hT => exact ⟨10, _, hT, rfl, Or.inr q2058⟩
  | 4, _, hT => exact ⟨11, _, hT, rfl, Or.inr q2057⟩
  | 5, _, hT => exact ⟨12, _, hT, rfl, Or.inr q2061⟩
  | 6, _, hT => exact ⟨13, _, hT, rfl, Or.inr q2060⟩
def m_X0_image (h : z_H) (a : Nat) : Int32 × z_H :=
  (z_I h 16 3, z_sR (z_sI (z_sI (z_sI (z_sI (z_sI (z_cp (z_cp (z_cp (z_cp (z_cp (z_cp (z_cp (z_cp (z_sI (z_sI (z_sI (z_sI h 34 0 (z_I h 20 0)) 34 1 (z_I h 20 1)) 34 2 (z_I h 20 2)) 34 3 (z_I h 20 3)) 17 35 0 0 6) 18 36 0 0 6) 19 37 0 0 24) 28 38 0 0 4) 29 39 0 0 4) 30 40 0 0 5) 31 41 0 0 8) 32 42 0 0 8) 16 34 (z_I h 16 3)) 16 35 (z_I h 16 6)) 16 36 (z_I h 16 18)) 16 37 (z_I h 16 19)) 16 38 (z_I h 16 20)) 16 39 (some a))
theorem c_X0_image {Γ : z_W} {h : z_H} {a : Nat} (hF : z_F h) (hL : z_LA h 17) (hA : z_R h 16 10 = some a) : z_C Γ M_X0_image (z_rm 3 0 0) [.ref 16] h (z_ri (m_X0_image h a).1 (m_X0_image h a).2) := by
  refine z_C.of (by decide +kernel) rfl [some (.ref 16)] (Nat.le_of_ble_eq_true rfl) rfl ?_
  refine z_aload_n dX0_image_0 rfl rfl ?_
  refine z_getR 34 dX0_image_1 fl_X0_88_0 (hF.1 16 _ rfl) rfl (hF.2.1 16 25 34 rfl) ?_
  refine z_aload_n dX0_image_4 rfl rfl ?_
  refine z_getR 20 dX0_image_5 fl_X0_31_0 (hF.1 16 _ rfl) rfl (hF.2.1 16 4 20 rfl) ?_
  refine z_vcall vl_X0_242_1 (c_takes_p_34_20 hF) dX0_image_8 rfl rfl (hF.1 34 _ rfl) ⟨by decide, by decide⟩ (Nat.le_of_ble_eq_true rfl) (Nat.le_refl _) (Nat.le_refl _) (z_cV ?_) z_tV
  refine z_aload_n dX0_image_11 rfl rfl ?_
  refine z_getR 17 dX0_image_12 fl_X0_17_0 (hF.1 16 _ rfl) rfl (hF.2.1 16 0 17 rfl) ?_
  refine z_iconst (v := 0) dX0_image_15 rfl ?_
  refine z_aload_n dX0_image_16 rfl rfl ?_
  refine z_getR 35 dX0_image_17 fl_X0_91_0 (hF.1 16 _ rfl) rfl (hF.2.1 16 26 35 rfl) ?_
  refine z_iconst (v := 0) dX0_image_20 rfl ?_
  refine z_bipush (v := 6) dX0_image_21 rfl ?_
  refine z_acopy (ty := (.object "SomebodysLift$Lift")) (sp := 0) (dp := 0) (n := 6) dX0_image_23 q1245 (hF.1 17 _ rfl) (hF.1 35 _ rfl) (by simp [z_at]) (by decide) rfl rfl rfl (by decide) (by decide) ⟨by decide, by decide⟩ hL.cpv (Nat.le_of_ble_eq_true rfl) ?_
  refine z_aload_n dX0_image_26 rfl rfl ?_
  refine z_getR 18 dX0_image_27 fl_X0_21_0 (hF.1 16 _ rfl) rfl (hF.2.1 16 1 18 rfl) ?_
  refine z_iconst (v := 0) dX0_image_30 rfl ?_
  refine z_aload_n dX0_image_31 rfl rfl ?_
  refine z_getR 36 dX0_image_32 fl_X0_94_0 (hF.1 16 _ rfl) rfl (hF.2.1 16 27 36 rfl) ?_
  refine z_iconst (v := 0) dX0_image_35 rfl ?_
  refine z_bipush (v := 6) dX0_image_36 rfl ?_
  refine z_acopy (ty := .int) (sp := 0) (dp := 0) (n := 6) dX0_image_38 q1245 (hF.1 18 _ rfl) (hF.1 36 _ rfl) (by simp [z_at]) (by decide) rfl rfl rfl (by decide) (by decide) ⟨by decide, by decide⟩ (Or.inl ⟨rfl, fun _ _ => Or.inr ⟨rfl, rfl⟩⟩) (Nat.le_of_ble_eq_true rfl) ?_
  refine z_aload_n dX0_image_41 rfl rfl ?_
  refine z_getR 19 dX0_image_42 fl_X0_25_0 (hF.1 16 _ rfl) rfl (hF.2.1 16 2 19 rfl) ?_
  refine z_iconst (v := 0) dX0_image_45 rfl ?_
  refine z_aload_n dX0_image_46 rfl rfl ?_
  refine z_getR 37 dX0_image_47 fl_X0_97_0 (hF.1 16 _ rfl) rfl (hF.2.1 16 28 37 rfl) ?_
  refine z_iconst (v := 0) dX0_image_50 rfl ?_
  refine z_bipush (v := 24) dX0_image_51 rfl ?_
  refine z_acopy (ty := .int) (sp := 0) (dp := 0) (n := 24) dX0_image_53 q1245 (hF.1 19 _ rfl) (hF.1 37 _ rfl) (by simp [z_at]) (by decide) rfl rfl rfl (by decide) (by decide) ⟨by decide, by decide⟩ (Or.inl ⟨rfl, fun _ _ => Or.inr ⟨rfl, rfl⟩⟩) (Nat.le_of_ble_eq_true rfl) ?_
  refine z_aload_n dX0_image_56 rfl rfl ?_
  refine z_getR 28 dX0_image_57 fl_X0_67_0 (hF.1 16 _ rfl) rfl (hF.2.1 16 13 28 rfl) ?_
  refine z_iconst (v := 0) dX0_image_60 rfl ?_
  refine z_aload_n dX0_image_61 rfl rfl ?_
  refine z_getR 38 dX0_image_62 fl_X0_100_0 (hF.1 16 _ rfl) rfl (hF.2.1 16 29 38 rfl) ?_
  refine z_iconst (v := 0) dX0_image_65 rfl ?_
  refine z_iconst (v := 4) dX0_image_66 rfl ?_
  refine z_acopy (ty := .int) (sp := 0) (dp := 0) (n := 4) dX0_image_67 q1245 (hF.1 28 _ rfl) (hF.1 38 _ rfl) (by simp [z_at]) (by decide) rfl rfl rfl (by decide) (by decide) ⟨by decide, by decide⟩ (Or.inl ⟨rfl, fun _ _ => Or.inr ⟨rfl, rfl⟩⟩) (Nat.le_of_ble_eq_true rfl) ?_
  refine z_aload_n dX0_image_70 rfl rfl ?_
  refine z_getR 29 dX0_image_71 fl_X0_70_0 (hF.1 16 _ rfl) rfl (hF.2.1 16 14 29 rfl) ?_
  refine z_iconst (v := 0) dX0_image_74 rfl ?_
  refine z_aload_n dX0_image_75 rfl rfl ?_
  refine z_getR 39 dX0_image_76 fl_X0_103_0 (hF.1 16 _ rfl) rfl (hF.2.1 16 30 39 rfl) ?_
  refine z_iconst (v := 0) dX0_image_79 rfl ?_
  refine z_iconst (v := 4) dX0_image_80 rfl ?_
  refine z_acopy (ty := .int) (sp := 0) (dp := 0) (n := 4) dX0_image_81 q1245 (hF.1 29 _ rfl) (hF.1 39 _ rfl) (by simp [z_at]) (by decide) rfl rfl rfl (by decide) (by decide) ⟨by decide, by decide⟩ (Or.inl ⟨rfl, fun _ _ => Or.inr ⟨rfl, rfl⟩⟩) (Nat.le_of_ble_eq_true rfl) ?_
  refine z_aload_n dX0_image_84 rfl rfl ?_
  refine z_getR 30 dX0_image_85 fl_X0_73_0 (hF.1 16 _ rfl) rfl (hF.2.1 16 15 30 rfl) ?_
  refine z_iconst (v := 0) dX0_image_88 rfl ?_
  refine z_aload_n dX0_image_89 rfl rfl ?_
  refine z_getR 40 dX0_image_90 fl_X0_106_0 (hF.1 16 _ rfl) rfl (hF.2.1 16 31 40 rfl) ?_
  refine z_iconst (v := 0) dX0_image_93 rfl ?_
  refine z_iconst (v := 5) dX0_image_94 rfl ?_
  refine z_acopy (ty := .int) (sp := 0) (dp := 0) (n := 5) dX0_image_95 q1245 (hF.1 30 _ rfl) (hF.1 40 _ rfl) (by simp [z_at]) (by decide) rfl rfl rfl (by decide) (by decide) ⟨by decide, by decide⟩ (Or.inl ⟨rfl, fun _ _ => Or.inr ⟨rfl, rfl⟩⟩) (Nat.le_of_ble_eq_true rfl) ?_
  refine z_aload_n dX0_image_98 rfl rfl ?_
  refine z_getR 31 dX0_image_99 fl_X0_76_0 (hF.1 16 _ rfl) rfl (hF.2.1 16 16 31 rfl) ?_
  refine z_iconst (v := 0) dX0_image_102 rfl ?_
  refine z_aload_n dX0_image_103 rfl rfl ?_
  refine z_getR 41 dX0_image_104 fl_X0_109_0 (hF.1 16 _ rfl) rfl (hF.2.1 16 32 41 rfl) ?_
  refine z_iconst (v := 0) dX0_image_107 rfl ?_
  refine z_bipush (v := 8) dX0_image_108 rfl ?_
  refine z_acopy (ty := .int) (sp := 0) (dp := 0) (n := 8) dX0_image_110 q1245 (hF.1 31 _ rfl) (hF.1 41 _ rfl) (by simp [z_at]) (by decide) rfl rfl rfl (by decide) (by decide) ⟨by decide, by decide⟩ (Or.inl ⟨rfl, fun _ _ => Or.inr ⟨rfl, rfl⟩⟩) (Nat.le_of_ble_eq_true rfl) ?_
  refine z_aload_n dX0_image_113 rfl rfl ?_
  refine z_getR 32 dX0_image_114 fl_X0_79_0 (hF.1 16 _ rfl) rfl (hF.2.1 16 17 32 rfl) ?_
  refine z_iconst (v := 0) dX0_image_117 rfl ?_
  refine z_aload_n dX0_image_118 rfl rfl ?_
  refine z_getR 42 dX0_image_119 fl_X0_112_0 (hF.1 16 _ rfl) rfl (hF.2.1 16 33 42 rfl) ?_
  refine z_iconst (v := 0) dX0_image_122 rfl ?_
  refine z_bipush (v := 8) dX0_image_123 rfl ?_
  refine z_acopy (ty := .int) (sp := 0) (dp := 0) (n := 8) dX0_image_125 q1245 (hF.1 32 _ rfl) (hF.1 42 _ rfl) (by simp [z_at]) (by decide) rfl rfl rfl (by decide) (by decide) ⟨by decide, by decide⟩ (Or.inl ⟨rfl, fun _ _ => Or.inr ⟨rfl, rfl⟩⟩) (Nat.le_of_ble_eq_true rfl) ?_
  refine z_aload_n dX0_image_128 rfl rfl ?_
  refine z_aload_n dX0_image_129 rfl rfl ?_
  refine z_getI dX0_image_130 fl_X0_116_0 (hF.1 16 _ rfl) rfl ?_
  refine z_eqi (z_I h 16 3) rfl ?_
  refine z_putI dX0_image_133 (pl_X0_340_0 rfl) (hF.1 16 _ rfl) (by decide) rfl ?_
  refine z_aload_n dX0_image_136 rfl rfl ?_
  refine z_aload_n dX0_image_137 rfl rfl ?_
  refine z_getI dX0_image_138 fl_X0_38_0 (hF.1 16 _ rfl) rfl ?_
  refine z_eqi (z_I h 16 6) rfl ?_
  refine z_putI dX0_image_141 (pl_X0_343_0 rfl) (hF.1 16 _ rfl) (by decide) rfl ?_
  refine z_aload_n dX0_image_144 rfl rfl ?_
  refine z_aload_n dX0_image_145 rfl rfl ?_
  refine z_getI dX0_image_146 fl_X0_287_0 (hF.1 16 _ rfl) rfl ?_
  refine z_eqi (z_I h 16 18) rfl ?_
  refine z_putI dX0_image_149 (pl_X0_346_0 rfl) (hF.1 16 _ rfl) (by decide) rfl ?_
  refine z_aload_n dX0_image_152 rfl rfl ?_
  refine z_aload_n dX0_image_153 rfl rfl ?_
  refine z_getI dX0_image_154 fl_X0_293_0 (hF.1 16 _ rfl) rfl ?_
  refine z_eqi (z_I h 16 19) rfl ?_
  refine z_putI dX0_image_157 (pl_X0_349_0 rfl) (hF.1 16 _ rfl) (by decide) rfl ?_
  refine z_aload_n dX0_image_160 rfl rfl ?_
  refine z_aload_n dX0_image_161 rfl rfl ?_
  refine z_getI dX0_image_162 fl_X0_312_0 (hF.1 16 _ rfl) rfl ?_
  refine z_eqi (z_I h 16 20) rfl ?_
  refine z_putI dX0_image_165 (pl_X0_352_0 rfl) (hF.1 16 _ rfl) (by decide) rfl ?_
  refine z_aload_n dX0_image_168 rfl rfl ?_
  refine z_aload_n dX0_image_169 rfl rfl ?_
  refine z_getR a dX0_image_170 fl_X0_49_0 (hF.1 16 _ rfl) rfl hA ?_
  refine z_putR dX0_image_173 (pl_X0_355_0 rfl) (hF.1 16 _ rfl) (by decide) rfl ?_
  refine z_aload_n dX0_image_176 rfl rfl ?_
  refine z_getI dX0_image_177 fl_X0_116_0 (hF.1 16 _ rfl) rfl ?_
  refine z_eqi (z_I h 16 3) rfl ?_
  refine z_iret dX0_image_180 rfl rfl (Nat.le_refl _) (Nat.le_refl _) (z_ri_i ?_ ?_)
  · first | rfl | (unfold m_X0_image; first | done | rfl)
  · first | rfl | (unfold m_X0_image; first | done | rfl)
theorem c_X0_undo_n {Γ : z_W} {h : z_H} (hF : z_F h) (hN : z_R h 16 39 = none) : z_C Γ M_X0_undo (z_rm 3 0 0) [.ref 16] h (z_ri (-3) h) := by
  refine z_C.of (by decide +kernel) rfl [some (.ref 16)] (Nat.le_of_ble_eq_true rfl) rfl ?_
  refine z_aload_n dX0_undo_0 rfl rfl ?_
  refine z_getN dX0_undo_1 fl_X0_355_0 (hF.1 16 _ rfl) rfl hN ?_
  refine z_ifnonnullN dX0_undo_4 ?_
  refine z_bipush (v := (-3)) dX0_undo_7 rfl ?_
  refine z_iret dX0_undo_9 rfl rfl (Nat.le_refl _) (Nat.le_refl _) (z_ri_i ?_ ?_)
  · rfl
  · rfl
def m_X0_undo (h : z_H) (a : Nat) : Int32 × z_H :=
  (z_I h 16 34, z_sR (z_sI (z_sI (z_sI (z_sI (z_sI (z_cp (z_cp (z_cp (z_cp (z_cp (z_cp (z_cp (z_cp (z_sI (z_sI (z_sI (z_sI h 20 0 (z_I h 34 0)) 20 1 (z_I h 34 1)) 20 2 (z_I h 34 2)) 20 3 (z_I h 34 3)) 35 17 0 0 6) 36 18 0 0 6) 37 19 0 0 24) 38 28 0 0 4) 39 29 0 0 4) 40 30 0 0 5) 41 31 0 0 8) 42 32 0 0 8) 16 3 (z_I h 16 34)) 16 6 (z_I h 16 35)) 16 18 (z_I h 16 36)) 16 19 (z_I h 16 37)) 16 20 (z_I h 16 38)) 16 10 (some a))
theorem c_X0_undo_y {Γ : z_W} {h : z_H} {a : Nat} (hF : z_F h) (hL : z_LA h 35) (hA : z_R h 16 39 = some a) : z_C Γ M_X0_undo (z_rm 3 0 0) [.ref 16] h (z_ri (m_X0_undo h a).1 (m_X0_undo h a).2) := by
  refine z_C.of (by decide +kernel) rfl [some (.ref 16)] (Nat.le_of_ble_eq_true rfl) rfl ?_
  refine z_aload_n dX0_undo_0 rfl rfl ?_
  refine z_getR a dX0_undo_1 fl_X0_355_0 (hF.1 16 _ rfl) rfl hA ?_
  refine z_ifnonnull 10 dX0_undo_4 (by decide) ?_
  refine z_aload_n dX0_undo_10 rfl rfl ?_
  refine z_getR 20 dX0_undo_11 fl_X0_31_0 (hF.1 16 _ rfl) rfl (hF.2.1 16 4 20 rfl) ?_
  refine z_aload_n dX0_undo_14 rfl rfl ?_
  refine z_getR 34 dX0_undo_15 fl_X0_88_0 (hF.1 16 _ rfl) rfl (hF.2.1 16 25 34 rfl) ?_
  refine z_vcall vl_X0_242_1 (c_takes_p_20_34 hF) dX0_undo_18 rfl rfl (hF.1 20 _ rfl) ⟨by decide, by decide⟩ (Nat.le_of_ble_eq_true rfl) (Nat.le_refl _) (Nat.le_refl _) (z_cV ?_) z_tV
  refine z_aload_n dX0_undo_21 rfl rfl ?_
  refine z_getR 35 dX0_undo_22 fl_X0_91_0 (hF.1 16 _ rfl) rfl (hF.2.1 16 26 35 rfl) ?_
  refine z_iconst (v := 0) dX0_undo_25 rfl ?_
  refine z_aload_n dX0_undo_26 rfl rfl ?_
  refine z_getR 17 dX0_undo_27 fl_X0_17_0 (hF.1 16 _ rfl) rfl (hF.2.1 16 0 17 rfl) ?_
  refine z_iconst (v := 0) dX0_undo_30 rfl ?_
  refine z_bipush (v := 6) dX0_undo_31 rfl ?_
  refine z_acopy (ty := (.object "SomebodysLift$Lift")) (sp := 0) (dp := 0) (n := 6) dX0_undo_33 q1245 (hF.1 35 _ rfl) (hF.1 17 _ rfl) (by simp [z_at]) (by decide) rfl rfl rfl (by decide) (by decide) ⟨by decide, by decide⟩ hL.cpv (Nat.le_of_ble_eq_true rfl) ?_
  refine z_aload_n dX0_undo_36 rfl rfl ?_
  refine z_getR 36 dX0_undo_37 fl_X0_94_0 (hF.1 16 _ rfl) rfl (hF.2.1 16 27 36 rfl) ?_
  refine z_iconst (v := 0) dX0_undo_40 rfl ?_
  refine z_aload_n dX0_undo_41 rfl rfl ?_
  refine z_getR 18 dX0_undo_42 fl_X0_21_0 (hF.1 16 _ rfl) rfl (hF.2.1 16 1 18 rfl) ?_
  refine z_iconst (v := 0) dX0_undo_45 rfl ?_
  refine z_bipush (v := 6) dX0_undo_46 rfl ?_
  refine z_acopy (ty := .int) (sp := 0) (dp := 0) (n := 6) dX0_undo_48 q1245 (hF.1 36 _ rfl) (hF.1 18 _ rfl) (by simp [z_at]) (by decide) rfl rfl rfl (by decide) (by decide) ⟨by decide, by decide⟩ (Or.inl ⟨rfl, fun _ _ => Or.inr ⟨rfl, rfl⟩⟩) (Nat.le_of_ble_eq_true rfl) ?_
  refine z_aload_n dX0_undo_51 rfl rfl ?_
  refine z_getR 37 dX0_undo_52 fl_X0_97_0 (hF.1 16 _ rfl) rfl (hF.2.1 16 28 37 rfl) ?_
  refine z_iconst (v := 0) dX0_undo_55 rfl ?_
  refine z_aload_n dX0_undo_56 rfl rfl ?_
  refine z_getR 19 dX0_undo_57 fl_X0_25_0 (hF.1 16 _ rfl) rfl (hF.2.1 16 2 19 rfl) ?_
  refine z_iconst (v := 0) dX0_undo_60 rfl ?_
  refine z_bipush (v := 24) dX0_undo_61 rfl ?_
  refine z_acopy (ty := .int) (sp := 0) (dp := 0) (n := 24) dX0_undo_63 q1245 (hF.1 37 _ rfl) (hF.1 19 _ rfl) (by simp [z_at]) (by decide) rfl rfl rfl (by decide) (by decide) ⟨by decide, by decide⟩ (Or.inl ⟨rfl, fun _ _ => Or.inr ⟨rfl, rfl⟩⟩) (Nat.le_of_ble_eq_true rfl) ?_
  refine z_aload_n dX0_undo_66 rfl rfl ?_
  refine z_getR 38 dX0_undo_67 fl_X0_100_0 (hF.1 16 _ rfl) rfl (hF.2.1 16 29 38 rfl) ?_
  refine z_iconst (v := 0) dX0_undo_70 rfl ?_
  refine z_aload_n dX0_undo_71 rfl rfl ?_
  refine z_getR 28 dX0_undo_72 fl_X0_67_0 (hF.1 16 _ rfl) rfl (hF.2.1 16 13 28 rfl) ?_
  refine z_iconst (v := 0) dX0_undo_75 rfl ?_
  refine z_iconst (v := 4) dX0_undo_76 rfl ?_
  refine z_acopy (ty := .int) (sp := 0) (dp := 0) (n := 4) dX0_undo_77 q1245 (hF.1 38 _ rfl) (hF.1 28 _ rfl) (by simp [z_at]) (by decide) rfl rfl rfl (by decide) (by decide) ⟨by decide, by decide⟩ (Or.inl ⟨rfl, fun _ _ => Or.inr ⟨rfl, rfl⟩⟩) (Nat.le_of_ble_eq_true rfl) ?_
  refine z_aload_n dX0_undo_80 rfl rfl ?_
  refine z_getR 39 dX0_undo_81 fl_X0_103_0 (hF.1 16 _ rfl) rfl (hF.2.1 16 30 39 rfl) ?_
  refine z_iconst (v := 0) dX0_undo_84 rfl ?_
  refine z_aload_n dX0_undo_85 rfl rfl ?_
  refine z_getR 29 dX0_undo_86 fl_X0_70_0 (hF.1 16 _ rfl) rfl (hF.2.1 16 14 29 rfl) ?_
  refine z_iconst (v := 0) dX0_undo_89 rfl ?_
  refine z_iconst (v := 4) dX0_undo_90 rfl ?_
  refine z_acopy (ty := .int) (sp := 0) (dp := 0) (n := 4) dX0_undo_91 q1245 (hF.1 39 _ rfl) (hF.1 29 _ rfl) (by simp [z_at]) (by decide) rfl rfl rfl (by decide) (by decide) ⟨by decide, by decide⟩ (Or.inl ⟨rfl, fun _ _ => Or.inr ⟨rfl, rfl⟩⟩) (Nat.le_of_ble_eq_true rfl) ?_
  refine z_aload_n dX0_undo_94 rfl rfl ?_
  refine z_getR 40 dX0_undo_95 fl_X0_106_0 (hF.1 16 _ rfl) rfl (hF.2.1 16 31 40 rfl) ?_
  refine z_iconst (v := 0) dX0_undo_98 rfl ?_
  refine z_aload_n dX0_undo_99 rfl rfl ?_
  refine z_getR 30 dX0_undo_100 fl_X0_73_0 (hF.1 16 _ rfl) rfl (hF.2.1 16 15 30 rfl) ?_
  refine z_iconst (v := 0) dX0_undo_103 rfl ?_
  refine z_iconst (v := 5) dX0_undo_104 rfl ?_
  refine z_acopy (ty := .int) (sp := 0) (dp := 0) (n := 5) dX0_undo_105 q1245 (hF.1 40 _ rfl) (hF.1 30 _ rfl) (by simp [z_at]) (by decide) rfl rfl rfl (by decide) (by decide) ⟨by decide, by decide⟩ (Or.inl ⟨rfl, fun _ _ => Or.inr ⟨rfl, rfl⟩⟩) (Nat.le_of_ble_eq_true rfl) ?_
  refine z_aload_n dX0_undo_108 rfl rfl ?_
  refine z_getR 41 dX0_undo_109 fl_X0_109_0 (hF.1 16 _ rfl) rfl (hF.2.1 16 32 41 rfl) ?_
  refine z_iconst (v := 0) dX0_undo_112 rfl ?_
  refine z_aload_n dX0_undo_113 rfl rfl ?_
  refine z_getR 31 dX0_undo_114 fl_X0_76_0 (hF.1 16 _ rfl) rfl (hF.2.1 16 16 31 rfl) ?_
  refine z_iconst (v := 0) dX0_undo_117 rfl ?_
  refine z_bipush (v := 8) dX0_undo_118 rfl ?_
  refine z_acopy (ty := .int) (sp := 0) (dp := 0) (n := 8) dX0_undo_120 q1245 (hF.1 41 _ rfl) (hF.1 31 _ rfl) (by simp [z_at]) (by decide) rfl rfl rfl (by decide) (by decide) ⟨by decide, by decide⟩ (Or.inl ⟨rfl, fun _ _ => Or.inr ⟨rfl, rfl⟩⟩) (Nat.le_of_ble_eq_true rfl) ?_
  refine z_aload_n dX0_undo_123 rfl rfl ?_
  refine z_getR 42 dX0_undo_124 fl_X0_112_0 (hF.1 16 _ rfl) rfl (hF.2.1 16 33 42 rfl) ?_
  refine z_iconst (v := 0) dX0_undo_127 rfl ?_
  refine z_aload_n dX0_undo_128 rfl rfl ?_
  refine z_getR 32 dX0_undo_129 fl_X0_79_0 (hF.1 16 _ rfl) rfl (hF.2.1 16 17 32 rfl) ?_
  refine z_iconst (v := 0) dX0_undo_132 rfl ?_
  refine z_bipush (v := 8) dX0_undo_133 rfl ?_
  refine z_acopy (ty := .int) (sp := 0) (dp := 0) (n := 8) dX0_undo_135 q1245 (hF.1 42 _ rfl) (hF.1 32 _ rfl) (by simp [z_at]) (by decide) rfl rfl rfl (by decide) (by decide) ⟨by decide, by decide⟩ (Or.inl ⟨rfl, fun _ _ => Or.inr ⟨rfl, rfl⟩⟩) (Nat.le_of_ble_eq_true rfl) ?_
  refine z_aload_n dX0_undo_138 rfl rfl ?_
  refine z_aload_n dX0_undo_139 rfl rfl ?_
  refine z_getI dX0_undo_140 fl_X0_340_0 (hF.1 16 _ rfl) rfl ?_
  refine z_eqi (z_I h 16 34) rfl ?_
  refine z_putI dX0_undo_143 (pl_X0_116_0 rfl) (hF.1 16 _ rfl) (by decide) rfl ?_
  refine z_aload_n dX0_undo_146 rfl rfl ?_
  refine z_aload_n dX0_undo_147 rfl rfl ?_
  refine z_getI dX0_undo_148 fl_X0_343_0 (hF.1 16 _ rfl) rfl ?_
  refine z_eqi (z_I h 16 35) rfl ?_
  refine z_putI dX0_undo_151 (pl_X0_38_0 rfl) (hF.1 16 _ rfl) (by decide) rfl ?_
  refine z_aload_n dX0_undo_154 rfl rfl ?_
  refine z_aload_n dX0_undo_155 rfl rfl ?_
  refine z_getI dX0_undo_156 fl_X0_346_0 (hF.1 16 _ rfl) rfl ?_
  refine z_eqi (z_I h 16 36) rfl ?_
  refine z_putI dX0_undo_159 (pl_X0_287_0 rfl) (hF.1 16 _ rfl) (by decide) rfl ?_
  refine z_aload_n dX0_undo_162 rfl rfl ?_
  refine z_aload_n dX0_undo_163 rfl rfl ?_
  refine z_getI dX0_undo_164 fl_X0_349_0 (hF.1 16 _ rfl) rfl ?_
  refine z_eqi (z_I h 16 37) rfl ?_
  refine z_putI dX0_undo_167 (pl_X0_293_0 rfl) (hF.1 16 _ rfl) (by decide) rfl ?_
  refine z_aload_n dX0_undo_170 rfl rfl ?_
  refine z_aload_n dX0_undo_171 rfl rfl ?_
  refine z_getI dX0_undo_172 fl_X0_352_0 (hF.1 16 _ rfl) rfl ?_
  refine z_eqi (z_I h 16 38) rfl ?_
  refine z_putI dX0_undo_175 (pl_X0_312_0 rfl) (hF.1 16 _ rfl) (by decide) rfl ?_
  refine z_aload_n dX0_undo_178 rfl rfl ?_
  refine z_aload_n dX0_undo_179 rfl rfl ?_
  refine z_getR a dX0_undo_180 fl_X0_355_0 (hF.1 16 _ rfl) rfl hA ?_
  refine z_putR dX0_undo_183 (pl_X0_49_0 rfl) (hF.1 16 _ rfl) (by decide) rfl ?_
  refine z_aload_n dX0_undo_186 rfl rfl ?_
  refine z_getI dX0_undo_187 fl_X0_116_0 (hF.1 16 _ rfl) rfl ?_
  refine z_eqi (z_I h 16 34) rfl ?_
  refine z_iret dX0_undo_190 rfl rfl (Nat.le_refl _) (Nat.le_refl _) (z_ri_i ?_ ?_)
  · first | rfl | (unfold m_X0_undo; first | done | rfl)
  · first | rfl | (unfold m_X0_undo; first | done | rfl)
