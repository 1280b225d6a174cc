/-! THE CLASS: size, has, rowOf, tape, item, read (printed by class26.py) -/
set_option maxRecDepth 20000
theorem c_X5_size_0 {Γ : z_W} {h : z_H} {o b n : Nat} (ho : z_T h o = some (.inl 5)) (hr : z_R h o 0 = some b) (hb : z_T h b = some (.inr (.byte, n))) : z_C Γ M_X5_size (z_rm 1 0 0) [.ref o] h (z_ri (nI n) h) := by
  refine z_C.of (by decide +kernel) rfl [some (.ref o), none, none] (Nat.le_of_ble_eq_true rfl) rfl ?_
  refine z_aload_n dX5_size_0 rfl rfl ?_
  refine z_getR b dX5_size_1 fl_X5_9_5 ho rfl hr ?_
  refine z_astore_n dX5_size_4 rfl (by decide) rfl ?_
  refine z_aload_n dX5_size_5 rfl rfl ?_
  refine z_instY q1386 (z_rcB hb) dX5_size_6 ?_
  refine z_if_eq 20 dX5_size_9 (by decide) (fun q => absurd q (by decide)) (fun _ => ?_)
  refine z_aload_n dX5_size_12 rfl rfl ?_
  refine z_castE q1386 (z_rcB hb) dX5_size_13 ?_
  refine z_astore_n dX5_size_16 rfl (by decide) rfl ?_
  refine z_aload_n dX5_size_17 rfl rfl ?_
  refine z_alen dX5_size_18 hb (by simp [z_at]) ?_
  refine z_iret dX5_size_19 rfl rfl (Nat.le_refl _) (Nat.le_refl _) (z_ri_i ?_ ?_)
  · rfl
  · rfl
theorem c_X5_size_1 {Γ : z_W} {h : z_H} {o b n : Nat} (ho : z_T h o = some (.inl 5)) (hr : z_R h o 0 = some b) (hb : z_T h b = some (.inr (.short, n))) : z_C Γ M_X5_size (z_rm 1 0 0) [.ref o] h (z_ri (nI n) h) := by
  refine z_C.of (by decide +kernel) rfl [some (.ref o), none, none] (Nat.le_of_ble_eq_true rfl) rfl ?_
  refine z_aload_n dX5_size_0 rfl rfl ?_
  refine z_getR b dX5_size_1 fl_X5_9_5 ho rfl hr ?_
  refine z_astore_n dX5_size_4 rfl (by decide) rfl ?_
  refine z_aload_n dX5_size_5 rfl rfl ?_
  refine z_instF q1386 nca_SB (z_rcS hb) dX5_size_6 ?_
  refine z_if_eq 20 dX5_size_9 (by decide) (fun _ => ?_) (fun q => absurd q (by decide))
  refine z_aload_n dX5_size_20 rfl rfl ?_
  refine z_getR b dX5_size_21 fl_X5_9_5 ho rfl hr ?_
  refine z_astore_n dX5_size_24 rfl (by decide) rfl ?_
  refine z_aload_n dX5_size_25 rfl rfl ?_
  refine z_instY q1387 (z_rcS hb) dX5_size_26 ?_
  refine z_if_eq 40 dX5_size_29 (by decide) (fun q => absurd q (by decide)) (fun _ => ?_)
  refine z_aload_n dX5_size_32 rfl rfl ?_
  refine z_castE q1387 (z_rcS hb) dX5_size_33 ?_
  refine z_astore_n dX5_size_36 rfl (by decide) rfl ?_
  refine z_aload_n dX5_size_37 rfl rfl ?_
  refine z_alen dX5_size_38 hb (by simp [z_at]) ?_
  refine z_iret dX5_size_39 rfl rfl (Nat.le_refl _) (Nat.le_refl _) (z_ri_i ?_ ?_)
  · rfl
  · rfl
theorem c_X5_size_2 {Γ : z_W} {h : z_H} {o b n : Nat} (ho : z_T h o = some (.inl 5)) (hr : z_R h o 0 = some b) (hb : z_T h b = some (.inr (.int, n))) : z_C Γ M_X5_size (z_rm 1 0 0) [.ref o] h (z_ri (nI n) h) := by
  refine z_C.of (by decide +kernel) rfl [some (.ref o), none, none] (Nat.le_of_ble_eq_true rfl) rfl ?_
  refine z_aload_n dX5_size_0 rfl rfl ?_
  refine z_getR b dX5_size_1 fl_X5_9_5 ho rfl hr ?_
  refine z_astore_n dX5_size_4 rfl (by decide) rfl ?_
  refine z_aload_n dX5_size_5 rfl rfl ?_
  refine z_instF q1386 nca_IB (z_rcI hb) dX5_size_6 ?_
  refine z_if_eq 20 dX5_size_9 (by decide) (fun _ => ?_) (fun q => absurd q (by decide))
  refine z_aload_n dX5_size_20 rfl rfl ?_
  refine z_getR b dX5_size_21 fl_X5_9_5 ho rfl hr ?_
  refine z_astore_n dX5_size_24 rfl (by decide) rfl ?_
  refine z_aload_n dX5_size_25 rfl rfl ?_
  refine z_instF q1387 nca_IS (z_rcI hb) dX5_size_26 ?_
  refine z_if_eq 40 dX5_size_29 (by decide) (fun _ => ?_) (fun q => absurd q (by decide))
  refine z_aload_n dX5_size_40 rfl rfl ?_
  refine z_getR b dX5_size_41 fl_X5_9_5 ho rfl hr ?_
  refine z_astore_n dX5_size_44 rfl (by decide) rfl ?_
  refine z_aload_n dX5_size_45 rfl rfl ?_
  refine z_instY q1388 (z_rcI hb) dX5_size_46 ?_
  refine z_if_eq 60 dX5_size_49 (by decide) (fun q => absurd q (by decide)) (fun _ => ?_)
  refine z_aload_n dX5_size_52 rfl rfl ?_
  refine z_castE q1388 (z_rcI hb) dX5_size_53 ?_
  refine z_astore_n dX5_size_56 rfl (by decide) rfl ?_
  refine z_aload_n dX5_size_57 rfl rfl ?_
  refine z_alen dX5_size_58 hb (by simp [z_at]) ?_
  refine z_iret dX5_size_59 rfl rfl (Nat.le_refl _) (Nat.le_refl _) (z_ri_i ?_ ?_)
  · rfl
  · rfl
theorem c_X5_size_3 {Γ : z_W} {h : z_H} {o b n : Nat} (ho : z_T h o = some (.inl 5)) (hr : z_R h o 0 = some b) (hb : z_T h b = some (.inr (.long, n))) : z_C Γ M_X5_size (z_rm 1 0 0) [.ref o] h (z_ri (nI n) h) := by
  refine z_C.of (by decide +kernel) rfl [some (.ref o), none, none] (Nat.le_of_ble_eq_true rfl) rfl ?_
  refine z_aload_n dX5_size_0 rfl rfl ?_
  refine z_getR b dX5_size_1 fl_X5_9_5 ho rfl hr ?_
  refine z_astore_n dX5_size_4 rfl (by decide) rfl ?_
  refine z_aload_n dX5_size_5 rfl rfl ?_
  refine z_instF q1386 nca_JB (z_rcJ hb) dX5_size_6 ?_
  refine z_if_eq 20 dX5_size_9 (by decide) (fun _ => ?_) (fun q => absurd q (by decide))
  refine z_aload_n dX5_size_20 rfl rfl ?_
  refine z_getR b dX5_size_21 fl_X5_9_5 ho rfl hr ?_
  refine z_astore_n dX5_size_24 rfl (by decide) rfl ?_
  refine z_aload_n dX5_size_25 rfl rfl ?_
  refine z_instF q1387 nca_JS (z_rcJ hb) dX5_size_26 ?_
  refine z_if_eq 40 dX5_size_29 (by decide) (fun _ => ?_) (fun q => absurd q (by decide))
  refine z_aload_n dX5_size_40 rfl rfl ?_
  refine z_getR b dX5_size_41 fl_X5_9_5 ho rfl hr ?_
  refine z_astore_n dX5_size_44 rfl (by decide) rfl ?_
  refine z_aload_n dX5_size_45 rfl rfl ?_
  refine z_instF q1388 nca_JI (z_rcJ hb) dX5_size_46 ?_
  refine z_if_eq 60 dX5_size_49 (by decide) (fun _ => ?_) (fun q => absurd q (by decide))
  refine z_aload_n dX5_size_60 rfl rfl ?_
  refine z_getR b dX5_size_61 fl_X5_9_5 ho rfl hr ?_
  refine z_astore_n dX5_size_64 rfl (by decide) rfl ?_
  refine z_aload_n dX5_size_65 rfl rfl ?_
  refine z_instY q1389 (z_rcJ hb) dX5_size_66 ?_
  refine z_if_eq 82 dX5_size_69 (by decide) (fun q => absurd q (by decide)) (fun _ => ?_)
  refine z_aload_n dX5_size_72 rfl rfl ?_
  refine z_castE q1389 (z_rcJ hb) dX5_size_73 ?_
  refine z_astore_n dX5_size_76 rfl (by decide) rfl ?_
  refine z_aload_n dX5_size_77 rfl rfl ?_
  refine z_alen dX5_size_78 hb (by simp [z_at]) ?_
  refine z_goto 90 dX5_size_79 (by decide) ?_
  refine z_iret dX5_size_90 rfl rfl (Nat.le_refl _) (Nat.le_refl _) (z_ri_i ?_ ?_)
  · rfl
  · rfl
theorem c_X5_size_4 {Γ : z_W} {h : z_H} {o b n : Nat} (ho : z_T h o = some (.inl 5)) (hr : z_R h o 0 = some b) (hb : z_T h b = some (.inr (.boolean, n))) : z_C Γ M_X5_size (z_rm 1 0 0) [.ref o] h (z_ri (nI n) h) := by
  refine z_C.of (by decide +kernel) rfl [some (.ref o), none, none] (Nat.le_of_ble_eq_true rfl) rfl ?_
  refine z_aload_n dX5_size_0 rfl rfl ?_
  refine z_getR b dX5_size_1 fl_X5_9_5 ho rfl hr ?_
  refine z_astore_n dX5_size_4 rfl (by decide) rfl ?_
  refine z_aload_n dX5_size_5 rfl rfl ?_
  refine z_instF q1386 nca_ZB (z_rcZ hb) dX5_size_6 ?_
  refine z_if_eq 20 dX5_size_9 (by decide) (fun _ => ?_) (fun q => absurd q (by decide))
  refine z_aload_n dX5_size_20 rfl rfl ?_
  refine z_getR b dX5_size_21 fl_X5_9_5 ho rfl hr ?_
  refine z_astore_n dX5_size_24 rfl (by decide) rfl ?_
  refine z_aload_n dX5_size_25 rfl rfl ?_
  refine z_instF q1387 nca_ZS (z_rcZ hb) dX5_size_26 ?_
  refine z_if_eq 40 dX5_size_29 (by decide) (fun _ => ?_) (fun q => absurd q (by decide))
  refine z_aload_n dX5_size_40 rfl rfl ?_
  refine z_getR b dX5_size_41 fl_X5_9_5 ho rfl hr ?_
  refine z_astore_n dX5_size_44 rfl (by decide) rfl ?_
  refine z_aload_n dX5_size_45 rfl rfl ?_
  refine z_instF q1388 nca_ZI (z_rcZ hb) dX5_size_46 ?_
  refine z_if_eq 60 dX5_size_49 (by decide) (fun _ => ?_) (fun q => absurd q (by decide))
  refine z_aload_n dX5_size_60 rfl rfl ?_
  refine z_getR b dX5_size_61 fl_X5_9_5 ho rfl hr ?_
  refine z_astore_n dX5_size_64 rfl (by decide) rfl ?_
  refine z_aload_n dX5_size_65 rfl rfl ?_
  refine z_instF q1389 nca_ZJ (z_rcZ hb) dX5_size_66 ?_
  refine z_if_eq 82 dX5_size_69 (by decide) (fun _ => ?_) (fun q => absurd q (by decide))
  refine z_aload_n dX5_size_82 rfl rfl ?_
  refine z_getR b dX5_size_83 fl_X5_9_5 ho rfl hr ?_
  refine z_castE q1390 (z_rcZ hb) dX5_size_86 ?_
  refine z_alen dX5_size_89 hb (by simp [z_at]) ?_
  refine z_iret dX5_size_90 rfl rfl (Nat.le_refl _) (Nat.le_refl _) (z_ri_i ?_ ?_)
  · rfl
  · rfl
theorem c_X5_size {Γ : z_W} {h : z_H} {o b n : Nat} (s : Nat) (ho : z_T h o = some (.inl 5)) (hr : z_R h o 0 = some b) (hb : z_T h b = some (.inr (z_so s, n))) (hs : s ≤ 4) : z_C Γ M_X5_size (z_rm 1 0 0) [.ref o] h (z_ri (nI n) h) := by
  match s, hs, hb with
  | 0, _, hb => exact c_X5_size_0 ho hr hb
  | 1, _, hb => exact c_X5_size_1 ho hr hb
  | 2, _, hb => exact c_X5_size_2 ho hr hb
  | 3, _, hb => exact c_X5_size_3 ho hr hb
  | 4, _, hb => exact c_X5_size_4 ho hr hb
  | s + 5, hs, _ => omega
theorem c_X5_has_N {Γ : z_W} {h : z_H} {o : Nat} {i : Int32} (hF : z_F h) (ho : z_T h o = some (.inl 5)) (hr : z_R h o 0 = none) : z_C Γ M_X5_has (z_rm 3 1 7) [.ref o, .int i] h (fun o' h' => o' = .threw (z_n h) ∧ h' = z_off h (-11)) := by
  refine z_C.of (by decide +kernel) rfl [some (.ref o), some (.int i)] (Nat.le_of_ble_eq_true rfl) rfl ?_
  refine z_aload_n dX5_has_0 rfl rfl ?_
  refine z_getN dX5_has_1 fl_X5_9_5 ho rfl hr ?_
  refine z_ifnonnullN dX5_has_4 ?_
  refine z_newOff dX5_has_7 q1380 (Nat.le_of_ble_eq_true rfl) (Nat.le_of_ble_eq_true rfl) ?_
  refine z_dup dX5_has_10 rfl ?_
  refine z_bipush (v := (-11)) dX5_has_11 rfl ?_
  refine z_icall il_X5_27 (c_X15_init hF.2.2) dX5_has_13 rfl rfl ⟨by decide, by decide⟩ (Nat.le_of_ble_eq_true rfl) (Nat.le_of_ble_eq_true rfl) (Nat.le_of_ble_eq_true rfl) (z_cV ?_) z_tV
  refine z_athrow dX5_has_16 ?_
  exact z_thOut (by decide) (Nat.le_of_ble_eq_true rfl) (Nat.le_of_ble_eq_true rfl) ⟨rfl, rfl⟩
theorem c_X5_has_y {Γ : z_W} {h : z_H} {o b n s : Nat} {i : Int32} (hF : z_F h) (ho : z_T h o = some (.inl 5)) (hr : z_R h o 0 = some b) (hb : z_T h b = some (.inr (z_so s, n))) (hs : s ≤ 4) (hi : z_in i 0 (nI n - 1)) : z_C Γ M_X5_has (z_rm 3 1 7) [.ref o, .int i] h (z_rv h) := by
  refine z_C.of (by decide +kernel) rfl [some (.ref o), some (.int i)] (Nat.le_of_ble_eq_true rfl) rfl ?_
  refine z_aload_n dX5_has_0 rfl rfl ?_
  refine z_getR b dX5_has_1 fl_X5_9_5 ho rfl hr ?_
  refine z_ifnonnull 17 dX5_has_4 (by decide) ?_
  refine z_iload_n dX5_has_17 rfl rfl ?_
  refine z_iconst (v := 0) dX5_has_18 rfl ?_
  refine z_aload_n dX5_has_19 rfl rfl ?_
  refine z_vcall vl_X5_30_5 (c_X5_size s ho hr hb hs) dX5_has_20 rfl rfl ho ⟨by decide, by decide⟩ (Nat.le_of_ble_eq_true rfl) (Nat.le_of_ble_eq_true rfl) (Nat.le_of_ble_eq_true rfl) (z_cI ?_) z_tI
  refine z_iconst (v := 1) dX5_has_23 rfl ?_
  refine z_isub dX5_has_24 ?_
  refine z_scall sl_X5_34 (c_X0_in) dX5_has_25 rfl rfl ⟨by decide, by decide⟩ (Nat.le_of_ble_eq_true rfl) (Nat.le_of_ble_eq_true rfl) (Nat.le_of_ble_eq_true rfl) (z_cI ?_) z_tI
  refine z_bif_ne 41 dX5_has_28 (by decide) (fun _ => ?_) (fun q => by first | exact absurd hi q | exact absurd q hi)
  refine z_vret dX5_has_41 rfl (Nat.le_of_ble_eq_true rfl) (Nat.le_of_ble_eq_true rfl) (z_rv_i ?_)
  rfl
theorem c_X5_has_n {Γ : z_W} {h : z_H} {o b n s : Nat} {i : Int32} (hF : z_F h) (ho : z_T h o = some (.inl 5)) (hr : z_R h o 0 = some b) (hb : z_T h b = some (.inr (z_so s, n))) (hs : s ≤ 4) (hi : ¬ z_in i 0 (nI n - 1)) : z_C Γ M_X5_has (z_rm 3 1 7) [.ref o, .int i] h (fun o' h' => o' = .threw (z_n h) ∧ h' = z_off h (-13)) := by
  refine z_C.of (by decide +kernel) rfl [some (.ref o), some (.int i)] (Nat.le_of_ble_eq_true rfl) rfl ?_
  refine z_aload_n dX5_has_0 rfl rfl ?_
  refine z_getR b dX5_has_1 fl_X5_9_5 ho rfl hr ?_
  refine z_ifnonnull 17 dX5_has_4 (by decide) ?_
  refine z_iload_n dX5_has_17 rfl rfl ?_
  refine z_iconst (v := 0) dX5_has_18 rfl ?_
  refine z_aload_n dX5_has_19 rfl rfl ?_
  refine z_vcall vl_X5_30_5 (c_X5_size s ho hr hb hs) dX5_has_20 rfl rfl ho ⟨by decide, by decide⟩ (Nat.le_of_ble_eq_true rfl) (Nat.le_of_ble_eq_true rfl) (Nat.le_of_ble_eq_true rfl) (z_cI ?_) z_tI
  refine z_iconst (v := 1) dX5_has_23 rfl ?_
  refine z_isub dX5_has_24 ?_
  refine z_scall sl_X5_34 (c_X0_in) dX5_has_25 rfl rfl ⟨by decide, by decide⟩ (Nat.le_of_ble_eq_true rfl) (Nat.le_of_ble_eq_true rfl) (Nat.le_of_ble_eq_true rfl) (z_cI ?_) z_tI
  refine z_bif_ne 41 dX5_has_28 (by decide) (fun q => by first | exact absurd q hi | exact absurd hi q) (fun _ => ?_)
  refine z_newOff dX5_has_31 q1380 (Nat.le_of_ble_eq_true rfl) (Nat.le_of_ble_eq_true rfl) ?_
  refine z_dup dX5_has_34 rfl ?_
  refine z_bipush (v := (-13)) dX5_has_35 rfl ?_
  refine z_icall il_X5_27 (c_X15_init hF.2.2) dX5_has_37 rfl rfl ⟨by decide, by decide⟩ (Nat.le_of_ble_eq_true rfl) (Nat.le_of_ble_eq_true rfl) (Nat.le_of_ble_eq_true rfl) (z_cV ?_) z_tV
  refine z_athrow dX5_has_40 ?_
  exact z_thOut (by decide) (Nat.le_of_ble_eq_true rfl) (Nat.le_of_ble_eq_true rfl) ⟨rfl, rfl⟩
theorem c_X0_rowOf_0 {Γ : z_W} {h : z_H} {n : Nat} (hn : n ≤ 60) : z_C Γ M_X0_rowOf (z_rm 2 3 2010) [.int 0, .int (nI n)] h (z_rr (z_n h) (z_new h (.inr (.byte, n)))) := by
  refine z_C.of (by decide +kernel) rfl [some (.int 0), some (.int (nI n))] (Nat.le_of_ble_eq_true rfl) rfl ?_
  refine z_iload_n dX0_rowOf_0 rfl rfl ?_
  refine z_tableIn 0 32 dX0_rowOf_1 rfl (by decide) (by decide) rfl (by decide) ?_
  refine z_iload_n dX0_rowOf_32 rfl rfl ?_
  refine z_newa (N := n) (ty := .byte) dX0_rowOf_33 rfl q195 (by simp [z_at]) (fun C q => by cases q) rfl (by omega) (Nat.le_of_ble_eq_true rfl) (by show 0 + n ≤ 2010; omega) ?_
  exact z_aret dX0_rowOf_35 rfl (Or.inl ⟨_, rfl⟩) (Or.inr ⟨_, rfl⟩) (Nat.le_of_ble_eq_true rfl) (by show 0 + n ≤ 2010; omega) ⟨rfl, rfl⟩
theorem c_X0_rowOf_0_n {Γ : z_W} {h : z_H} {n : Int32} (hn : n < 0) : z_C Γ M_X0_rowOf (z_rm 2 3 2010) [.int 0, .int n] h (fun o h' => o = .threw (z_n h + 2) ∧ h' = z_xM h 2) := by
  refine z_C.of (by decide +kernel) rfl [some (.int 0), some (.int n)] (Nat.le_of_ble_eq_true rfl) rfl ?_
  refine z_iload_n dX0_rowOf_0 rfl rfl ?_
  refine z_tableIn 0 32 dX0_rowOf_1 rfl (by decide) (by decide) rfl (by decide) ?_
  refine z_iload_n dX0_rowOf_32 rfl rfl ?_
  refine z_newNeg hn dX0_rowOf_33 ?_
  exact z_tnMsg (n := 2) (by decide) mw_nas (by decide) (negative_text_modelled hn) (Nat.le_trans (negative_text_bytes n) (by decide)) (Nat.le_of_ble_eq_true rfl) (Nat.le_of_ble_eq_true rfl) (Nat.le_of_ble_eq_true rfl) (z_thOut (by decide) (Nat.le_of_ble_eq_true rfl) (Nat.le_of_ble_eq_true rfl) ⟨rfl, rfl⟩)
theorem c_X0_rowOf_1 {Γ : z_W} {h : z_H} {n : Nat} (hn : n ≤ 60) : z_C Γ M_X0_rowOf (z_rm 2 3 2010) [.int 1, .int (nI n)] h (z_rr (z_n h) (z_new h (.inr (.short, n)))) := by
  refine z_C.of (by decide +kernel) rfl [some (.int 1), some (.int (nI n))] (Nat.le_of_ble_eq_true rfl) rfl ?_
  refine z_iload_n dX0_rowOf_0 rfl rfl ?_
  refine z_tableIn 1 36 dX0_rowOf_1 rfl (by decide) (by decide) rfl (by decide) ?_
  refine z_iload_n dX0_rowOf_36 rfl rfl ?_
  refine z_newa (N := n) (ty := .short) dX0_rowOf_37 rfl q1369 (by simp [z_at]) (fun C q => by cases q) rfl (by omega) (Nat.le_of_ble_eq_true rfl) (by show 0 + n ≤ 2010; omega) ?_
  exact z_aret dX0_rowOf_39 rfl (Or.inl ⟨_, rfl⟩) (Or.inr ⟨_, rfl⟩) (Nat.le_of_ble_eq_true rfl) (by show 0 + n ≤ 2010; omega) ⟨rfl, rfl⟩
theorem c_X0_rowOf_1_n {Γ : z_W} {h : z_H} {n : Int32} (hn : n < 0) : z_C Γ M_X0_rowOf (z_rm 2 3 2010) [.int 1, .int n] h (fun o h' => o = .threw (z_n h + 2) ∧ h' = z_xM h 2) := by
  refine z_C.of (by decide +kernel) rfl [some (.int 1), some (.int n)] (Nat.le_of_ble_eq_true rfl) rfl ?_
  refine z_iload_n dX0_rowOf_0 rfl rfl ?_
  refine z_tableIn 1 36 dX0_rowOf_1 rfl (by decide) (by decide) rfl (by decide) ?_
  refine z_iload_n dX0_rowOf_36 rfl rfl ?_
  refine z_newNeg hn dX0_rowOf_37 ?_
  exact z_tnMsg (n := 2) (by decide) mw_nas (by decide) (negative_text_modelled hn) (Nat.le_trans (negative_text_bytes n) (by decide)) (Nat.le_of_ble_eq_true rfl) (Nat.le_of_ble_eq_true rfl) (Nat.le_of_ble_eq_true rfl) (z_thOut (by decide) (Nat.le_of_ble_eq_true rfl) (Nat.le_of_ble_eq_true rfl) ⟨rfl, rfl⟩)
theorem c_X0_rowOf_2 {Γ : z_W} {h : z_H} {n : Nat} (hn : n ≤ 60) : z_C Γ M_X0_rowOf (z_rm 2 3 2010) [.int 2, .int (nI n)] h (z_rr (z_n h) (z_new h (.inr (.int, n)))) := by
  refine z_C.of (by decide +kernel) rfl [some (.int 2), some (.int (nI n))] (Nat.le_of_ble_eq_true rfl) rfl ?_
  refine z_iload_n dX0_rowOf_0 rfl rfl ?_
  refine z_tableIn 2 40 dX0_rowOf_1 rfl (by decide) (by decide) rfl (by decide) ?_
  refine z_iload_n dX0_rowOf_40 rfl rfl ?_
  refine z_newa (N := n) (ty := .int) dX0_rowOf_41 rfl q162 (by simp [z_at]) (fun C q => by cases q) rfl (by omega) (Nat.le_of_ble_eq_true rfl) (by show 0 + n ≤ 2010; omega) ?_
  exact z_aret dX0_rowOf_43 rfl (Or.inl ⟨_, rfl⟩) (Or.inr ⟨_, rfl⟩) (Nat.le_of_ble_eq_true rfl) (by show 0 + n ≤ 2010; omega) ⟨rfl, rfl⟩
theorem c_X0_rowOf_2_n {Γ : z_W} {h : z_H} {n : Int32} (hn : n < 0) : z_C Γ M_X0_rowOf (z_rm 2 3 2010) [.int 2, .int n] h (fun o h' => o = .threw (z_n h + 2) ∧ h' = z_xM h 2) := by
  refine z_C.of (by decide +kernel) rfl [some (.int 2), some (.int n)] (Nat.le_of_ble_eq_true rfl) rfl ?_
  refine z_iload_n dX0_rowOf_0 rfl rfl ?_
  refine z_tableIn 2 40 dX0_rowOf_1 rfl (by decide) (by decide) rfl (by decide) ?_
  refine z_iload_n dX0_rowOf_40 rfl rfl ?_
  refine z_newNeg hn dX0_rowOf_41 ?_
  exact z_tnMsg (n := 2) (by decide) mw_nas (by decide) (negative_text_modelled hn) (Nat.le_trans (negative_text_bytes n) (by decide)) (Nat.le_of_ble_eq_true rfl) (Nat.le_of_ble_eq_true rfl) (Nat.le_of_ble_eq_true rfl) (z_thOut (by decide) (Nat.le_of_ble_eq_true rfl) (Nat.le_of_ble_eq_true rfl) ⟨rfl, rfl⟩)
theorem c_X0_rowOf_3 {Γ : z_W} {h : z_H} {n : Nat} (hn : n ≤ 60) : z_C Γ M_X0_rowOf (z_rm 2 3 2010) [.int 3, .int (nI n)] h (z_rr (z_n h) (z_new h (.inr (.long, n)))) := by
  refine z_C.of (by decide +kernel) rfl [some (.int 3), some (.int (nI n))] (Nat.le_of_ble_eq_true rfl) rfl ?_
  refine z_iload_n dX0_rowOf_0 rfl rfl ?_
  refine z_tableIn 3 44 dX0_rowOf_1 rfl (by decide) (by decide) rfl (by decide) ?_
  refine z_iload_n dX0_rowOf_44 rfl rfl ?_
  refine z_newa (N := n) (ty := .long) dX0_rowOf_45 rfl q1370 (by simp [z_at]) (fun C q => by cases q) rfl (by omega) (Nat.le_of_ble_eq_true rfl) (by show 0 + n ≤ 2010; omega) ?_
  exact z_aret dX0_rowOf_47 rfl (Or.inl ⟨_, rfl⟩) (Or.inr ⟨_, rfl⟩) (Nat.le_of_ble_eq_true rfl) (by show 0 + n ≤ 2010; omega) ⟨rfl, rfl⟩
theorem c_X0_rowOf_3_n {Γ : z_W} {h : z_H} {n : Int32} (hn : n < 0) : z_C Γ M_X0_rowOf (z_rm 2 3 2010) [.int 3, .int n] h (fun o h' => o = .threw (z_n h + 2) ∧ h' = z_xM h 2) := by
  refine z_C.of (by decide +kernel) rfl [some (.int 3), some (.int n)] (Nat.le_of_ble_eq_true rfl) rfl ?_
  refine z_iload_n dX0_rowOf_0 rfl rfl ?_
  refine z_tableIn 3 44 dX0_rowOf_1 rfl (by decide) (by decide) rfl (by decide) ?_
  refine z_iload_n dX0_rowOf_44 rfl rfl ?_
  refine z_newNeg hn dX0_rowOf_45 ?_
  exact z_tnMsg (n := 2) (by decide) mw_nas (by decide) (negative_text_modelled hn) (Nat.le_trans (negative_text_bytes n) (by decide)) (Nat.le_of_ble_eq_true rfl) (Nat.le_of_ble_eq_true rfl) (Nat.le_of_ble_eq_true rfl) (z_thOut (by decide) (Nat.le_of_ble_eq_true rfl) (Nat.le_of_ble_eq_true rfl) ⟨rfl, rfl⟩)
theorem c_X0_rowOf_4 {Γ : z_W} {h : z_H} {n : Nat} (hn : n ≤ 60) : z_C Γ M_X0_rowOf (z_rm 2 3 2010) [.int 4, .int (nI n)] h (z_rr (z_n h) (z_new h (.inr (.boolean, n)))) := by
  refine z_C.of (by decide +kernel) rfl [some (.int 4), some (.int (nI n))] (Nat.le_of_ble_eq_true rfl) rfl ?_
  refine z_iload_n dX0_rowOf_0 rfl rfl ?_
  refine z_tableOut 48 dX0_rowOf_1 (by decide) (by decide) ?_
  refine z_iload_n dX0_rowOf_48 rfl rfl ?_
  refine z_newa (N := n) (ty := .boolean) dX0_rowOf_49 rfl q1371 (by simp [z_at]) (fun C q => by cases q) rfl (by omega) (Nat.le_of_ble_eq_true rfl) (by show 0 + n ≤ 2010; omega) ?_
  exact z_aret dX0_rowOf_51 rfl (Or.inl ⟨_, rfl⟩) (Or.inr ⟨_, rfl⟩) (Nat.le_of_ble_eq_true rfl) (by show 0 + n ≤ 2010; omega) ⟨rfl, rfl⟩
theorem c_X0_rowOf_4_n {Γ : z_W} {h : z_H} {n : Int32} (hn : n < 0) : z_C Γ M_X0_rowOf (z_rm 2 3 2010) [.int 4, .int n] h (fun o h' => o = .threw (z_n h + 2) ∧ h' = z_xM h 2) := by
  refine z_C.of (by decide +kernel) rfl [some (.int 4), some (.int n)] (Nat.le_of_ble_eq_true rfl) rfl ?_
  refine z_iload_n dX0_rowOf_0 rfl rfl ?_
  refine z_tableOut 48 dX0_rowOf_1 (by decide) (by decide) ?_
  refine z_iload_n dX0_rowOf_48 rfl rfl ?_
  refine z_newNeg hn dX0_rowOf_49 ?_
  exact z_tnMsg (n := 2) (by decide) mw_nas (by decide) (negative_text_modelled hn) (Nat.le_trans (negative_text_bytes n) (by decide)) (Nat.le_of_ble_eq_true rfl) (Nat.le_of_ble_eq_true rfl) (Nat.le_of_ble_eq_true rfl) (z_thOut (by decide) (Nat.le_of_ble_eq_true rfl) (Nat.le_of_ble_eq_true rfl) ⟨rfl, rfl⟩)
theorem c_X0_rowOf {Γ : z_W} {h : z_H} {n : Nat} (s : Nat) (hs : s ≤ 4) (hn : n ≤ 60) : z_C Γ M_X0_rowOf (z_rm 2 3 2010) [.int (nI s), .int (nI n)] h (z_rr (z_n h) (z_new h (.inr (z_so s, n)))) := by
  match s, hs with
  | 0, _ => exact c_X0_rowOf_0 hn
  | 1, _ => exact c_X0_rowOf_1 hn
  | 2, _ => exact c_X0_rowOf_2 hn
  | 3, _ => exact c_X0_rowOf_3 hn
  | 4, _ => exact c_X0_rowOf_4 hn
  | s + 5, hs => omega
theorem c_X0_rowOf_n {Γ : z_W} {h : z_H} {n : Int32} (s : Nat) (hs : s ≤ 4) (hn : n < 0) : z_C Γ M_X0_rowOf (z_rm 2 3 2010) [.int (nI s), .int n] h (fun o h' => o = .threw (z_n h + 2) ∧ h' = z_xM h 2) := by
  match s, hs with
  | 0, _ => exact c_X0_rowOf_0_n hn
  | 1, _ => exact c_X0_rowOf_1_n hn
  | 2, _ => exact c_X0_rowOf_2_n hn
  | 3, _ => exact c_X0_rowOf_3_n hn
  | 4, _ => exact c_X0_rowOf_4_n hn
  | s + 5, hs => omega
/-- what 'tape' leaves -/
def z_tpQ (h : z_H) (t s n : Int32) (r : Int32) (h' : z_H) : Prop := r = m_X6_tape t s n ∧ ((r ≠ 1 ∧ z_gr h h') ∨ (r = 1 ∧ z_in t 0 5 ∧ ((s = -1 ∧ h' = z_sR h (43 + z_c t) 0 none) ∨ (z_in s 0 4 ∧ z_in n 0 60 ∧ h' = z_sR (z_new h (.inr (z_so (z_c s), z_c n))) (43 + z_c t) 0 (some (z_n h))))))
theorem z_eqi2 {Γ : z_W} {M : z_M} {rm : Room} {Q : Outcome → z_H → Prop} {cs ss pc : Nat} {ls : List (Option Value)} {st : List Value} {h : z_H} {w : Value} {x : Int32} (y : Int32) (he : x = y) (kk : z_G Γ M rm Q cs ss pc ls (w :: .int y :: st) h) : z_G Γ M rm Q cs ss pc ls (w :: .int x :: st) h := by rw [he]; exact kk
theorem z_m1 {s : Int32} (h1 : (-1) ≤ s) (h2 : ¬ s = (-1)) : 0 ≤ s := by
  rw [Int32.le_iff_toInt_le] at h1 ⊢
  rw [← Int32.toInt_inj] at h2
  have e : (-1 : Int32).toInt = -1 := rfl
  rw [e] at h1 h2
  rw [z_i0]
  omega
theorem c_X0_tape {Γ : z_W} {h : z_H} {t s n : Int32} (hF : z_F h) : z_C Γ M_X0_tape (z_rm 4 4 2040) [.ref 16, .int t, .int s, .int n] h (z_rI (z_tpQ h t s n)) := by
  refine z_C.ofH (by decide +kernel) (by decide) [some (.ref 16), some (.int t), some (.int s), some (.int n), none] (Nat.le_of_ble_eq_true rfl) rfl ?_
  refine z_iload_n dX0_tape_0 rfl rfl ?_
  refine z_scall sl_X0_320 (c_X0_isTape) dX0_tape_1 rfl rfl ⟨by decide, by decide⟩ (Nat.le_of_ble_eq_true rfl) (Nat.le_of_ble_eq_true rfl) (Nat.le_of_ble_eq_true rfl) (z_cI ?_) z_tI
  refine z_bif_ne 9 dX0_tape_4 (by decide) (fun c4 => ?_) (fun c4 => ?_)
  · have ht := z_ixb (l := t) 5 (by decide) c4
    refine z_iload_n dX0_tape_9 rfl rfl ?_
    refine z_iconst (v := (-1)) dX0_tape_10 rfl ?_
    refine z_iconst (v := 4) dX0_tape_11 rfl ?_
    refine z_scall sl_X0_5 (c_X0_in) dX0_tape_12 rfl rfl ⟨by decide, by decide⟩ (Nat.le_of_ble_eq_true rfl) (Nat.le_of_ble_eq_true rfl) (Nat.le_of_ble_eq_true rfl) (z_cI ?_) z_tI
    refine z_bif_eq 29 dX0_tape_15 (by decide) (fun c15 => ?_) (fun c15 => ?_)
    · refine z_bipush (v := (-2)) dX0_tape_29 rfl ?_
      refine z_iret dX0_tape_31 rfl rfl (Nat.le_of_ble_eq_true rfl) (Nat.le_of_ble_eq_true rfl) (z_rI_i ?_)
      refine ⟨?_, Or.inl ⟨by decide, z_gr.refl h⟩⟩
      unfold m_X6_tape; rw [if_pos c4, if_neg c15]
    · refine z_iload_n dX0_tape_18 rfl rfl ?_
      refine z_iconst (v := (-1)) dX0_tape_19 rfl ?_
      refine z_icmp_eq 32 dX0_tape_20 (by decide) (fun c20 => ?_) (fun c20 => ?_)
      · refine z_aload_n dX0_tape_32 rfl rfl ?_
        refine z_getR 33 dX0_tape_33 fl_X0_84_0 (hF.1 16 _ rfl) rfl (hF.2.1 16 21 33 rfl) ?_
        refine z_iload_n dX0_tape_36 rfl rfl ?_
        refine z_aald (z_c t) (43 + z_c t) dX0_tape_37 (hF.1 33 _ rfl) (by simp [z_at]) ht.1 (by have := ht.2; omega) (by decide) (z_t33 hF _ ht.2).1 ?_
        refine z_iload_n dX0_tape_38 rfl rfl ?_
        refine z_iconst (v := (-1)) dX0_tape_39 rfl ?_
        refine z_icmp_ne 47 dX0_tape_40 (by decide) (fun c40 => ?_) (fun c40 => ?_)
        · refine z_iload_n dX0_tape_47 rfl rfl ?_
          refine z_iload_n dX0_tape_48 rfl rfl ?_
          have hs4 : z_in s 0 4 := ⟨z_m1 c15.1 c40, c15.2⟩
          have hs := z_ixb (l := s) 4 (by decide) hs4
          have hsn : ¬ s < 0 := Int32.not_lt.mpr hs4.1
          by_cases hn : n < 0
          · refine z_eqi2 (nI (z_c s)) hs.1 ?_
            refine z_scall sl_X0_375 (c_X0_rowOf_n (z_c s) hs.2 hn) dX0_tape_49 rfl rfl ⟨by decide, by decide⟩ (Nat.le_of_ble_eq_true rfl) (Nat.le_of_ble_eq_true rfl) (Nat.le_of_ble_eq_true rfl) (fun v h' q => by cases q.1) (fun x h' q => ?_)
            obtain ⟨q1, q2⟩ := q
            cases q1
            rw [q2]
            refine z_thCatch (z_Xo_M h 2 (by decide)) [] [] rfl (fun y hy => by cases hy) ⟨by decide, by decide⟩ (by decide) q1352 q1364 ?_
            refine z_astore dX0_tape_57 (by decide) rfl ?_
            refine z_bipush (v := (-14)) dX0_tape_59 rfl ?_
            refine z_iret dX0_tape_61 rfl rfl (Nat.le_of_ble_eq_true rfl) (Nat.le_of_ble_eq_true rfl) (z_rI_i ⟨?_, Or.inl ⟨by decide, z_gr.xM h 2⟩⟩)
            unfold m_X6_tape
            rw [if_pos c4, if_pos c15, if_neg hsn, if_pos (Int32.le_of_lt (Int32.lt_of_lt_of_le hn (by decide))), if_neg (Int32.not_le.mpr hn)]
          · have hn0 : 0 ≤ n := Int32.not_lt.mp hn
            have hn6 : n ≤ 60 := by first | exact c26 | exact absurd c20 c40
            have hnx := z_ixb (l := n) 60 (by decide) ⟨hn0, hn6⟩
            refine z_eqi2 (nI (z_c s)) hs.1 ?_
            refine z_eqi (nI (z_c n)) hnx.1 ?_
            refine z_scall sl_X0_375 (c_X0_rowOf (z_c s) hs.2 hnx.2) dX0_tape_49 rfl rfl ⟨by decide, by decide⟩ (Nat.le_of_ble_eq_true rfl) (Nat.le_of_ble_eq_true rfl) (Nat.le_of_ble_eq_true rfl) (z_cR ?_) z_tR
            refine z_putR dX0_tape_52 (pl_X0_323_5 rfl) (by rw [(z_gr.new h _).2 _ (by have := ht.2; have := hF.2.2; omega) |>.2.2.2]; exact (z_t33 hF _ ht.2).2) (by show 16 ≤ 43 + z_c t; omega) rfl ?_
            refine z_iconst (v := 1) dX0_tape_55 rfl ?_
            refine z_iret dX0_tape_56 rfl rfl (Nat.le_of_ble_eq_true rfl) (Nat.le_of_ble_eq_true rfl) (z_rI_i ⟨?_, Or.inr ⟨rfl, c4, Or.inr ⟨hs4, ⟨hn0, hn6⟩, rfl⟩⟩⟩)
            unfold m_X6_tape
            rw [if_pos c4, if_pos c15, if_neg hsn, if_pos hn6, if_pos hn0]
        · refine z_null dX0_tape_43 ?_
          refine z_goto 52 dX0_tape_44 (by decide) ?_
          refine z_putN dX0_tape_52 (pl_X0_323_5 rfl) (z_t33 hF _ ht.2).2 (by show 16 ≤ 43 + z_c t; omega) rfl ?_
          refine z_iconst (v := 1) dX0_tape_55 rfl ?_
          refine z_iret dX0_tape_56 rfl rfl (Nat.le_of_ble_eq_true rfl) (Nat.le_of_ble_eq_true rfl) (z_rI_i ?_)
          first | exact absurd c40 c20 | (refine ⟨?_, Or.inr ⟨rfl, c4, Or.inl ⟨by first | exact c40 | exact c20, rfl⟩⟩⟩; unfold m_X6_tape; rw [if_pos c4, if_pos c15, if_pos (by rw [show s = -1 by first | exact c40 | exact c20]; decide)])
      · refine z_iload_n dX0_tape_23 rfl rfl ?_
        refine z_bipush (v := 60) dX0_tape_24 rfl ?_
        refine z_icmp_le 32 dX0_tape_26 (by decide) (fun c26 => ?_) (fun c26 => ?_)
        · refine z_aload_n dX0_tape_32 rfl rfl ?_
          refine z_getR 33 dX0_tape_33 fl_X0_84_0 (hF.1 16 _ rfl) rfl (hF.2.1 16 21 33 rfl) ?_
          refine z_iload_n dX0_tape_36 rfl rfl ?_
          refine z_aald (z_c t) (43 + z_c t) dX0_tape_37 (hF.1 33 _ rfl) (by simp [z_at]) ht.1 (by have := ht.2; omega) (by decide) (z_t33 hF _ ht.2).1 ?_
          refine z_iload_n dX0_tape_38 rfl rfl ?_
          refine z_iconst (v := (-1)) dX0_tape_39 rfl ?_
          refine z_icmp_ne 47 dX0_tape_40 (by decide) (fun c40 => ?_) (fun c40 => ?_)
          · refine z_iload_n dX0_tape_47 rfl rfl ?_
            refine z_iload_n dX0_tape_48 rfl rfl ?_
            have hs4 : z_in s 0 4 := ⟨z_m1 c15.1 c40, c15.2⟩
            have hs := z_ixb (l := s) 4 (by decide) hs4
            have hsn : ¬ s < 0 := Int32.not_lt.mpr hs4.1
            by_cases hn : n < 0
            · refine z_eqi2 (nI (z_c s)) hs.1 ?_
              refine z_scall sl_X0_375 (c_X0_rowOf_n (z_c s) hs.2 hn) dX0_tape_49 rfl rfl ⟨by decide, by decide⟩ (Nat.le_of_ble_eq_true rfl) (Nat.le_of_ble_eq_true rfl) (Nat.le_of_ble_eq_true rfl) (fun v h' q => by cases q.1) (fun x h' q => ?_)
              obtain ⟨q1, q2⟩ := q
              cases q1
              rw [q2]
              refine z_thCatch (z_Xo_M h 2 (by decide)) [] [] rfl (fun y hy => by cases hy) ⟨by decide, by decide⟩ (by decide) q1352 q1364 ?_
              refine z_astore dX0_tape_57 (by decide) rfl ?_
              refine z_bipush (v := (-14)) dX0_tape_59 rfl ?_
              refine z_iret dX0_tape_61 rfl rfl (Nat.le_of_ble_eq_true rfl) (Nat.le_of_ble_eq_true rfl) (z_rI_i ⟨?_, Or.inl ⟨by decide, z_gr.xM h 2⟩⟩)
              unfold m_X6_tape
              rw [if_pos c4, if_pos c15, if_neg hsn, if_pos (Int32.le_of_lt (Int32.lt_of_lt_of_le hn (by decide))), if_neg (Int32.not_le.mpr hn)]
            · have hn0 : 0 ≤ n := Int32.not_lt.mp hn
              have hn6 : n ≤ 60 := by first | exact c26 | exact absurd c20 c40
              have hnx := z_ixb (l := n) 60 (by decide) ⟨hn0, hn6⟩
              refine z_eqi2 (nI (z_c s)) hs.1 ?_
              refine z_eqi (nI (z_c n)) hnx.1 ?_
              refine z_scall sl_X0_375 (c_X0_rowOf (z_c s) hs.2 hnx.2) dX0_tape_49 rfl rfl ⟨by decide, by decide⟩ (Nat.le_of_ble_eq_true rfl) (Nat.le_of_ble_eq_true rfl) (Nat.le_of_ble_eq_true rfl) (z_cR ?_) z_tR
              refine z_putR dX0_tape_52 (pl_X0_323_5 rfl) (by rw [(z_gr.new h _).2 _ (by have := ht.2; have := hF.2.2; omega) |>.2.2.2]; exact (z_t33 hF _ ht.2).2) (by show 16 ≤ 43 + z_c t; omega) rfl ?_
              refine z_iconst (v := 1) dX0_tape_55 rfl ?_
              refine z_iret dX0_tape_56 rfl rfl (Nat.le_of_ble_eq_true rfl) (Nat.le_of_ble_eq_true rfl) (z_rI_i ⟨?_, Or.inr ⟨rfl, c4, Or.inr ⟨hs4, ⟨hn0, hn6⟩, rfl⟩⟩⟩)
              unfold m_X6_tape
              rw [if_pos c4, if_pos c15, if_neg hsn, if_pos hn6, if_pos hn0]
          · refine z_null dX0_tape_43 ?_
            refine z_goto 52 dX0_tape_44 (by decide) ?_
            refine z_putN dX0_tape_52 (pl_X0_323_5 rfl) (z_t33 hF _ ht.2).2 (by show 16 ≤ 43 + z_c t; omega) rfl ?_
            refine z_iconst (v := 1) dX0_tape_55 rfl ?_
            refine z_iret dX0_tape_56 rfl rfl (Nat.le_of_ble_eq_true rfl) (Nat.le_of_ble_eq_true rfl) (z_rI_i ?_)
            first | exact absurd c40 c20 | (refine ⟨?_, Or.inr ⟨rfl, c4, Or.inl ⟨by first | exact c40 | exact c20, rfl⟩⟩⟩; unfold m_X6_tape; rw [if_pos c4, if_pos c15, if_pos (by rw [show s = -1 by first | exact c40 | exact c20]; decide)])
        · refine z_bipush (v := (-2)) dX0_tape_29 rfl ?_
          refine z_iret dX0_tape_31 rfl rfl (Nat.le_of_ble_eq_true rfl) (Nat.le_of_ble_eq_true rfl) (z_rI_i ?_)
          refine ⟨?_, Or.inl ⟨by decide, z_gr.refl h⟩⟩
          unfold m_X6_tape; rw [if_pos c4, if_pos c15, if_neg (Int32.not_lt.mpr (z_m1 c15.1 c20)), if_neg c26]
  · refine z_iconst (v := (-1)) dX0_tape_7 rfl ?_
    refine z_iret dX0_tape_8 rfl rfl (Nat.le_of_ble_eq_true rfl) (Nat.le_of_ble_eq_true rfl) (z_rI_i ?_)
    refine ⟨?_, Or.inl ⟨by decide, z_gr.refl h⟩⟩
    unfold m_X6_tape; rw [if_neg c4]
