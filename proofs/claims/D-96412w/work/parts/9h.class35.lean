/-! CONSTRUCTORS of tests, clauses, airs, readers (printed by class35.py) -/
set_option maxRecDepth 20000
theorem c_X17_init {Γ : z_W} {h : z_H} {L : Nat} : z_C Γ M_X17_init (z_rm 1 0 0) [.ref L] h (z_rv h) := by
  refine z_C.of (by decide +kernel) rfl [some (.ref L)] (Nat.le_of_ble_eq_true rfl) rfl ?_
  refine z_aload_n dX17_init_0 rfl rfl ?_
  refine z_objInit dX17_init_1 q852 q135 q136 (Nat.le_of_ble_eq_true rfl) ⟨by decide, by decide⟩ ?_
  refine z_vret dX17_init_4 rfl (Nat.le_refl _) (Nat.le_refl _) (z_rv_i ?_)
  rfl
theorem c_X20_init {Γ : z_W} {h : z_H} {L : Nat} {a b c : Int32} (hT : z_T h L = some (.inl 20)) (hL : 85 ≤ L) : z_C Γ M_X20_init (z_rm 2 0 0) [.ref L, .int a, .int b, .int c] h (z_rv (z_sI (z_sI (z_sI h L 0 a) L 1 b) L 2 c)) := by
  refine z_C.of (by decide +kernel) rfl [some (.ref L), some (.int a), some (.int b), some (.int c)] (Nat.le_of_ble_eq_true rfl) rfl ?_
  refine z_aload_n dX20_init_0 rfl rfl ?_
  refine z_icall il_X20_1 c_X17_init dX20_init_1 rfl rfl ⟨by decide, by decide⟩ (Nat.le_of_ble_eq_true rfl) (Nat.le_of_ble_eq_true rfl) (Nat.le_of_ble_eq_true rfl) (z_cV ?_) z_tV
  refine z_aload_n dX20_init_4 rfl rfl ?_
  refine z_iload_n dX20_init_5 rfl rfl ?_
  refine z_putI dX20_init_6 pf_X20_init_7_20 hT (Nat.le_trans (by decide) hL) rfl ?_
  refine z_aload_n dX20_init_9 rfl rfl ?_
  refine z_iload_n dX20_init_10 rfl rfl ?_
  refine z_putI dX20_init_11 pf_X20_init_13_20 hT (Nat.le_trans (by decide) hL) rfl ?_
  refine z_aload_n dX20_init_14 rfl rfl ?_
  refine z_iload_n dX20_init_15 rfl rfl ?_
  refine z_putI dX20_init_16 pf_X20_init_16_20 hT (Nat.le_trans (by decide) hL) rfl ?_
  refine z_vret dX20_init_19 rfl (Nat.le_of_ble_eq_true rfl) (Nat.le_of_ble_eq_true rfl) (z_rv_i ?_)
  rfl
theorem c_X19_init {Γ : z_W} {h : z_H} {L : Nat} {t : Nat} (hT : z_T h L = some (.inl 19)) (hL : 85 ≤ L) : z_C Γ M_X19_init (z_rm 2 0 0) [.ref L, .ref t] h (z_rv (z_sR h L 0 (some t))) := by
  refine z_C.of (by decide +kernel) rfl [some (.ref L), some (.ref t)] (Nat.le_of_ble_eq_true rfl) rfl ?_
  refine z_aload_n dX19_init_0 rfl rfl ?_
  refine z_icall il_X19_1 c_X17_init dX19_init_1 rfl rfl ⟨by decide, by decide⟩ (Nat.le_of_ble_eq_true rfl) (Nat.le_of_ble_eq_true rfl) (Nat.le_of_ble_eq_true rfl) (z_cV ?_) z_tV
  refine z_aload_n dX19_init_4 rfl rfl ?_
  refine z_aload_n dX19_init_5 rfl rfl ?_
  refine z_putR dX19_init_6 pf_X19_init_7_19 hT (Nat.le_trans (by decide) hL) rfl ?_
  refine z_vret dX19_init_9 rfl (Nat.le_of_ble_eq_true rfl) (Nat.le_of_ble_eq_true rfl) (z_rv_i ?_)
  rfl
theorem c_X16_init {Γ : z_W} {h : z_H} {L : Nat} {a : Int32} {t : Nat} (hT : z_T h L = some (.inl 16)) (hL : 85 ≤ L) : z_C Γ M_X16_init (z_rm 2 0 0) [.ref L, .int a, .ref t] h (z_rv (z_sR (z_sI h L 0 a) L 1 (some t))) := by
  refine z_C.of (by decide +kernel) rfl [some (.ref L), some (.int a), some (.ref t)] (Nat.le_of_ble_eq_true rfl) rfl ?_
  refine z_aload_n dX16_init_0 rfl rfl ?_
  refine z_objInit dX16_init_1 q975 q135 q136 (Nat.le_of_ble_eq_true rfl) ⟨by decide, by decide⟩ ?_
  refine z_aload_n dX16_init_4 rfl rfl ?_
  refine z_iload_n dX16_init_5 rfl rfl ?_
  refine z_putI dX16_init_6 pf_X16_init_7_16 hT (Nat.le_trans (by decide) hL) rfl ?_
  refine z_aload_n dX16_init_9 rfl rfl ?_
  refine z_aload_n dX16_init_10 rfl rfl ?_
  refine z_putR dX16_init_11 pf_X16_init_13_16 hT (Nat.le_trans (by decide) hL) rfl ?_
  refine z_vret dX16_init_14 rfl (Nat.le_of_ble_eq_true rfl) (Nat.le_of_ble_eq_true rfl) (z_rv_i ?_)
  rfl
theorem c_X18_init {Γ : z_W} {h : z_H} {L : Nat} {a : Int32} (hT : z_T h L = some (.inl 18)) (hL : 85 ≤ L) (hn : 85 ≤ z_n h) (hLn : L < z_n h) (ha : fits .boolean (.int a) = true ∧ narrow .boolean (.int a) = .int a) : z_C Γ M_X18_init (z_rm 4 1 3) [.ref L, .int a] h (z_rv (z_sI (z_sR (z_al0 (z_new h (.inl 21)) (z_n h)) L 1 (some (z_n h))) L 0 a)) := by
  have hn16 : 16 ≤ z_n h := Nat.le_trans (by decide) hn
  have hT1 : z_T (z_new h (.inl 21)) L = some (.inl 18) := (if_neg (Nat.ne_of_lt hLn)).trans hT
  refine z_C.of (by decide +kernel) rfl [some (.ref L), some (.int a)] (Nat.le_of_ble_eq_true rfl) rfl ?_
  refine z_aload_n dX18_init_0 rfl rfl ?_
  refine z_icall il_X18_1 c_X17_init dX18_init_1 rfl rfl ⟨by decide, by decide⟩ (Nat.le_of_ble_eq_true rfl) (Nat.le_of_ble_eq_true rfl) (Nat.le_of_ble_eq_true rfl) (z_cV ?_) z_tV
  refine z_aload_n dX18_init_4 rfl rfl ?_
  refine z_newo dX18_init_5 (c := 21) rfl q853 q170 q92 (Nat.le_of_ble_eq_true rfl) (Nat.le_of_ble_eq_true rfl) ?_
  refine z_dup dX18_init_8 rfl ?_
  refine z_icall il_X18_9 (c_J2_init (if_pos rfl) hn16) dX18_init_9 rfl rfl ⟨by decide, by decide⟩ (Nat.le_of_ble_eq_true rfl) (Nat.le_of_ble_eq_true rfl) (Nat.le_of_ble_eq_true rfl) (z_cV ?_) z_tV
  refine z_putR dX18_init_12 pf_X18_init_10_18 hT1 (Nat.le_trans (by decide) hL) rfl ?_
  refine z_aload_n dX18_init_15 rfl rfl ?_
  refine z_iload_n dX18_init_16 rfl rfl ?_
  refine z_putZ dX18_init_17 pf_X18_init_16_18 hT1 (Nat.le_trans (by decide) hL) rfl ⟨ha.2, ha.1⟩ ?_
  refine z_vret dX18_init_20 rfl (Nat.le_of_ble_eq_true rfl) (Nat.le_of_ble_eq_true rfl) (z_rv_i ?_)
  rfl
theorem c_X2_init {Γ : z_W} {h : z_H} {L : Nat}  (hT : z_T h L = some (.inl 2)) (hL : 85 ≤ L) (hn : 85 ≤ z_n h) (hLn : L < z_n h) : z_C Γ M_X2_init (z_rm 4 1 3) [.ref L] h (z_rv (z_sI (z_sI (z_sR (z_al0 (z_new h (.inl 21)) (z_n h)) L 0 (some (z_n h))) L 2 40) L 3 8)) := by
  have hn16 : 16 ≤ z_n h := Nat.le_trans (by decide) hn
  have hT1 : z_T (z_new h (.inl 21)) L = some (.inl 2) := (if_neg (Nat.ne_of_lt hLn)).trans hT
  refine z_C.of (by decide +kernel) rfl [some (.ref L)] (Nat.le_of_ble_eq_true rfl) rfl ?_
  refine z_aload_n dX2_init_0 rfl rfl ?_
  refine z_objInit dX2_init_1 q168 q135 q136 (Nat.le_of_ble_eq_true rfl) ⟨by decide, by decide⟩ ?_
  refine z_aload_n dX2_init_4 rfl rfl ?_
  refine z_newo dX2_init_5 (c := 21) rfl q169 q170 q92 (Nat.le_of_ble_eq_true rfl) (Nat.le_of_ble_eq_true rfl) ?_
  refine z_dup dX2_init_8 rfl ?_
  refine z_icall il_X2_11 (c_J2_init (if_pos rfl) hn16) dX2_init_9 rfl rfl ⟨by decide, by decide⟩ (Nat.le_of_ble_eq_true rfl) (Nat.le_of_ble_eq_true rfl) (Nat.le_of_ble_eq_true rfl) (z_cV ?_) z_tV
  refine z_putR dX2_init_12 pf_X2_init_12_2 hT1 (Nat.le_trans (by decide) hL) rfl ?_
  refine z_aload_n dX2_init_15 rfl rfl ?_
  refine z_bipush (v := 40) dX2_init_16 rfl ?_
  refine z_putI dX2_init_18 (pl_X2_18_2 rfl) hT1 (Nat.le_trans (by decide) hL) rfl ?_
  refine z_aload_n dX2_init_21 rfl rfl ?_
  refine z_bipush (v := 8) dX2_init_22 rfl ?_
  refine z_putI dX2_init_24 (pl_X2_22_2 rfl) hT1 (Nat.le_trans (by decide) hL) rfl ?_
  refine z_vret dX2_init_27 rfl (Nat.le_of_ble_eq_true rfl) (Nat.le_of_ble_eq_true rfl) (z_rv_i ?_)
  rfl
