/-! THE CLASS: acts (printed by class21.py) -/
set_option maxRecDepth 20000
/-- the class's trace: how many bodies ran, the first twenty -/
def z_tc (h : z_H) (t : z_Tr) : z_H := (fun a k => if a = 26 ∧ k = 1 then t.1 else if a = 27 then t.2 k else h.1 a k, h.2)
theorem z_tc_self (h : z_H) : h = z_tc h (z_I h 26 1, z_I h 27) := by
  refine z_H_ext (fun a k => ?_) rfl
  show _ = if a = 26 ∧ k = 1 then z_I h 26 1 else if a = 27 then z_I h 27 k else h.1 a k
  split
  · rename_i c; rw [c.1, c.2]; rfl
  · split
    · rename_i c; rw [c]; rfl
    · rfl
theorem z_tc_0 (h : z_H) (t : z_Tr) (v : Int32) : z_sI (z_tc h t) 26 1 v = z_tc h (v, t.2) := by
  refine z_H_ext (fun a k => ?_) rfl
  show (if a = 26 ∧ k = 1 then v else if a = 26 ∧ k = 1 then t.1 else if a = 27 then t.2 k else h.1 a k) = if a = 26 ∧ k = 1 then v else if a = 27 then t.2 k else h.1 a k
  split
  · rfl
  · rfl
theorem z_tc_8 (h : z_H) (t : z_Tr) (j : Nat) (v : Int32) : z_sI (z_tc h t) 27 j v = z_tc h (t.1, upd t.2 j v) := by
  refine z_H_ext (fun a k => ?_) rfl
  show (if a = 27 ∧ k = j then v else if a = 26 ∧ k = 1 then t.1 else if a = 27 then t.2 k else h.1 a k) = if a = 26 ∧ k = 1 then t.1 else if a = 27 then upd t.2 j v k else h.1 a k
  unfold upd
  by_cases e : a = 27
  · subst e
    simp only [true_and]
    rw [if_neg (show ¬ (27 = 26 ∧ k = 1) from fun q => absurd q.1 (by decide)), if_neg (show ¬ (27 = 26 ∧ k = 1) from fun q => absurd q.1 (by decide))]
    simp
  · rw [if_neg (fun q => e q.1), if_neg e, if_neg e]
theorem z_tc_hi {h : z_H} {t : z_Tr} {a k : Nat} (ha : 85 ≤ a) : z_I (z_tc h t) a k = z_I h a k := by
  show (if a = 26 ∧ k = 1 then t.1 else if a = 27 then t.2 k else h.1 a k) = h.1 a k
  rw [if_neg (by omega), if_neg (by omega)]
theorem c_X4_ran {Γ : z_W} {h : z_H} {t : z_Tr} {b : Int32} {B : Nat} (hF : z_F h) (ht : z_cn t.1 B) : z_C Γ M_X4_ran (z_rm 1 0 0) [.ref 26, .int b] (z_tc h t) (z_rv (z_tc h (a_pu1 t b))) := by
  refine z_C.of (by decide +kernel) rfl [some (.ref 26), some (.int b)] (Nat.le_of_ble_eq_true rfl) rfl ?_
  refine z_aload_n dX4_ran_0 rfl rfl ?_
  refine z_getI dX4_ran_1 fl_X4_15_4 (hF.1 26 _ rfl) rfl ?_
  refine z_eqi (t.1) rfl ?_
  refine z_bipush (v := 20) dX4_ran_4 rfl ?_
  refine z_icmp_ge 19 dX4_ran_6 (by decide) (fun c6 => ?_) (fun c6 => ?_)
  · have c6' : ¬ t.1 < 20 := Int32.not_lt.mpr c6
    refine z_aload_n dX4_ran_19 rfl rfl ?_
    refine z_dup dX4_ran_20 rfl ?_
    refine z_getI dX4_ran_21 fl_X4_15_4 (hF.1 26 _ rfl) rfl ?_
    refine z_eqi (t.1) rfl ?_
    refine z_iconst (v := 1) dX4_ran_24 rfl ?_
    refine z_iadd dX4_ran_25 ?_
    refine z_putI dX4_ran_26 (pl_X4_15_4 rfl) (hF.1 26 _ rfl) (by decide) rfl ?_
    refine z_meq (z_tc h ((t.1 + 1), t.2)) (z_tc_0 _ _ _) ?_
    refine z_vret dX4_ran_29 rfl (Nat.le_refl _) (Nat.le_refl _) (z_rv_i ?_)
    unfold a_pu1; rw [if_neg c6']
  · have c6' : t.1 < 20 := Int32.not_le.mp c6
    refine z_aload_n dX4_ran_9 rfl rfl ?_
    refine z_getR 27 dX4_ran_10 fl_X4_9_4 (hF.1 26 _ rfl) rfl (hF.2.1 26 0 27 rfl) ?_
    refine z_aload_n dX4_ran_13 rfl rfl ?_
    refine z_getI dX4_ran_14 fl_X4_15_4 (hF.1 26 _ rfl) rfl ?_
    refine z_eqi (t.1) rfl ?_
    refine z_iload_n dX4_ran_17 rfl rfl ?_
    refine z_iast (z_c t.1) dX4_ran_18 (hF.1 27 _ rfl) (by decide) ht.1 (z_20 ht c6') (by decide) ?_
    refine z_meq (z_tc h (t.1, upd t.2 (z_c t.1) b)) (z_tc_8 _ _ _ _) ?_
    refine z_aload_n dX4_ran_19 rfl rfl ?_
    refine z_dup dX4_ran_20 rfl ?_
    refine z_getI dX4_ran_21 fl_X4_15_4 (hF.1 26 _ rfl) rfl ?_
    refine z_eqi (t.1) rfl ?_
    refine z_iconst (v := 1) dX4_ran_24 rfl ?_
    refine z_iadd dX4_ran_25 ?_
    refine z_putI dX4_ran_26 (pl_X4_15_4 rfl) (hF.1 26 _ rfl) (by decide) rfl ?_
    refine z_meq (z_tc h ((t.1 + 1), (t.1, upd t.2 (z_c t.1) b).2)) (z_tc_0 _ _ _) ?_
    refine z_vret dX4_ran_29 rfl (Nat.le_refl _) (Nat.le_refl _) (z_rv_i ?_)
    unfold a_pu1; rw [if_pos c6']
theorem c_X7_turns_7 {Γ : z_W} {h : z_H} {t : z_Tr} {L : Nat} {x : Int32} {B : Nat} (hF : z_F h) (hT : z_T h L = some (.inl 7)) (hR : z_R h L 0 = some 26) (h85 : 85 ≤ L) (ht : z_cn t.1 B) (hB : B + 5 < 2 ^ 31) : z_C Γ M_X7_turns (z_rm 2 0 0) [.ref L, .int x] (z_tc h t) (z_ri (a_vLT 0 (z_I h L 2) (z_I h L 1) x) (z_tc h (a_pu t (a_bLT 0)))) := by
  refine z_C.of (by decide +kernel) rfl [some (.ref L), some (.int x)] (Nat.le_of_ble_eq_true rfl) rfl ?_
  refine z_aload_n dX7_turns_0 rfl rfl ?_
  refine z_getR 26 dX7_turns_1 fl_X7_7_7 hT rfl hR ?_
  refine z_bipush (v := 10) dX7_turns_4 rfl ?_
  refine z_vcall vl_X7_23_4 (c_X4_ran hF ht) dX7_turns_6 rfl rfl (hF.1 26 _ rfl) ⟨by decide, by decide⟩ (Nat.le_of_ble_eq_true rfl) (Nat.le_refl _) (Nat.le_refl _) (z_cV ?_) z_tV
  refine z_meq (z_tc h (a_pu t ([10]))) rfl ?_
  refine z_iload_n dX7_turns_9 rfl rfl ?_
  refine z_aload_n dX7_turns_10 rfl rfl ?_
  refine z_getI dX7_turns_11 fl_X7_13_7 hT rfl ?_
  refine z_eqi (z_I h L 1) (z_tc_hi h85) ?_
  refine z_iadd dX7_turns_14 ?_
  refine z_iret dX7_turns_15 rfl rfl (Nat.le_refl _) (Nat.le_refl _) (z_ri_i ?_ ?_)
  · rfl
  · rfl
theorem c_X7_turns_8 {Γ : z_W} {h : z_H} {t : z_Tr} {L : Nat} {x : Int32} {B : Nat} (hF : z_F h) (hT : z_T h L = some (.inl 8)) (hR : z_R h L 0 = some 26) (h85 : 85 ≤ L) (ht : z_cn t.1 B) (hB : B + 5 < 2 ^ 31) : z_C Γ M_X7_turns (z_rm 2 0 0) [.ref L, .int x] (z_tc h t) (z_ri (a_vLT 1 (z_I h L 2) (z_I h L 1) x) (z_tc h (a_pu t (a_bLT 1)))) := by
  refine z_C.of (by decide +kernel) rfl [some (.ref L), some (.int x)] (Nat.le_of_ble_eq_true rfl) rfl ?_
  refine z_aload_n dX7_turns_0 rfl rfl ?_
  refine z_getR 26 dX7_turns_1 fl_X7_7_8 hT rfl hR ?_
  refine z_bipush (v := 10) dX7_turns_4 rfl ?_
  refine z_vcall vl_X7_23_4 (c_X4_ran hF ht) dX7_turns_6 rfl rfl (hF.1 26 _ rfl) ⟨by decide, by decide⟩ (Nat.le_of_ble_eq_true rfl) (Nat.le_refl _) (Nat.le_refl _) (z_cV ?_) z_tV
  refine z_meq (z_tc h (a_pu t ([10]))) rfl ?_
  refine z_iload_n dX7_turns_9 rfl rfl ?_
  refine z_aload_n dX7_turns_10 rfl rfl ?_
  refine z_getI dX7_turns_11 fl_X7_13_8 hT rfl ?_
  refine z_eqi (z_I h L 1) (z_tc_hi h85) ?_
  refine z_iadd dX7_turns_14 ?_
  refine z_iret dX7_turns_15 rfl rfl (Nat.le_refl _) (Nat.le_refl _) (z_ri_i ?_ ?_)
  · rfl
  · rfl
theorem c_X7_turns_9 {Γ : z_W} {h : z_H} {t : z_Tr} {L : Nat} {x : Int32} {B : Nat} (hF : z_F h) (hT : z_T h L = some (.inl 9)) (hR : z_R h L 0 = some 26) (h85 : 85 ≤ L) (ht : z_cn t.1 B) (hB : B + 5 < 2 ^ 31) : z_C Γ M_X7_turns (z_rm 2 0 0) [.ref L, .int x] (z_tc h t) (z_ri (a_vLT 2 (z_I h L 2) (z_I h L 1) x) (z_tc h (a_pu t (a_bLT 2)))) := by
  refine z_C.of (by decide +kernel) rfl [some (.ref L), some (.int x)] (Nat.le_of_ble_eq_true rfl) rfl ?_
  refine z_aload_n dX7_turns_0 rfl rfl ?_
  refine z_getR 26 dX7_turns_1 fl_X7_7_9 hT rfl hR ?_
  refine z_bipush (v := 10) dX7_turns_4 rfl ?_
  refine z_vcall vl_X7_23_4 (c_X4_ran hF ht) dX7_turns_6 rfl rfl (hF.1 26 _ rfl) ⟨by decide, by decide⟩ (Nat.le_of_ble_eq_true rfl) (Nat.le_refl _) (Nat.le_refl _) (z_cV ?_) z_tV
  refine z_meq (z_tc h (a_pu t ([10]))) rfl ?_
  refine z_iload_n dX7_turns_9 rfl rfl ?_
  refine z_aload_n dX7_turns_10 rfl rfl ?_
  refine z_getI dX7_turns_11 fl_X7_13_9 hT rfl ?_
  refine z_eqi (z_I h L 1) (z_tc_hi h85) ?_
  refine z_iadd dX7_turns_14 ?_
  refine z_iret dX7_turns_15 rfl rfl (Nat.le_refl _) (Nat.le_refl _) (z_ri_i ?_ ?_)
  · rfl
  · rfl
theorem c_X7_turns_10 {Γ : z_W} {h : z_H} {t : z_Tr} {L : Nat} {x : Int32} {B : Nat} (hF : z_F h) (hT : z_T h L = some (.inl 10)) (hR : z_R h L 0 = some 26) (h85 : 85 ≤ L) (ht : z_cn t.1 B) (hB : B + 5 < 2 ^ 31) : z_C Γ M_X7_turns (z_rm 2 0 0) [.ref L, .int x] (z_tc h t) (z_ri (a_vLT 3 (z_I h L 2) (z_I h L 1) x) (z_tc h (a_pu t (a_bLT 3)))) := by
  refine z_C.of (by decide +kernel) rfl [some (.ref L), some (.int x)] (Nat.le_of_ble_eq_true rfl) rfl ?_
  refine z_aload_n dX7_turns_0 rfl rfl ?_
  refine z_getR 26 dX7_turns_1 fl_X7_7_10 hT rfl hR ?_
  refine z_bipush (v := 10) dX7_turns_4 rfl ?_
  refine z_vcall vl_X7_23_4 (c_X4_ran hF ht) dX7_turns_6 rfl rfl (hF.1 26 _ rfl) ⟨by decide, by decide⟩ (Nat.le_of_ble_eq_true rfl) (Nat.le_refl _) (Nat.le_refl _) (z_cV ?_) z_tV
  refine z_meq (z_tc h (a_pu t ([10]))) rfl ?_
  refine z_iload_n dX7_turns_9 rfl rfl ?_
  refine z_aload_n dX7_turns_10 rfl rfl ?_
  refine z_getI dX7_turns_11 fl_X7_13_10 hT rfl ?_
  refine z_eqi (z_I h L 1) (z_tc_hi h85) ?_
  refine z_iadd dX7_turns_14 ?_
  refine z_iret dX7_turns_15 rfl rfl (Nat.le_refl _) (Nat.le_refl _) (z_ri_i ?_ ?_)
  · rfl
  · rfl
theorem c_X7_turns_11 {Γ : z_W} {h : z_H} {t : z_Tr} {L : Nat} {x : Int32} {B : Nat} (hF : z_F h) (hT : z_T h L = some (.inl 11)) (hR : z_R h L 0 = some 26) (h85 : 85 ≤ L) (ht : z_cn t.1 B) (hB : B + 5 < 2 ^ 31) : z_C Γ M_X7_turns (z_rm 2 0 0) [.ref L, .int x] (z_tc h t) (z_ri (a_vLT 4 (z_I h L 2) (z_I h L 1) x) (z_tc h (a_pu t (a_bLT 4)))) := by
  refine z_C.of (by decide +kernel) rfl [some (.ref L), some (.int x)] (Nat.le_of_ble_eq_true rfl) rfl ?_
  refine z_aload_n dX7_turns_0 rfl rfl ?_
  refine z_getR 26 dX7_turns_1 fl_X7_7_11 hT rfl hR ?_
  refine z_bipush (v := 10) dX7_turns_4 rfl ?_
  refine z_vcall vl_X7_23_4 (c_X4_ran hF ht) dX7_turns_6 rfl rfl (hF.1 26 _ rfl) ⟨by decide, by decide⟩ (Nat.le_of_ble_eq_true rfl) (Nat.le_refl _) (Nat.le_refl _) (z_cV ?_) z_tV
  refine z_meq (z_tc h (a_pu t ([10]))) rfl ?_
  refine z_iload_n dX7_turns_9 rfl rfl ?_
  refine z_aload_n dX7_turns_10 rfl rfl ?_
  refine z_getI dX7_turns_11 fl_X7_13_11 hT rfl ?_
  refine z_eqi (z_I h L 1) (z_tc_hi h85) ?_
  refine z_iadd dX7_turns_14 ?_
  refine z_iret dX7_turns_15 rfl rfl (Nat.le_refl _) (Nat.le_refl _) (z_ri_i ?_ ?_)
  · rfl
  · rfl
theorem c_X7_turns_12 {Γ : z_W} {h : z_H} {t : z_Tr} {L : Nat} {x : Int32} {B : Nat} (hF : z_F h) (hT : z_T h L = some (.inl 12)) (hR : z_R h L 0 = some 26) (h85 : 85 ≤ L) (ht : z_cn t.1 B) (hB : B + 5 < 2 ^ 31) : z_C Γ M_X7_turns (z_rm 2 0 0) [.ref L, .int x] (z_tc h t) (z_ri (a_vLT 5 (z_I h L 2) (z_I h L 1) x) (z_tc h (a_pu t (a_bLT 5)))) := by
  refine z_C.of (by decide +kernel) rfl [some (.ref L), some (.int x)] (Nat.le_of_ble_eq_true rfl) rfl ?_
  refine z_aload_n dX7_turns_0 rfl rfl ?_
  refine z_getR 26 dX7_turns_1 fl_X7_7_12 hT rfl hR ?_
  refine z_bipush (v := 10) dX7_turns_4 rfl ?_
  refine z_vcall vl_X7_23_4 (c_X4_ran hF ht) dX7_turns_6 rfl rfl (hF.1 26 _ rfl) ⟨by decide, by decide⟩ (Nat.le_of_ble_eq_true rfl) (Nat.le_refl _) (Nat.le_refl _) (z_cV ?_) z_tV
  refine z_meq (z_tc h (a_pu t ([10]))) rfl ?_
  refine z_iload_n dX7_turns_9 rfl rfl ?_
  refine z_aload_n dX7_turns_10 rfl rfl ?_
  refine z_getI dX7_turns_11 fl_X7_13_12 hT rfl ?_
  refine z_eqi (z_I h L 1) (z_tc_hi h85) ?_
  refine z_iadd dX7_turns_14 ?_
  refine z_iret dX7_turns_15 rfl rfl (Nat.le_refl _) (Nat.le_refl _) (z_ri_i ?_ ?_)
  · rfl
  · rfl
theorem c_X7_turns_13 {Γ : z_W} {h : z_H} {t : z_Tr} {L : Nat} {x : Int32} {B : Nat} (hF : z_F h) (hT : z_T h L = some (.inl 13)) (hR : z_R h L 0 = some 26) (h85 : 85 ≤ L) (ht : z_cn t.1 B) (hB : B + 5 < 2 ^ 31) : z_C Γ M_X7_turns (z_rm 2 0 0) [.ref L, .int x] (z_tc h t) (z_ri (a_vLT 6 (z_I h L 2) (z_I h L 1) x) (z_tc h (a_pu t (a_bLT 6)))) := by
  refine z_C.of (by decide +kernel) rfl [some (.ref L), some (.int x)] (Nat.le_of_ble_eq_true rfl) rfl ?_
  refine z_aload_n dX7_turns_0 rfl rfl ?_
  refine z_getR 26 dX7_turns_1 fl_X7_7_13 hT rfl hR ?_
  refine z_bipush (v := 10) dX7_turns_4 rfl ?_
  refine z_vcall vl_X7_23_4 (c_X4_ran hF ht) dX7_turns_6 rfl rfl (hF.1 26 _ rfl) ⟨by decide, by decide⟩ (Nat.le_of_ble_eq_true rfl) (Nat.le_refl _) (Nat.le_refl _) (z_cV ?_) z_tV
  refine z_meq (z_tc h (a_pu t ([10]))) rfl ?_
  refine z_iload_n dX7_turns_9 rfl rfl ?_
  refine z_aload_n dX7_turns_10 rfl rfl ?_
  refine z_getI dX7_turns_11 fl_X7_13_13 hT rfl ?_
  refine z_eqi (z_I h L 1) (z_tc_hi h85) ?_
  refine z_iadd dX7_turns_14 ?_
  refine z_iret dX7_turns_15 rfl rfl (Nat.le_refl _) (Nat.le_refl _) (z_ri_i ?_ ?_)
  · rfl
  · rfl
theorem c_X9_turns_9 {Γ : z_W} {h : z_H} {t : z_Tr} {L : Nat} {x : Int32} {B : Nat} (hF : z_F h) (hT : z_T h L = some (.inl 9)) (hR : z_R h L 0 = some 26) (h85 : 85 ≤ L) (ht : z_cn t.1 B) (hB : B + 10 < 2 ^ 31) : z_C Γ M_X9_turns (z_rm 3 0 0) [.ref L, .int x] (z_tc h t) (z_ri (a_vT 2 (z_I h L 2) (z_I h L 1) x) (z_tc h (a_pu t (a_bT 2)))) := by
  refine z_C.of (by decide +kernel) rfl [some (.ref L), some (.int x)] (Nat.le_of_ble_eq_true rfl) rfl ?_
  refine z_aload_n dX9_turns_0 rfl rfl ?_
  refine z_getR 26 dX9_turns_1 fl_X9_13_9 hT rfl hR ?_
  refine z_bipush (v := 30) dX9_turns_4 rfl ?_
  refine z_vcall vl_X9_19_4 (c_X4_ran hF ht) dX9_turns_6 rfl rfl (hF.1 26 _ rfl) ⟨by decide, by decide⟩ (Nat.le_of_ble_eq_true rfl) (Nat.le_refl _) (Nat.le_refl _) (z_cV ?_) z_tV
  refine z_meq (z_tc h (a_pu t ([30]))) rfl ?_
  refine z_aload_n dX9_turns_9 rfl rfl ?_
  refine z_iload_n dX9_turns_10 rfl rfl ?_
  refine z_iconst (v := 3) dX9_turns_11 rfl ?_
  refine z_imul dX9_turns_12 ?_
  refine z_ucall ul_X9_25 (c_X7_turns_9 hF hT hR h85 (a_pu_n _ _ _ ht (by simp only [List.length_append, List.length_cons, List.length_nil]; omega)) (by simp only [List.length_append, List.length_cons, List.length_nil]; omega)) dX9_turns_13 rfl rfl hT rfl ⟨by decide, by decide⟩ (Nat.le_of_ble_eq_true rfl) (Nat.le_refl _) (Nat.le_refl _) (z_cI ?_) z_tI
  refine z_meq (z_tc h (a_pu t ([30] ++ a_bLT 2))) (congrArg (z_tc h) (a_pu_2 _ _ _)) ?_
  refine z_eqi (a_vLT 2 (z_I h L 2) (z_I h L 1) (x * 3)) rfl ?_
  refine z_iret dX9_turns_16 rfl rfl (Nat.le_refl _) (Nat.le_refl _) (z_ri_i ?_ ?_)
  · rfl
  · rfl
theorem c_X9_turns_12 {Γ : z_W} {h : z_H} {t : z_Tr} {L : Nat} {x : Int32} {B : Nat} (hF : z_F h) (hT : z_T h L = some (.inl 12)) (hR : z_R h L 0 = some 26) (h85 : 85 ≤ L) (ht : z_cn t.1 B) (hB : B + 10 < 2 ^ 31) : z_C Γ M_X9_turns (z_rm 3 0 0) [.ref L, .int x] (z_tc h t) (z_ri (a_vT 5 (z_I h L 2) (z_I h L 1) x) (z_tc h (a_pu t (a_bT 5)))) := by
  refine z_C.of (by decide +kernel) rfl [some (.ref L), some (.int x)] (Nat.le_of_ble_eq_true rfl) rfl ?_
  refine z_aload_n dX9_turns_0 rfl rfl ?_
  refine z_getR 26 dX9_turns_1 fl_X9_13_12 hT rfl hR ?_
  refine z_bipush (v := 30) dX9_turns_4 rfl ?_
  refine z_vcall vl_X9_19_4 (c_X4_ran hF ht) dX9_turns_6 rfl rfl (hF.1 26 _ rfl) ⟨by decide, by decide⟩ (Nat.le_of_ble_eq_true rfl) (Nat.le_refl _) (Nat.le_refl _) (z_cV ?_) z_tV
  refine z_meq (z_tc h (a_pu t ([30]))) rfl ?_
  refine z_aload_n dX9_turns_9 rfl rfl ?_
  refine z_iload_n dX9_turns_10 rfl rfl ?_
  refine z_iconst (v := 3) dX9_turns_11 rfl ?_
  refine z_imul dX9_turns_12 ?_
  refine z_ucall ul_X9_25 (c_X7_turns_12 hF hT hR h85 (a_pu_n _ _ _ ht (by simp only [List.length_append, List.length_cons, List.length_nil]; omega)) (by simp only [List.length_append, List.length_cons, List.length_nil]; omega)) dX9_turns_13 rfl rfl hT rfl ⟨by decide, by decide⟩ (Nat.le_of_ble_eq_true rfl) (Nat.le_refl _) (Nat.le_refl _) (z_cI ?_) z_tI
  refine z_meq (z_tc h (a_pu t ([30] ++ a_bLT 5))) (congrArg (z_tc h) (a_pu_2 _ _ _)) ?_
  refine z_eqi (a_vLT 5 (z_I h L 2) (z_I h L 1) (x * 3)) rfl ?_
  refine z_iret dX9_turns_16 rfl rfl (Nat.le_refl _) (Nat.le_refl _) (z_ri_i ?_ ?_)
  · rfl
  · rfl
theorem c_X11_turns_11 {Γ : z_W} {h : z_H} {t : z_Tr} {L : Nat} {x : Int32} {B : Nat} (hF : z_F h) (hT : z_T h L = some (.inl 11)) (hR : z_R h L 0 = some 26) (h85 : 85 ≤ L) (ht : z_cn t.1 B) (hB : B + 10 < 2 ^ 31) : z_C Γ M_X11_turns (z_rm 3 0 0) [.ref L, .int x] (z_tc h t) (z_ri (a_vT 4 (z_I h L 2) (z_I h L 1) x) (z_tc h (a_pu t (a_bT 4)))) := by
  refine z_C.of (by decide +kernel) rfl [some (.ref L), some (.int x)] (Nat.le_of_ble_eq_true rfl) rfl ?_
  refine z_aload_n dX11_turns_0 rfl rfl ?_
  refine z_getR 26 dX11_turns_1 fl_X11_19_11 hT rfl hR ?_
  refine z_bipush (v := 50) dX11_turns_4 rfl ?_
  refine z_vcall vl_X11_23_4 (c_X4_ran hF ht) dX11_turns_6 rfl rfl (hF.1 26 _ rfl) ⟨by decide, by decide⟩ (Nat.le_of_ble_eq_true rfl) (Nat.le_refl _) (Nat.le_refl _) (z_cV ?_) z_tV
  refine z_meq (z_tc h (a_pu t ([50]))) rfl ?_
  refine z_aload_n dX11_turns_9 rfl rfl ?_
  refine z_iload_n dX11_turns_10 rfl rfl ?_
  refine z_wcall wl_X11_29 (c_X7_turns_11 hF hT hR h85 (a_pu_n _ _ _ ht (by simp only [List.length_append, List.length_cons, List.length_nil]; omega)) (by simp only [List.length_append, List.length_cons, List.length_nil]; omega)) dX11_turns_11 rfl rfl hT rfl ⟨by decide, by decide⟩ (Nat.le_of_ble_eq_true rfl) (Nat.le_refl _) (Nat.le_refl _) (z_cI ?_) z_tI
  refine z_meq (z_tc h (a_pu t ([50] ++ a_bLT 4))) (congrArg (z_tc h) (a_pu_2 _ _ _)) ?_
  refine z_eqi (a_vLT 4 (z_I h L 2) (z_I h L 1) x) rfl ?_
  refine z_ineg dX11_turns_14 ?_
  refine z_iret dX11_turns_15 rfl rfl (Nat.le_refl _) (Nat.le_refl _) (z_ri_i ?_ ?_)
  · rfl
  · rfl
theorem c_X13_turns_13 {Γ : z_W} {h : z_H} {t : z_Tr} {L : Nat} {x : Int32} {B : Nat} (hF : z_F h) (hT : z_T h L = some (.inl 13)) (hR : z_R h L 0 = some 26) (h85 : 85 ≤ L) (ht : z_cn t.1 B) (hB : B + 10 < 2 ^ 31) : z_C Γ M_X13_turns (z_rm 3 0 0) [.ref L, .int x] (z_tc h t) (z_ri (a_vT 6 (z_I h L 2) (z_I h L 1) x) (z_tc h (a_pu t (a_bT 6)))) := by
  refine z_C.of (by decide +kernel) rfl [some (.ref L), some (.int x)] (Nat.le_of_ble_eq_true rfl) rfl ?_
  refine z_aload_n dX13_turns_0 rfl rfl ?_
  refine z_getR 26 dX13_turns_1 fl_X13_23_13 hT rfl hR ?_
  refine z_bipush (v := 71) dX13_turns_4 rfl ?_
  refine z_vcall vl_X13_27_4 (c_X4_ran hF ht) dX13_turns_6 rfl rfl (hF.1 26 _ rfl) ⟨by decide, by decide⟩ (Nat.le_of_ble_eq_true rfl) (Nat.le_refl _) (Nat.le_refl _) (z_cV ?_) z_tV
  refine z_meq (z_tc h (a_pu t ([71]))) rfl ?_
  refine z_aload_n dX13_turns_9 rfl rfl ?_
  refine z_iload_n dX13_turns_10 rfl rfl ?_
  refine z_wcall wl_X13_37 (c_X7_turns_13 hF hT hR h85 (a_pu_n _ _ _ ht (by simp only [List.length_append, List.length_cons, List.length_nil]; omega)) (by simp only [List.length_append, List.length_cons, List.length_nil]; omega)) dX13_turns_11 rfl rfl hT rfl ⟨by decide, by decide⟩ (Nat.le_of_ble_eq_true rfl) (Nat.le_refl _) (Nat.le_refl _) (z_cI ?_) z_tI
  refine z_meq (z_tc h (a_pu t ([71] ++ a_bLT 6))) (congrArg (z_tc h) (a_pu_2 _ _ _)) ?_
  refine z_eqi (a_vLT 6 (z_I h L 2) (z_I h L 1) x) rfl ?_
  refine z_aload_n dX13_turns_14 rfl rfl ?_
  refine z_getI dX13_turns_15 fl_X13_40_13 hT rfl ?_
  refine z_eqi (z_I h L 2) (z_tc_hi h85) ?_
  refine z_ixor dX13_turns_18 ?_
  refine z_iret dX13_turns_19 rfl rfl (Nat.le_refl _) (Nat.le_refl _) (z_ri_i ?_ ?_)
  · rfl
  · rfl
theorem c_X7_climbs_7 {Γ : z_W} {h : z_H} {t : z_Tr} {L : Nat} {x : Int32} {B : Nat} (hF : z_F h) (hT : z_T h L = some (.inl 7)) (hR : z_R h L 0 = some 26) (h85 : 85 ≤ L) (ht : z_cn t.1 B) (hB : B + 15 < 2 ^ 31) : z_C Γ M_X7_climbs (z_rm 5 0 0) [.ref L, .int x] (z_tc h t) (z_ri (a_vLC 0 (z_I h L 2) (z_I h L 1) x) (z_tc h (a_pu t (a_bLC 0)))) := by
  refine z_C.of (by decide +kernel) rfl [some (.ref L), some (.int x)] (Nat.le_of_ble_eq_true rfl) rfl ?_
  refine z_aload_n dX7_climbs_0 rfl rfl ?_
  refine z_getR 26 dX7_climbs_1 fl_X7_7_7 hT rfl hR ?_
  refine z_bipush (v := 11) dX7_climbs_4 rfl ?_
  refine z_vcall vl_X7_23_4 (c_X4_ran hF ht) dX7_climbs_6 rfl rfl (hF.1 26 _ rfl) ⟨by decide, by decide⟩ (Nat.le_of_ble_eq_true rfl) (Nat.le_refl _) (Nat.le_refl _) (z_cV ?_) z_tV
  refine z_meq (z_tc h (a_pu t ([11]))) rfl ?_
  refine z_aload_n dX7_climbs_9 rfl rfl ?_
  refine z_iload_n dX7_climbs_10 rfl rfl ?_
  refine z_vcall vl_X7_29_7 (c_X7_turns_7 hF hT hR h85 (a_pu_n _ _ _ ht (by simp only [List.length_append, List.length_cons, List.length_nil]; omega)) (by simp only [List.length_append, List.length_cons, List.length_nil]; omega)) dX7_climbs_11 rfl rfl hT ⟨by decide, by decide⟩ (Nat.le_of_ble_eq_true rfl) (Nat.le_refl _) (Nat.le_refl _) (z_cI ?_) z_tI
  refine z_meq (z_tc h (a_pu t ([11] ++ a_bLT 0))) (congrArg (z_tc h) (a_pu_2 _ _ _)) ?_
  refine z_eqi (a_vLT 0 (z_I h L 2) (z_I h L 1) x) rfl ?_
  refine z_aload_n dX7_climbs_14 rfl rfl ?_
  refine z_getI dX7_climbs_15 fl_X7_17_7 hT rfl ?_
  refine z_eqi (z_I h L 2) (z_tc_hi h85) ?_
  refine z_isub dX7_climbs_18 ?_
  refine z_iret dX7_climbs_19 rfl rfl (Nat.le_refl _) (Nat.le_refl _) (z_ri_i ?_ ?_)
  · rfl
  · rfl
theorem c_X7_climbs_8 {Γ : z_W} {h : z_H} {t : z_Tr} {L : Nat} {x : Int32} {B : Nat} (hF : z_F h) (hT : z_T h L = some (.inl 8)) (hR : z_R h L 0 = some 26) (h85 : 85 ≤ L) (ht : z_cn t.1 B) (hB : B + 15 < 2 ^ 31) : z_C Γ M_X7_climbs (z_rm 5 0 0) [.ref L, .int x] (z_tc h t) (z_ri (a_vLC 1 (z_I h L 2) (z_I h L 1) x) (z_tc h (a_pu t (a_bLC 1)))) := by
  refine z_C.of (by decide +kernel) rfl [some (.ref L), some (.int x)] (Nat.le_of_ble_eq_true rfl) rfl ?_
  refine z_aload_n dX7_climbs_0 rfl rfl ?_
  refine z_getR 26 dX7_climbs_1 fl_X7_7_8 hT rfl hR ?_
  refine z_bipush (v := 11) dX7_climbs_4 rfl ?_
  refine z_vcall vl_X7_23_4 (c_X4_ran hF ht) dX7_climbs_6 rfl rfl (hF.1 26 _ rfl) ⟨by decide, by decide⟩ (Nat.le_of_ble_eq_true rfl) (Nat.le_refl _) (Nat.le_refl _) (z_cV ?_) z_tV
  refine z_meq (z_tc h (a_pu t ([11]))) rfl ?_
  refine z_aload_n dX7_climbs_9 rfl rfl ?_
  refine z_iload_n dX7_climbs_10 rfl rfl ?_
  refine z_vcall vl_X7_29_8 (c_X7_turns_8 hF hT hR h85 (a_pu_n _ _ _ ht (by simp only [List.length_append, List.length_cons, List.length_nil]; omega)) (by simp only [List.length_append, List.length_cons, List.length_nil]; omega)) dX7_climbs_11 rfl rfl hT ⟨by decide, by decide⟩ (Nat.le_of_ble_eq_true rfl) (Nat.le_refl _) (Nat.le_refl _) (z_cI ?_) z_tI
  refine z_meq (z_tc h (a_pu t ([11] ++ a_bLT 1))) (congrArg (z_tc h) (a_pu_2 _ _ _)) ?_
  refine z_eqi (a_vLT 1 (z_I h L 2) (z_I h L 1) x) rfl ?_
  refine z_aload_n dX7_climbs_14 rfl rfl ?_
  refine z_getI dX7_climbs_15 fl_X7_17_8 hT rfl ?_
  refine z_eqi (z_I h L 2) (z_tc_hi h85) ?_
  refine z_isub dX7_climbs_18 ?_
  refine z_iret dX7_climbs_19 rfl rfl (Nat.le_refl _) (Nat.le_refl _) (z_ri_i ?_ ?_)
  · rfl
  · rfl
theorem c_X7_climbs_9 {Γ : z_W} {h : z_H} {t : z_Tr} {L : Nat} {x : Int32} {B : Nat} (hF : z_F h) (hT : z_T h L = some (.inl 9)) (hR : z_R h L 0 = some 26) (h85 : 85 ≤ L) (ht : z_cn t.1 B) (hB : B + 15 < 2 ^ 31) : z_C Γ M_X7_climbs (z_rm 5 0 0) [.ref L, .int x] (z_tc h t) (z_ri (a_vLC 2 (z_I h L 2) (z_I h L 1) x) (z_tc h (a_pu t (a_bLC 2)))) := by
  refine z_C.of (by decide +kernel) rfl [some (.ref L), some (.int x)] (Nat.le_of_ble_eq_true rfl) rfl ?_
  refine z_aload_n dX7_climbs_0 rfl rfl ?_
  refine z_getR 26 dX7_climbs_1 fl_X7_7_9 hT rfl hR ?_
  refine z_bipush (v := 11) dX7_climbs_4 rfl ?_
  refine z_vcall vl_X7_23_4 (c_X4_ran hF ht) dX7_climbs_6 rfl rfl (hF.1 26 _ rfl) ⟨by decide, by decide⟩ (Nat.le_of_ble_eq_true rfl) (Nat.le_refl _) (Nat.le_refl _) (z_cV ?_) z_tV
  refine z_meq (z_tc h (a_pu t ([11]))) rfl ?_
  refine z_aload_n dX7_climbs_9 rfl rfl ?_
  refine z_iload_n dX7_climbs_10 rfl rfl ?_
  refine z_vcall vl_X7_29_9 (c_X9_turns_9 hF hT hR h85 (a_pu_n _ _ _ ht (by simp only [List.length_append, List.length_cons, List.length_nil]; omega)) (by simp only [List.length_append, List.length_cons, List.length_nil]; omega)) dX7_climbs_11 rfl rfl hT ⟨by decide, by decide⟩ (Nat.le_of_ble_eq_true rfl) (Nat.le_refl _) (Nat.le_refl _) (z_cI ?_) z_tI
  refine z_meq (z_tc h (a_pu t ([11] ++ a_bT 2))) (congrArg (z_tc h) (a_pu_2 _ _ _)) ?_
  refine z_eqi (a_vT 2 (z_I h L 2) (z_I h L 1) x) rfl ?_
  refine z_aload_n dX7_climbs_14 rfl rfl ?_
  refine z_getI dX7_climbs_15 fl_X7_17_9 hT rfl ?_
  refine z_eqi (z_I h L 2) (z_tc_hi h85) ?_
  refine z_isub dX7_climbs_18 ?_
  refine z_iret dX7_climbs_19 rfl rfl (Nat.le_refl _) (Nat.le_refl _) (z_ri_i ?_ ?_)
  · rfl
  · rfl
theorem c_X7_climbs_10 {Γ : z_W} {h : z_H} {t : z_Tr} {L : Nat} {x : Int32} {B : Nat} (hF : z_F h) (hT : z_T h L = some (.inl 10)) (hR : z_R h L 0 = some 26) (h85 : 85 ≤ L) (ht : z_cn t.1 B) (hB : B + 15 < 2 ^ 31) : z_C Γ M_X7_climbs (z_rm 5 0 0) [.ref L, .int x] (z_tc h t) (z_ri (a_vLC 3 (z_I h L 2) (z_I h L 1) x) (z_tc h (a_pu t (a_bLC 3)))) := by
  refine z_C.of (by decide +kernel) rfl [some (.ref L), some (.int x)] (Nat.le_of_ble_eq_true rfl) rfl ?_
  refine z_aload_n dX7_climbs_0 rfl rfl ?_
  refine z_getR 26 dX7_climbs_1 fl_X7_7_10 hT rfl hR ?_
  refine z_bipush (v := 11) dX7_climbs_4 rfl ?_
  refine z_vcall vl_X7_23_4 (c_X4_ran hF ht) dX7_climbs_6 rfl rfl (hF.1 26 _ rfl) ⟨by decide, by decide⟩ (Nat.le_of_ble_eq_true rfl) (Nat.le_refl _) (Nat.le_refl _) (z_cV ?_) z_tV
  refine z_meq (z_tc h (a_pu t ([11]))) rfl ?_
  refine z_aload_n dX7_climbs_9 rfl rfl ?_
  refine z_iload_n dX7_climbs_10 rfl rfl ?_
  refine z_vcall vl_X7_29_10 (c_X7_turns_10 hF hT hR h85 (a_pu_n _ _ _ ht (by simp only [List.length_append, List.length_cons, List.length_nil]; omega)) (by simp only [List.length_append, List.length_cons, List.length_nil]; omega)) dX7_climbs_11 rfl rfl hT ⟨by decide, by decide⟩ (Nat.le_of_ble_eq_true rfl) (Nat.le_refl _) (Nat.le_refl _) (z_cI ?_) z_tI
  refine z_meq (z_tc h (a_pu t ([11] ++ a_bLT 3))) (congrArg (z_tc h) (a_pu_2 _ _ _)) ?_
  refine z_eqi (a_vLT 3 (z_I h L 2) (z_I h L 1) x) rfl ?_
  refine z_aload_n dX7_climbs_14 rfl rfl ?_
  refine z_getI dX7_climbs_15 fl_X7_17_10 hT rfl ?_
  refine z_eqi (z_I h L 2) (z_tc_hi h85) ?_
  refine z_isub dX7_climbs_18 ?_
  refine z_iret dX7_climbs_19 rfl rfl (Nat.le_refl _) (Nat.le_refl _) (z_ri_i ?_ ?_)
  · rfl
  · rfl
theorem c_X7_climbs_11 {Γ : z_W} {h : z_H} {t : z_Tr} {L : Nat} {x : Int32} {B : Nat} (hF : z_F h) (hT : z_T h L = some (.inl 11)) (hR : z_R h L 0 = some 26) (h85 : 85 ≤ L) (ht : z_cn t.1 B) (hB : B + 15 < 2 ^ 31) : z_C Γ M_X7_climbs (z_rm 5 0 0) [.ref L, .int x] (z_tc h t) (z_ri (a_vLC 4 (z_I h L 2) (z_I h L 1) x) (z_tc h (a_pu t (a_bLC 4)))) := by
  refine z_C.of (by decide +kernel) rfl [some (.ref L), some (.int x)] (Nat.le_of_ble_eq_true rfl) rfl ?_
  refine z_aload_n dX7_climbs_0 rfl rfl ?_
  refine z_getR 26 dX7_climbs_1 fl_X7_7_11 hT rfl hR ?_
  refine z_bipush (v := 11) dX7_climbs_4 rfl ?_
  refine z_vcall vl_X7_23_4 (c_X4_ran hF ht) dX7_climbs_6 rfl rfl (hF.1 26 _ rfl) ⟨by decide, by decide⟩ (Nat.le_of_ble_eq_true rfl) (Nat.le_refl _) (Nat.le_refl _) (z_cV ?_) z_tV
  refine z_meq (z_tc h (a_pu t ([11]))) rfl ?_
  refine z_aload_n dX7_climbs_9 rfl rfl ?_
  refine z_iload_n dX7_climbs_10 rfl rfl ?_
  refine z_vcall vl_X7_29_11 (c_X11_turns_11 hF hT hR h85 (a_pu_n _ _ _ ht (by simp only [List.length_append, List.length_cons, List.length_nil]; omega)) (by simp only [List.length_append, List.length_cons, List.length_nil]; omega)) dX7_climbs_11 rfl rfl hT ⟨by decide, by decide⟩ (Nat.le_of_ble_eq_true rfl) (Nat.le_refl _) (Nat.le_refl _) (z_cI ?_) z_tI
  refine z_meq (z_tc h (a_pu t ([11] ++ a_bT 4))) (congrArg (z_tc h) (a_pu_2 _ _ _)) ?_
  refine z_eqi (a_vT 4 (z_I h L 2) (z_I h L 1) x) rfl ?_
  refine z_aload_n dX7_climbs_14 rfl rfl ?_
  refine z_getI dX7_climbs_15 fl_X7_17_11 hT rfl ?_
  refine z_eqi (z_I h L 2) (z_tc_hi h85) ?_
  refine z_isub dX7_climbs_18 ?_
  refine z_iret dX7_climbs_19 rfl rfl (Nat.le_refl _) (Nat.le_refl _) (z_ri_i ?_ ?_)
  · rfl
  · rfl
theorem c_X7_climbs_12 {Γ : z_W} {h : z_H} {t : z_Tr} {L : Nat} {x : Int32} {B : Nat} (hF : z_F h) (hT : z_T h L = some (.inl 12)) (hR : z_R h L 0 = some 26) (h85 : 85 ≤ L) (ht : z_cn t.1 B) (hB : B + 15 < 2 ^ 31) : z_C Γ M_X7_climbs (z_rm 5 0 0) [.ref L, .int x] (z_tc h t) (z_ri (a_vLC 5 (z_I h L 2) (z_I h L 1) x) (z_tc h (a_pu t (a_bLC 5)))) := by
  refine z_C.of (by decide +kernel) rfl [some (.ref L), some (.int x)] (Nat.le_of_ble_eq_true rfl) rfl ?_
  refine z_aload_n dX7_climbs_0 rfl rfl ?_
  refine z_getR 26 dX7_climbs_1 fl_X7_7_12 hT rfl hR ?_
  refine z_bipush (v := 11) dX7_climbs_4 rfl ?_
  refine z_vcall vl_X7_23_4 (c_X4_ran hF ht) dX7_climbs_6 rfl rfl (hF.1 26 _ rfl) ⟨by decide, by decide⟩ (Nat.le_of_ble_eq_true rfl) (Nat.le_refl _) (Nat.le_refl _) (z_cV ?_) z_tV
  refine z_meq (z_tc h (a_pu t ([11]))) rfl ?_
  refine z_aload_n dX7_climbs_9 rfl rfl ?_
  refine z_iload_n dX7_climbs_10 rfl rfl ?_
  refine z_vcall vl_X7_29_12 (c_X9_turns_12 hF hT hR h85 (a_pu_n _ _ _ ht (by simp only [List.length_append, List.length_cons, List.length_nil]; omega)) (by simp only [List.length_append, List.length_cons, List.length_nil]; omega)) dX7_climbs_11 rfl rfl hT ⟨by decide, by decide⟩ (Nat.le_of_ble_eq_true rfl) (Nat.le_refl _) (Nat.le_refl _) (z_cI ?_) z_tI
  refine z_meq (z_tc h (a_pu t ([11] ++ a_bT 5))) (congrArg (z_tc h) (a_pu_2 _ _ _)) ?_
  refine z_eqi (a_vT 5 (z_I h L 2) (z_I h L 1) x) rfl ?_
  refine z_aload_n dX7_climbs_14 rfl rfl ?_
  refine z_getI dX7_climbs_15 fl_X7_17_12 hT rfl ?_
  refine z_eqi (z_I h L 2) (z_tc_hi h85) ?_
  refine z_isub dX7_climbs_18 ?_
  refine z_iret dX7_climbs_19 rfl rfl (Nat.le_refl _) (Nat.le_refl _) (z_ri_i ?_ ?_)
  · rfl
  · rfl
theorem c_X7_climbs_13 {Γ : z_W} {h : z_H} {t : z_Tr} {L : Nat} {x : Int32} {B : Nat} (hF : z_F h) (hT : z_T h L = some (.inl 13)) (hR : z_R h L 0 = some 26) (h85 : 85 ≤ L) (ht : z_cn t.1 B) (hB : B + 15 < 2 ^ 31) : z_C Γ M_X7_climbs (z_rm 5 0 0) [.ref L, .int x] (z_tc h t) (z_ri (a_vLC 6 (z_I h L 2) (z_I h L 1) x) (z_tc h (a_pu t (a_bLC 6)))) := by
  refine z_C.of (by decide +kernel) rfl [some (.ref L), some (.int x)] (Nat.le_of_ble_eq_true rfl) rfl ?_
  refine z_aload_n dX7_climbs_0 rfl rfl ?_
  refine z_getR 26 dX7_climbs_1 fl_X7_7_13 hT rfl hR ?_
  refine z_bipush (v := 11) dX7_climbs_4 rfl ?_
  refine z_vcall vl_X7_23_4 (c_X4_ran hF ht) dX7_climbs_6 rfl rfl (hF.1 26 _ rfl) ⟨by decide, by decide⟩ (Nat.le_of_ble_eq_true rfl) (Nat.le_refl _) (Nat.le_refl _) (z_cV ?_) z_tV
  refine z_meq (z_tc h (a_pu t ([11]))) rfl ?_
  refine z_aload_n dX7_climbs_9 rfl rfl ?_
  refine z_iload_n dX7_climbs_10 rfl rfl ?_
  refine z_vcall vl_X7_29_13 (c_X13_turns_13 hF hT hR h85 (a_pu_n _ _ _ ht (by simp only [List.length_append, List.length_cons, List.length_nil]; omega)) (by simp only [List.length_append, List.length_cons, List.length_nil]; omega)) dX7_climbs_11 rfl rfl hT ⟨by decide, by decide⟩ (Nat.le_of_ble_eq_true rfl) (Nat.le_refl _) (Nat.le_refl _) (z_cI ?_) z_tI
  refine z_meq (z_tc h (a_pu t ([11] ++ a_bT 6))) (congrArg (z_tc h) (a_pu_2 _ _ _)) ?_
  refine z_eqi (a_vT 6 (z_I h L 2) (z_I h L 1) x) rfl ?_
  refine z_aload_n dX7_climbs_14 rfl rfl ?_
  refine z_getI dX7_climbs_15 fl_X7_17_13 hT rfl ?_
  refine z_eqi (z_I h L 2) (z_tc_hi h85) ?_
  refine z_isub dX7_climbs_18 ?_
  refine z_iret dX7_climbs_19 rfl rfl (Nat.le_refl _) (Nat.le_refl _) (z_ri_i ?_ ?_)
  · rfl
  · rfl
theorem c_X8_climbs_8 {Γ : z_W} {h : z_H} {t : z_Tr} {L : Nat} {x : Int32} {B : Nat} (hF : z_F h) (hT : z_T h L = some (.inl 8)) (hR : z_R h L 0 = some 26) (h85 : 85 ≤ L) (ht : z_cn t.1 B) (hB : B + 20 < 2 ^ 31) : z_C Γ M_X8_climbs (z_rm 7 0 0) [.ref L, .int x] (z_tc h t) (z_ri (a_vSC 1 (z_I h L 2) (z_I h L 1) x) (z_tc h (a_pu t (a_bSC 1)))) := by
  refine z_C.of (by decide +kernel) rfl [some (.ref L), some (.int x)] (Nat.le_of_ble_eq_true rfl) rfl ?_
  refine z_aload_n dX8_climbs_0 rfl rfl ?_
  refine z_getR 26 dX8_climbs_1 fl_X8_19_8 hT rfl hR ?_
  refine z_bipush (v := 20) dX8_climbs_4 rfl ?_
  refine z_vcall vl_X8_23_4 (c_X4_ran hF ht) dX8_climbs_6 rfl rfl (hF.1 26 _ rfl) ⟨by decide, by decide⟩ (Nat.le_of_ble_eq_true rfl) (Nat.le_refl _) (Nat.le_refl _) (z_cV ?_) z_tV
  refine z_meq (z_tc h (a_pu t ([20]))) rfl ?_
  refine z_aload_n dX8_climbs_9 rfl rfl ?_
  refine z_iload_n dX8_climbs_10 rfl rfl ?_
  refine z_ucall ul_X8_29 (c_X7_climbs_8 hF hT hR h85 (a_pu_n _ _ _ ht (by simp only [List.length_append, List.length_cons, List.length_nil]; omega)) (by simp only [List.length_append, List.length_cons, List.length_nil]; omega)) dX8_climbs_11 rfl rfl hT rfl ⟨by decide, by decide⟩ (Nat.le_of_ble_eq_true rfl) (Nat.le_refl _) (Nat.le_refl _) (z_cI ?_) z_tI
  refine z_meq (z_tc h (a_pu t ([20] ++ a_bLC 1))) (congrArg (z_tc h) (a_pu_2 _ _ _)) ?_
  refine z_eqi (a_vLC 1 (z_I h L 2) (z_I h L 1) x) rfl ?_
  refine z_bipush (v := 6) dX8_climbs_14 rfl ?_
  refine z_ixor dX8_climbs_16 ?_
  refine z_iret dX8_climbs_17 rfl rfl (Nat.le_refl _) (Nat.le_refl _) (z_ri_i ?_ ?_)
  · rfl
  · rfl
theorem c_X8_climbs_11 {Γ : z_W} {h : z_H} {t : z_Tr} {L : Nat} {x : Int32} {B : Nat} (hF : z_F h) (hT : z_T h L = some (.inl 11)) (hR : z_R h L 0 = some 26) (h85 : 85 ≤ L) (ht : z_cn t.1 B) (hB : B + 20 < 2 ^ 31) : z_C Γ M_X8_climbs (z_rm 7 0 0) [.ref L, .int x] (z_tc h t) (z_ri (a_vSC 4 (z_I h L 2) (z_I h L 1) x) (z_tc h (a_pu t (a_bSC 4)))) := by
  refine z_C.of (by decide +kernel) rfl [some (.ref L), some (.int x)] (Nat.le_of_ble_eq_true rfl) rfl ?_
  refine z_aload_n dX8_climbs_0 rfl rfl ?_
  refine z_getR 26 dX8_climbs_1 fl_X8_19_11 hT rfl hR ?_
  refine z_bipush (v := 20) dX8_climbs_4 rfl ?_
  refine z_vcall vl_X8_23_4 (c_X4_ran hF ht) dX8_climbs_6 rfl rfl (hF.1 26 _ rfl) ⟨by decide, by decide⟩ (Nat.le_of_ble_eq_true rfl) (Nat.le_refl _) (Nat.le_refl _) (z_cV ?_) z_tV
  refine z_meq (z_tc h (a_pu t ([20]))) rfl ?_
  refine z_aload_n dX8_climbs_9 rfl rfl ?_
  refine z_iload_n dX8_climbs_10 rfl rfl ?_
  refine z_ucall ul_X8_29 (c_X7_climbs_11 hF hT hR h85 (a_pu_n _ _ _ ht (by simp only [List.length_append, List.length_cons, List.length_nil]; omega)) (by simp only [List.length_append, List.length_cons, List.length_nil]; omega)) dX8_climbs_11 rfl rfl hT rfl ⟨by decide, by decide⟩ (Nat.le_of_ble_eq_true rfl) (Nat.le_refl _) (Nat.le_refl _) (z_cI ?_) z_tI
  refine z_meq (z_tc h (a_pu t ([20] ++ a_bLC 4))) (congrArg (z_tc h) (a_pu_2 _ _ _)) ?_
  refine z_eqi (a_vLC 4 (z_I h L 2) (z_I h L 1) x) rfl ?_
  refine z_bipush (v := 6) dX8_climbs_14 rfl ?_
  refine z_ixor dX8_climbs_16 ?_
  refine z_iret dX8_climbs_17 rfl rfl (Nat.le_refl _) (Nat.le_refl _) (z_ri_i ?_ ?_)
  · rfl
  · rfl
theorem c_X11_climbs_11 {Γ : z_W} {h : z_H} {t : z_Tr} {L : Nat} {x : Int32} {B : Nat} (hF : z_F h) (hT : z_T h L = some (.inl 11)) (hR : z_R h L 0 = some 26) (h85 : 85 ≤ L) (ht : z_cn t.1 B) (hB : B + 30 < 2 ^ 31) : z_C Γ M_X11_climbs (z_rm 9 0 0) [.ref L, .int x] (z_tc h t) (z_ri (a_vC 4 (z_I h L 2) (z_I h L 1) x) (z_tc h (a_pu t (a_bC 4)))) := by
  refine z_C.of (by decide +kernel) rfl [some (.ref L), some (.int x)] (Nat.le_of_ble_eq_true rfl) rfl ?_
  refine z_aload_n dX11_climbs_0 rfl rfl ?_
  refine z_getR 26 dX11_climbs_1 fl_X11_19_11 hT rfl hR ?_
  refine z_bipush (v := 51) dX11_climbs_4 rfl ?_
  refine z_vcall vl_X11_23_4 (c_X4_ran hF ht) dX11_climbs_6 rfl rfl (hF.1 26 _ rfl) ⟨by decide, by decide⟩ (Nat.le_of_ble_eq_true rfl) (Nat.le_refl _) (Nat.le_refl _) (z_cV ?_) z_tV
  refine z_meq (z_tc h (a_pu t ([51]))) rfl ?_
  refine z_aload_n dX11_climbs_9 rfl rfl ?_
  refine z_iload_n dX11_climbs_10 rfl rfl ?_
  refine z_iconst (v := 1) dX11_climbs_11 rfl ?_
  refine z_iadd dX11_climbs_12 ?_
  refine z_ucall ul_X11_33 (c_X8_climbs_11 hF hT hR h85 (a_pu_n _ _ _ ht (by simp only [List.length_append, List.length_cons, List.length_nil]; omega)) (by simp only [List.length_append, List.length_cons, List.length_nil]; omega)) dX11_climbs_13 rfl rfl hT rfl ⟨by decide, by decide⟩ (Nat.le_of_ble_eq_true rfl) (Nat.le_refl _) (Nat.le_refl _) (z_cI ?_) z_tI
  refine z_meq (z_tc h (a_pu t ([51] ++ a_bSC 4))) (congrArg (z_tc h) (a_pu_2 _ _ _)) ?_
  refine z_eqi (a_vSC 4 (z_I h L 2) (z_I h L 1) (x + 1)) rfl ?_
  refine z_iret dX11_climbs_16 rfl rfl (Nat.le_refl _) (Nat.le_refl _) (z_ri_i ?_ ?_)
  · rfl
  · rfl
theorem c_X13_climbs_13 {Γ : z_W} {h : z_H} {t : z_Tr} {L : Nat} {x : Int32} {B : Nat} (hF : z_F h) (hT : z_T h L = some (.inl 13)) (hR : z_R h L 0 = some 26) (h85 : 85 ≤ L) (ht : z_cn t.1 B) (hB : B + 30 < 2 ^ 31) : z_C Γ M_X13_climbs (z_rm 9 0 0) [.ref L, .int x] (z_tc h t) (z_ri (a_vC 6 (z_I h L 2) (z_I h L 1) x) (z_tc h (a_pu t (a_bC 6)))) := by
  refine z_C.of (by decide +kernel) rfl [some (.ref L), some (.int x), none] (Nat.le_of_ble_eq_true rfl) rfl ?_
  refine z_aload_n dX13_climbs_0 rfl rfl ?_
  refine z_getR 26 dX13_climbs_1 fl_X13_23_13 hT rfl hR ?_
  refine z_bipush (v := 70) dX13_climbs_4 rfl ?_
  refine z_vcall vl_X13_27_4 (c_X4_ran hF ht) dX13_climbs_6 rfl rfl (hF.1 26 _ rfl) ⟨by decide, by decide⟩ (Nat.le_of_ble_eq_true rfl) (Nat.le_refl _) (Nat.le_refl _) (z_cV ?_) z_tV
  refine z_meq (z_tc h (a_pu t ([70]))) rfl ?_
  refine z_aload_n dX13_climbs_9 rfl rfl ?_
  refine z_iload_n dX13_climbs_10 rfl rfl ?_
  refine z_wcall wl_X13_33 (c_X7_climbs_13 hF hT hR h85 (a_pu_n _ _ _ ht (by simp only [List.length_append, List.length_cons, List.length_nil]; omega)) (by simp only [List.length_append, List.length_cons, List.length_nil]; omega)) dX13_climbs_11 rfl rfl hT rfl ⟨by decide, by decide⟩ (Nat.le_of_ble_eq_true rfl) (Nat.le_refl _) (Nat.le_refl _) (z_cI ?_) z_tI
  refine z_meq (z_tc h (a_pu t ([70] ++ a_bLC 6))) (congrArg (z_tc h) (a_pu_2 _ _ _)) ?_
  refine z_eqi (a_vLC 6 (z_I h L 2) (z_I h L 1) x) rfl ?_
  refine z_istore_n dX13_climbs_14 rfl (by decide) rfl ?_
  refine z_iload_n dX13_climbs_15 rfl rfl ?_
  refine z_aload_n dX13_climbs_16 rfl rfl ?_
  refine z_iconst (v := 2) dX13_climbs_17 rfl ?_
  refine z_wcall wl_X13_37 (c_X7_turns_13 hF hT hR h85 (a_pu_n _ _ _ ht (by have := a_bLC_len 6; simp only [List.length_append, List.length_cons, List.length_nil]; omega)) (by have := a_bLC_len 6; simp only [List.length_append, List.length_cons, List.length_nil]; omega)) dX13_climbs_18 rfl rfl hT rfl ⟨by decide, by decide⟩ (Nat.le_of_ble_eq_true rfl) (Nat.le_refl _) (Nat.le_refl _) (z_cI ?_) z_tI
  refine z_meq (z_tc h (a_pu t ([70] ++ a_bLC 6 ++ a_bLT 6))) (congrArg (z_tc h) (a_pu_2 _ _ _)) ?_
  refine z_eqi (a_vLT 6 (z_I h L 2) (z_I h L 1) 2) rfl ?_
  refine z_iadd dX13_climbs_21 ?_
  refine z_iret dX13_climbs_22 rfl rfl (Nat.le_refl _) (Nat.le_refl _) (z_ri_i ?_ ?_)
  · rfl
  · rfl
theorem c_X7_tells_7 {Γ : z_W} {h : z_H} {t : z_Tr} {L : Nat} {x : Int32} {B : Nat} (hF : z_F h) (hT : z_T h L = some (.inl 7)) (hR : z_R h L 0 = some 26) (h85 : 85 ≤ L) (ht : z_cn t.1 B) (hB : B + 40 < 2 ^ 31) : z_C Γ M_X7_tells (z_rm 11 0 0) [.ref L, .int x] (z_tc h t) (z_ri (a_vLS 0 (z_I h L 2) (z_I h L 1) x) (z_tc h (a_pu t (a_bLS 0)))) := by
  refine z_C.of (by decide +kernel) rfl [some (.ref L), some (.int x)] (Nat.le_of_ble_eq_true rfl) rfl ?_
  refine z_aload_n dX7_tells_0 rfl rfl ?_
  refine z_getR 26 dX7_tells_1 fl_X7_7_7 hT rfl hR ?_
  refine z_bipush (v := 12) dX7_tells_4 rfl ?_
  refine z_vcall vl_X7_23_4 (c_X4_ran hF ht) dX7_tells_6 rfl rfl (hF.1 26 _ rfl) ⟨by decide, by decide⟩ (Nat.le_of_ble_eq_true rfl) (Nat.le_refl _) (Nat.le_refl _) (z_cV ?_) z_tV
  refine z_meq (z_tc h (a_pu t ([12]))) rfl ?_
  refine z_aload_n dX7_tells_9 rfl rfl ?_
  refine z_iload_n dX7_tells_10 rfl rfl ?_
  refine z_vcall vl_X7_33_7 (c_X7_climbs_7 hF hT hR h85 (a_pu_n _ _ _ ht (by simp only [List.length_append, List.length_cons, List.length_nil]; omega)) (by simp only [List.length_append, List.length_cons, List.length_nil]; omega)) dX7_tells_11 rfl rfl hT ⟨by decide, by decide⟩ (Nat.le_of_ble_eq_true rfl) (Nat.le_refl _) (Nat.le_refl _) (z_cI ?_) z_tI
  refine z_meq (z_tc h (a_pu t ([12] ++ a_bLC 0))) (congrArg (z_tc h) (a_pu_2 _ _ _)) ?_
  refine z_eqi (a_vLC 0 (z_I h L 2) (z_I h L 1) x) rfl ?_
  refine z_iconst (v := 2) dX7_tells_14 rfl ?_
  refine z_imul dX7_tells_15 ?_
  refine z_iret dX7_tells_16 rfl rfl (Nat.le_refl _) (Nat.le_refl _) (z_ri_i ?_ ?_)
  · rfl
  · rfl
theorem c_X7_tells_8 {Γ : z_W} {h : z_H} {t : z_Tr} {L : Nat} {x : Int32} {B : Nat} (hF : z_F h) (hT : z_T h L = some (.inl 8)) (hR : z_R h L 0 = some 26) (h85 : 85 ≤ L) (ht : z_cn t.1 B) (hB : B + 40 < 2 ^ 31) : z_C Γ M_X7_tells (z_rm 11 0 0) [.ref L, .int x] (z_tc h t) (z_ri (a_vLS 1 (z_I h L 2) (z_I h L 1) x) (z_tc h (a_pu t (a_bLS 1)))) := by
  refine z_C.of (by decide +kernel) rfl [some (.ref L), some (.int x)] (Nat.le_of_ble_eq_true rfl) rfl ?_
  refine z_aload_n dX7_tells_0 rfl rfl ?_
  refine z_getR 26 dX7_tells_1 fl_X7_7_8 hT rfl hR ?_
  refine z_bipush (v := 12) dX7_tells_4 rfl ?_
  refine z_vcall vl_X7_23_4 (c_X4_ran hF ht) dX7_tells_6 rfl rfl (hF.1 26 _ rfl) ⟨by decide, by decide⟩ (Nat.le_of_ble_eq_true rfl) (Nat.le_refl _) (Nat.le_refl _) (z_cV ?_) z_tV
  refine z_meq (z_tc h (a_pu t ([12]))) rfl ?_
  refine z_aload_n dX7_tells_9 rfl rfl ?_
  refine z_iload_n dX7_tells_10 rfl rfl ?_
  refine z_vcall vl_X7_33_8 (c_X8_climbs_8 hF hT hR h85 (a_pu_n _ _ _ ht (by simp only [List.length_append, List.length_cons, List.length_nil]; omega)) (by simp only [List.length_append, List.length_cons, List.length_nil]; omega)) dX7_tells_11 rfl rfl hT ⟨by decide, by decide⟩ (Nat.le_of_ble_eq_true rfl) (Nat.le_refl _) (Nat.le_refl _) (z_cI ?_) z_tI
  refine z_meq (z_tc h (a_pu t ([12] ++ a_bSC 1))) (congrArg (z_tc h) (a_pu_2 _ _ _)) ?_
  refine z_eqi (a_vSC 1 (z_I h L 2) (z_I h L 1) x) rfl ?_
  refine z_iconst (v := 2) dX7_tells_14 rfl ?_
  refine z_imul dX7_tells_15 ?_
  refine z_iret dX7_tells_16 rfl rfl (Nat.le_refl _) (Nat.le_refl _) (z_ri_i ?_ ?_)
  · rfl
  · rfl
theorem c_X7_tells_9 {Γ : z_W} {h : z_H} {t : z_Tr} {L : Nat} {x : Int32} {B : Nat} (hF : z_F h) (hT : z_T h L = some (.inl 9)) (hR : z_R h L 0 = some 26) (h85 : 85 ≤ L) (ht : z_cn t.1 B) (hB : B + 40 < 2 ^ 31) : z_C Γ M_X7_tells (z_rm 11 0 0) [.ref L, .int x] (z_tc h t) (z_ri (a_vLS 2 (z_I h L 2) (z_I h L 1) x) (z_tc h (a_pu t (a_bLS 2)))) := by
  refine z_C.of (by decide +kernel) rfl [some (.ref L), some (.int x)] (Nat.le_of_ble_eq_true rfl) rfl ?_
  refine z_aload_n dX7_tells_0 rfl rfl ?_
  refine z_getR 26 dX7_tells_1 fl_X7_7_9 hT rfl hR ?_
  refine z_bipush (v := 12) dX7_tells_4 rfl ?_
  refine z_vcall vl_X7_23_4 (c_X4_ran hF ht) dX7_tells_6 rfl rfl (hF.1 26 _ rfl) ⟨by decide, by decide⟩ (Nat.le_of_ble_eq_true rfl) (Nat.le_refl _) (Nat.le_refl _) (z_cV ?_) z_tV
  refine z_meq (z_tc h (a_pu t ([12]))) rfl ?_
  refine z_aload_n dX7_tells_9 rfl rfl ?_
  refine z_iload_n dX7_tells_10 rfl rfl ?_
  refine z_vcall vl_X7_33_9 (c_X7_climbs_9 hF hT hR h85 (a_pu_n _ _ _ ht (by simp only [List.length_append, List.length_cons, List.length_nil]; omega)) (by simp only [List.length_append, List.length_cons, List.length_nil]; omega)) dX7_tells_11 rfl rfl hT ⟨by decide, by decide⟩ (Nat.le_of_ble_eq_true rfl) (Nat.le_refl _) (Nat.le_refl _) (z_cI ?_) z_tI
  refine z_meq (z_tc h (a_pu t ([12] ++ a_bLC 2))) (congrArg (z_tc h) (a_pu_2 _ _ _)) ?_
  refine z_eqi (a_vLC 2 (z_I h L 2) (z_I h L 1) x) rfl ?_
  refine z_iconst (v := 2) dX7_tells_14 rfl ?_
  refine z_imul dX7_tells_15 ?_
  refine z_iret dX7_tells_16 rfl rfl (Nat.le_refl _) (Nat.le_refl _) (z_ri_i ?_ ?_)
  · rfl
  · rfl
theorem c_X7_tells_10 {Γ : z_W} {h : z_H} {t : z_Tr} {L : Nat} {x : Int32} {B : Nat} (hF : z_F h) (hT : z_T h L = some (.inl 10)) (hR : z_R h L 0 = some 26) (h85 : 85 ≤ L) (ht : z_cn t.1 B) (hB : B + 40 < 2 ^ 31) : z_C Γ M_X7_tells (z_rm 11 0 0) [.ref L, .int x] (z_tc h t) (z_ri (a_vLS 3 (z_I h L 2) (z_I h L 1) x) (z_tc h (a_pu t (a_bLS 3)))) := by
  refine z_C.of (by decide +kernel) rfl [some (.ref L), some (.int x)] (Nat.le_of_ble_eq_true rfl) rfl ?_
  refine z_aload_n dX7_tells_0 rfl rfl ?_
  refine z_getR 26 dX7_tells_1 fl_X7_7_10 hT rfl hR ?_
  refine z_bipush (v := 12) dX7_tells_4 rfl ?_
  refine z_vcall vl_X7_23_4 (c_X4_ran hF ht) dX7_tells_6 rfl rfl (hF.1 26 _ rfl) ⟨by decide, by decide⟩ (Nat.le_of_ble_eq_true rfl) (Nat.le_refl _) (Nat.le_refl _) (z_cV ?_) z_tV
  refine z_meq (z_tc h (a_pu t ([12]))) rfl ?_
  refine z_aload_n dX7_tells_9 rfl rfl ?_
  refine z_iload_n dX7_tells_10 rfl rfl ?_
  refine z_vcall vl_X7_33_10 (c_X7_climbs_10 hF hT hR h85 (a_pu_n _ _ _ ht (by simp only [List.length_append, List.length_cons, List.length_nil]; omega)) (by simp only [List.length_append, List.length_cons, List.length_nil]; omega)) dX7_tells_11 rfl rfl hT ⟨by decide, by decide⟩ (Nat.le_of_ble_eq_true rfl) (Nat.le_refl _) (Nat.le_refl _) (z_cI ?_) z_tI
  refine z_meq (z_tc h (a_pu t ([12] ++ a_bLC 3))) (congrArg (z_tc h) (a_pu_2 _ _ _)) ?_
  refine z_eqi (a_vLC 3 (z_I h L 2) (z_I h L 1) x) rfl ?_
  refine z_iconst (v := 2) dX7_tells_14 rfl ?_
  refine z_imul dX7_tells_15 ?_
  refine z_iret dX7_tells_16 rfl rfl (Nat.le_refl _) (Nat.le_refl _) (z_ri_i ?_ ?_)
  · rfl
  · rfl
theorem c_X7_tells_11 {Γ : z_W} {h : z_H} {t : z_Tr} {L : Nat} {x : Int32} {B : Nat} (hF : z_F h) (hT : z_T h L = some (.inl 11)) (hR : z_R h L 0 = some 26) (h85 : 85 ≤ L) (ht : z_cn t.1 B) (hB : B + 40 < 2 ^ 31) : z_C Γ M_X7_tells (z_rm 11 0 0) [.ref L, .int x] (z_tc h t) (z_ri (a_vLS 4 (z_I h L 2) (z_I h L 1) x) (z_tc h (a_pu t (a_bLS 4)))) := by
  refine z_C.of (by decide +kernel) rfl [some (.ref L), some (.int x)] (Nat.le_of_ble_eq_true rfl) rfl ?_
  refine z_aload_n dX7_tells_0 rfl rfl ?_
  refine z_getR 26 dX7_tells_1 fl_X7_7_11 hT rfl hR ?_
  refine z_bipush (v := 12) dX7_tells_4 rfl ?_
  refine z_vcall vl_X7_23_4 (c_X4_ran hF ht) dX7_tells_6 rfl rfl (hF.1 26 _ rfl) ⟨by decide, by decide⟩ (Nat.le_of_ble_eq_true rfl) (Nat.le_refl _) (Nat.le_refl _) (z_cV ?_) z_tV
  refine z_meq (z_tc h (a_pu t ([12]))) rfl ?_
  refine z_aload_n dX7_tells_9 rfl rfl ?_
  refine z_iload_n dX7_tells_10 rfl rfl ?_
  refine z_vcall vl_X7_33_11 (c_X11_climbs_11 hF hT hR h85 (a_pu_n _ _ _ ht (by simp only [List.length_append, List.length_cons, List.length_nil]; omega)) (by simp only [List.length_append, List.length_cons, List.length_nil]; omega)) dX7_tells_11 rfl rfl hT ⟨by decide, by decide⟩ (Nat.le_of_ble_eq_true rfl) (Nat.le_refl _) (Nat.le_refl _) (z_cI ?_) z_tI
  refine z_meq (z_tc h (a_pu t ([12] ++ a_bC 4))) (congrArg (z_tc h) (a_pu_2 _ _ _)) ?_
  refine z_eqi (a_vC 4 (z_I h L 2) (z_I h L 1) x) rfl ?_
  refine z_iconst (v := 2) dX7_tells_14 rfl ?_
  refine z_imul dX7_tells_15 ?_
  refine z_iret dX7_tells_16 rfl rfl (Nat.le_refl _) (Nat.le_refl _) (z_ri_i ?_ ?_)
  · rfl
  · rfl
theorem c_X7_tells_12 {Γ : z_W} {h : z_H} {t : z_Tr} {L : Nat} {x : Int32} {B : Nat} (hF : z_F h) (hT : z_T h L = some (.inl 12)) (hR : z_R h L 0 = some 26) (h85 : 85 ≤ L) (ht : z_cn t.1 B) (hB : B + 40 < 2 ^ 31) : z_C Γ M_X7_tells (z_rm 11 0 0) [.ref L, .int x] (z_tc h t) (z_ri (a_vLS 5 (z_I h L 2) (z_I h L 1) x) (z_tc h (a_pu t (a_bLS 5)))) := by
  refine z_C.of (by decide +kernel) rfl [some (.ref L), some (.int x)] (Nat.le_of_ble_eq_true rfl) rfl ?_
  refine z_aload_n dX7_tells_0 rfl rfl ?_
  refine z_getR 26 dX7_tells_1 fl_X7_7_12 hT rfl hR ?_
  refine z_bipush (v := 12) dX7_tells_4 rfl ?_
  refine z_vcall vl_X7_23_4 (c_X4_ran hF ht) dX7_tells_6 rfl rfl (hF.1 26 _ rfl) ⟨by decide, by decide⟩ (Nat.le_of_ble_eq_true rfl) (Nat.le_refl _) (Nat.le_refl _) (z_cV ?_) z_tV
  refine z_meq (z_tc h (a_pu t ([12]))) rfl ?_
  refine z_aload_n dX7_tells_9 rfl rfl ?_
  refine z_iload_n dX7_tells_10 rfl rfl ?_
  refine z_vcall vl_X7_33_12 (c_X7_climbs_12 hF hT hR h85 (a_pu_n _ _ _ ht (by simp only [List.length_append, List.length_cons, List.length_nil]; omega)) (by simp only [List.length_append, List.length_cons, List.length_nil]; omega)) dX7_tells_11 rfl rfl hT ⟨by decide, by decide⟩ (Nat.le_of_ble_eq_true rfl) (Nat.le_refl _) (Nat.le_refl _) (z_cI ?_) z_tI
  refine z_meq (z_tc h (a_pu t ([12] ++ a_bLC 5))) (congrArg (z_tc h) (a_pu_2 _ _ _)) ?_
  refine z_eqi (a_vLC 5 (z_I h L 2) (z_I h L 1) x) rfl ?_
  refine z_iconst (v := 2) dX7_tells_14 rfl ?_
  refine z_imul dX7_tells_15 ?_
  refine z_iret dX7_tells_16 rfl rfl (Nat.le_refl _) (Nat.le_refl _) (z_ri_i ?_ ?_)
  · rfl
  · rfl
theorem c_X7_tells_13 {Γ : z_W} {h : z_H} {t : z_Tr} {L : Nat} {x : Int32} {B : Nat} (hF : z_F h) (hT : z_T h L = some (.inl 13)) (hR : z_R h L 0 = some 26) (h85 : 85 ≤ L) (ht : z_cn t.1 B) (hB : B + 40 < 2 ^ 31) : z_C Γ M_X7_tells (z_rm 11 0 0) [.ref L, .int x] (z_tc h t) (z_ri (a_vLS 6 (z_I h L 2) (z_I h L 1) x) (z_tc h (a_pu t (a_bLS 6)))) := by
  refine z_C.of (by decide +kernel) rfl [some (.ref L), some (.int x)] (Nat.le_of_ble_eq_true rfl) rfl ?_
  refine z_aload_n dX7_tells_0 rfl rfl ?_
  refine z_getR 26 dX7_tells_1 fl_X7_7_13 hT rfl hR ?_
  refine z_bipush (v := 12) dX7_tells_4 rfl ?_
  refine z_vcall vl_X7_23_4 (c_X4_ran hF ht) dX7_tells_6 rfl rfl (hF.1 26 _ rfl) ⟨by decide, by decide⟩ (Nat.le_of_ble_eq_true rfl) (Nat.le_refl _) (Nat.le_refl _) (z_cV ?_) z_tV
  refine z_meq (z_tc h (a_pu t ([12]))) rfl ?_
  refine z_aload_n dX7_tells_9 rfl rfl ?_
  refine z_iload_n dX7_tells_10 rfl rfl ?_
  refine z_vcall vl_X7_33_13 (c_X13_climbs_13 hF hT hR h85 (a_pu_n _ _ _ ht (by simp only [List.length_append, List.length_cons, List.length_nil]; omega)) (by simp only [List.length_append, List.length_cons, List.length_nil]; omega)) dX7_tells_11 rfl rfl hT ⟨by decide, by decide⟩ (Nat.le_of_ble_eq_true rfl) (Nat.le_refl _) (Nat.le_refl _) (z_cI ?_) z_tI
  refine z_meq (z_tc h (a_pu t ([12] ++ a_bC 6))) (congrArg (z_tc h) (a_pu_2 _ _ _)) ?_
  refine z_eqi (a_vC 6 (z_I h L 2) (z_I h L 1) x) rfl ?_
  refine z_iconst (v := 2) dX7_tells_14 rfl ?_
  refine z_imul dX7_tells_15 ?_
  refine z_iret dX7_tells_16 rfl rfl (Nat.le_refl _) (Nat.le_refl _) (z_ri_i ?_ ?_)
  · rfl
  · rfl
theorem c_X10_tells_10 {Γ : z_W} {h : z_H} {t : z_Tr} {L : Nat} {x : Int32} {B : Nat} (hF : z_F h) (hT : z_T h L = some (.inl 10)) (hR : z_R h L 0 = some 26) (h85 : 85 ≤ L) (ht : z_cn t.1 B) (hB : B + 60 < 2 ^ 31) : z_C Γ M_X10_tells (z_rm 13 0 0) [.ref L, .int x] (z_tc h t) (z_ri (a_vS 3 (z_I h L 2) (z_I h L 1) x) (z_tc h (a_pu t (a_bS 3)))) := by
  refine z_C.of (by decide +kernel) rfl [some (.ref L), some (.int x), none] (Nat.le_of_ble_eq_true rfl) rfl ?_
  refine z_aload_n dX10_tells_0 rfl rfl ?_
  refine z_getR 26 dX10_tells_1 fl_X10_13_10 hT rfl hR ?_
  refine z_bipush (v := 40) dX10_tells_4 rfl ?_
  refine z_vcall vl_X10_19_4 (c_X4_ran hF ht) dX10_tells_6 rfl rfl (hF.1 26 _ rfl) ⟨by decide, by decide⟩ (Nat.le_of_ble_eq_true rfl) (Nat.le_refl _) (Nat.le_refl _) (z_cV ?_) z_tV
  refine z_meq (z_tc h (a_pu t ([40]))) rfl ?_
  refine z_aload_n dX10_tells_9 rfl rfl ?_
  refine z_iload_n dX10_tells_10 rfl rfl ?_
  refine z_ucall ul_X10_25 (c_X7_tells_10 hF hT hR h85 (a_pu_n _ _ _ ht (by simp only [List.length_append, List.length_cons, List.length_nil]; omega)) (by simp only [List.length_append, List.length_cons, List.length_nil]; omega)) dX10_tells_11 rfl rfl hT rfl ⟨by decide, by decide⟩ (Nat.le_of_ble_eq_true rfl) (Nat.le_refl _) (Nat.le_refl _) (z_cI ?_) z_tI
  refine z_meq (z_tc h (a_pu t ([40] ++ a_bLS 3))) (congrArg (z_tc h) (a_pu_2 _ _ _)) ?_
  refine z_eqi (a_vLS 3 (z_I h L 2) (z_I h L 1) x) rfl ?_
  refine z_istore_n dX10_tells_14 rfl (by decide) rfl ?_
  refine z_iload_n dX10_tells_15 rfl rfl ?_
  refine z_aload_n dX10_tells_16 rfl rfl ?_
  refine z_iconst (v := 1) dX10_tells_17 rfl ?_
  refine z_vcall vl_X10_29_10 (c_X7_climbs_10 hF hT hR h85 (a_pu_n _ _ _ ht (by have := a_bLS_len 3; simp only [List.length_append, List.length_cons, List.length_nil]; omega)) (by have := a_bLS_len 3; simp only [List.length_append, List.length_cons, List.length_nil]; omega)) dX10_tells_18 rfl rfl hT ⟨by decide, by decide⟩ (Nat.le_of_ble_eq_true rfl) (Nat.le_refl _) (Nat.le_refl _) (z_cI ?_) z_tI
  refine z_meq (z_tc h (a_pu t ([40] ++ a_bLS 3 ++ a_bLC 3))) (congrArg (z_tc h) (a_pu_2 _ _ _)) ?_
  refine z_eqi (a_vLC 3 (z_I h L 2) (z_I h L 1) 1) rfl ?_
  refine z_iadd dX10_tells_21 ?_
  refine z_iret dX10_tells_22 rfl rfl (Nat.le_refl _) (Nat.le_refl _) (z_ri_i ?_ ?_)
  · rfl
  · rfl
theorem c_X10_tells_13 {Γ : z_W} {h : z_H} {t : z_Tr} {L : Nat} {x : Int32} {B : Nat} (hF : z_F h) (hT : z_T h L = some (.inl 13)) (hR : z_R h L 0 = some 26) (h85 : 85 ≤ L) (ht : z_cn t.1 B) (hB : B + 60 < 2 ^ 31) : z_C Γ M_X10_tells (z_rm 13 0 0) [.ref L, .int x] (z_tc h t) (z_ri (a_vS 6 (z_I h L 2) (z_I h L 1) x) (z_tc h (a_pu t (a_bS 6)))) := by
  refine z_C.of (by decide +kernel) rfl [some (.ref L), some (.int x), none] (Nat.le_of_ble_eq_true rfl) rfl ?_
  refine z_aload_n dX10_tells_0 rfl rfl ?_
  refine z_getR 26 dX10_tells_1 fl_X10_13_13 hT rfl hR ?_
  refine z_bipush (v := 40) dX10_tells_4 rfl ?_
  refine z_vcall vl_X10_19_4 (c_X4_ran hF ht) dX10_tells_6 rfl rfl (hF.1 26 _ rfl) ⟨by decide, by decide⟩ (Nat.le_of_ble_eq_true rfl) (Nat.le_refl _) (Nat.le_refl _) (z_cV ?_) z_tV
  refine z_meq (z_tc h (a_pu t ([40]))) rfl ?_
  refine z_aload_n dX10_tells_9 rfl rfl ?_
  refine z_iload_n dX10_tells_10 rfl rfl ?_
  refine z_ucall ul_X10_25 (c_X7_tells_13 hF hT hR h85 (a_pu_n _ _ _ ht (by simp only [List.length_append, List.length_cons, List.length_nil]; omega)) (by simp only [List.length_append, List.length_cons, List.length_nil]; omega)) dX10_tells_11 rfl rfl hT rfl ⟨by decide, by decide⟩ (Nat.le_of_ble_eq_true rfl) (Nat.le_refl _) (Nat.le_refl _) (z_cI ?_) z_tI
  refine z_meq (z_tc h (a_pu t ([40] ++ a_bLS 6))) (congrArg (z_tc h) (a_pu_2 _ _ _)) ?_
  refine z_eqi (a_vLS 6 (z_I h L 2) (z_I h L 1) x) rfl ?_
  refine z_istore_n dX10_tells_14 rfl (by decide) rfl ?_
  refine z_iload_n dX10_tells_15 rfl rfl ?_
  refine z_aload_n dX10_tells_16 rfl rfl ?_
  refine z_iconst (v := 1) dX10_tells_17 rfl ?_
  refine z_vcall vl_X10_29_13 (c_X13_climbs_13 hF hT hR h85 (a_pu_n _ _ _ ht (by have := a_bLS_len 6; simp only [List.length_append, List.length_cons, List.length_nil]; omega)) (by have := a_bLS_len 6; simp only [List.length_append, List.length_cons, List.length_nil]; omega)) dX10_tells_18 rfl rfl hT ⟨by decide, by decide⟩ (Nat.le_of_ble_eq_true rfl) (Nat.le_refl _) (Nat.le_refl _) (z_cI ?_) z_tI
  refine z_meq (z_tc h (a_pu t ([40] ++ a_bLS 6 ++ a_bC 6))) (congrArg (z_tc h) (a_pu_2 _ _ _)) ?_
  refine z_eqi (a_vC 6 (z_I h L 2) (z_I h L 1) 1) rfl ?_
  refine z_iadd dX10_tells_21 ?_
  refine z_iret dX10_tells_22 rfl rfl (Nat.le_refl _) (Nat.le_refl _) (z_ri_i ?_ ?_)
  · rfl
  · rfl
theorem c_X12_tells_12 {Γ : z_W} {h : z_H} {t : z_Tr} {L : Nat} {x : Int32} {B : Nat} (hF : z_F h) (hT : z_T h L = some (.inl 12)) (hR : z_R h L 0 = some 26) (h85 : 85 ≤ L) (ht : z_cn t.1 B) (hB : B + 60 < 2 ^ 31) : z_C Γ M_X12_tells (z_rm 13 0 0) [.ref L, .int x] (z_tc h t) (z_ri (a_vS 5 (z_I h L 2) (z_I h L 1) x) (z_tc h (a_pu t (a_bS 5)))) := by
  refine z_C.of (by decide +kernel) rfl [some (.ref L), some (.int x)] (Nat.le_of_ble_eq_true rfl) rfl ?_
  refine z_aload_n dX12_tells_0 rfl rfl ?_
  refine z_getR 26 dX12_tells_1 fl_X12_19_12 hT rfl hR ?_
  refine z_bipush (v := 60) dX12_tells_4 rfl ?_
  refine z_vcall vl_X12_23_4 (c_X4_ran hF ht) dX12_tells_6 rfl rfl (hF.1 26 _ rfl) ⟨by decide, by decide⟩ (Nat.le_of_ble_eq_true rfl) (Nat.le_refl _) (Nat.le_refl _) (z_cV ?_) z_tV
  refine z_meq (z_tc h (a_pu t ([60]))) rfl ?_
  refine z_aload_n dX12_tells_9 rfl rfl ?_
  refine z_iload_n dX12_tells_10 rfl rfl ?_
  refine z_aload_n dX12_tells_11 rfl rfl ?_
  refine z_getI dX12_tells_12 fl_X12_29_12 hT rfl ?_
  refine z_eqi (z_I h L 1) (z_tc_hi h85) ?_
  refine z_isub dX12_tells_15 ?_
  refine z_wcall wl_X12_32 (c_X7_tells_12 hF hT hR h85 (a_pu_n _ _ _ ht (by simp only [List.length_append, List.length_cons, List.length_nil]; omega)) (by simp only [List.length_append, List.length_cons, List.length_nil]; omega)) dX12_tells_16 rfl rfl hT rfl ⟨by decide, by decide⟩ (Nat.le_of_ble_eq_true rfl) (Nat.le_refl _) (Nat.le_refl _) (z_cI ?_) z_tI
  refine z_meq (z_tc h (a_pu t ([60] ++ a_bLS 5))) (congrArg (z_tc h) (a_pu_2 _ _ _)) ?_
  refine z_eqi (a_vLS 5 (z_I h L 2) (z_I h L 1) (x - (z_I h L 1))) rfl ?_
  refine z_iret dX12_tells_19 rfl rfl (Nat.le_refl _) (Nat.le_refl _) (z_ri_i ?_ ?_)
  · rfl
  · rfl
theorem z_s_turns_0 {Γ : z_W} {M : z_M} {Q : Outcome → z_H → Prop} {cs ss pc e cm sm : Nat} {ls : List (Option Value)} {rest : List Value} {h : z_H} {t : z_Tr} (hM : M.1.cls = RX0) {L : Nat} {x : Int32} {B : Nat} (hF : z_F h)  (hT : z_T h L = some (.inl (7))) (hR : z_R h L 0 = some 26) (h85 : 85 ≤ L) (ht : z_cn t.1 B) (hB : B + 60 < 2 ^ 31) (hd : decode M.2.1 pc = .ok (.invokevirtual 361, 3)) (he : 4 ≤ e) (hst : (rest.map fun v => v.category).sum ≤ 8) (h1 : cs ≤ cm) (h2 : ss ≤ sm) (kk : z_G Γ M (z_rm e cm sm) Q cs ss (pc + 3) ls (.int (a_vT 0 (z_I h L 2) (z_I h L 1) x) :: rest) (z_tc h (a_pu t (a_bT 0)))) : z_G Γ M (z_rm e cm sm) Q cs ss pc ls (.int x :: .ref L :: rest) (z_tc h t) := by
  have e1 : a_vT 0 (z_I h L 2) (z_I h L 1) x = a_vLT 0 (z_I h L 2) (z_I h L 1) x := by unfold a_vT; rw [if_neg (by decide), if_neg (by decide), if_neg (by decide), if_neg (by decide), if_neg (by decide)]
  have e2 : a_bT 0 = a_bLT 0 := by unfold a_bT; rw [if_neg (by decide), if_neg (by decide), if_neg (by decide), if_neg (by decide), if_neg (by decide)]
  rw [e1, e2] at kk
  exact z_vcall (by rw [hM]; exact vl_X0_361_7) (c_X7_turns_7 hF hT hR h85 ht (by omega)) hd rfl rfl hT ⟨by show 2 + 64 + 1 ≤ e + 64; omega, by show 8 + (2 + 11) + (64 * 2 + 20000) ≤ 64 * e + 20000; omega⟩ hst h1 h2 (z_cI kk) z_tI
theorem z_s_turns_1 {Γ : z_W} {M : z_M} {Q : Outcome → z_H → Prop} {cs ss pc e cm sm : Nat} {ls : List (Option Value)} {rest : List Value} {h : z_H} {t : z_Tr} (hM : M.1.cls = RX0) {L : Nat} {x : Int32} {B : Nat} (hF : z_F h)  (hT : z_T h L = some (.inl (8))) (hR : z_R h L 0 = some 26) (h85 : 85 ≤ L) (ht : z_cn t.1 B) (hB : B + 60 < 2 ^ 31) (hd : decode M.2.1 pc = .ok (.invokevirtual 361, 3)) (he : 4 ≤ e) (hst : (rest.map fun v => v.category).sum ≤ 8) (h1 : cs ≤ cm) (h2 : ss ≤ sm) (kk : z_G Γ M (z_rm e cm sm) Q cs ss (pc + 3) ls (.int (a_vT 1 (z_I h L 2) (z_I h L 1) x) :: rest) (z_tc h (a_pu t (a_bT 1)))) : z_G Γ M (z_rm e cm sm) Q cs ss pc ls (.int x :: .ref L :: rest) (z_tc h t) := by
  have e1 : a_vT 1 (z_I h L 2) (z_I h L 1) x = a_vLT 1 (z_I h L 2) (z_I h L 1) x := by unfold a_vT; rw [if_neg (by decide), if_neg (by decide), if_neg (by decide), if_neg (by decide), if_neg (by decide)]
  have e2 : a_bT 1 = a_bLT 1 := by unfold a_bT; rw [if_neg (by decide), if_neg (by decide), if_neg (by decide), if_neg (by decide), if_neg (by decide)]
  rw [e1, e2] at kk
  exact z_vcall (by rw [hM]; exact vl_X0_361_8) (c_X7_turns_8 hF hT hR h85 ht (by omega)) hd rfl rfl hT ⟨by show 2 + 64 + 1 ≤ e + 64; omega, by show 8 + (2 + 11) + (64 * 2 + 20000) ≤ 64 * e + 20000; omega⟩ hst h1 h2 (z_cI kk) z_tI
theorem z_s_turns_2 {Γ : z_W} {M : z_M} {Q : Outcome → z_H → Prop} {cs ss pc e cm sm : Nat} {ls : List (Option Value)} {rest : List Value} {h : z_H} {t : z_Tr} (hM : M.1.cls = RX0) {L : Nat} {x : Int32} {B : Nat} (hF : z_F h)  (hT : z_T h L = some (.inl (9))) (hR : z_R h L 0 = some 26) (h85 : 85 ≤ L) (ht : z_cn t.1 B) (hB : B + 60 < 2 ^ 31) (hd : decode M.2.1 pc = .ok (.invokevirtual 361, 3)) (he : 4 ≤ e) (hst : (rest.map fun v => v.category).sum ≤ 8) (h1 : cs ≤ cm) (h2 : ss ≤ sm) (kk : z_G Γ M (z_rm e cm sm) Q cs ss (pc + 3) ls (.int (a_vT 2 (z_I h L 2) (z_I h L 1) x) :: rest) (z_tc h (a_pu t (a_bT 2)))) : z_G Γ M (z_rm e cm sm) Q cs ss pc ls (.int x :: .ref L :: rest) (z_tc h t) := by
  exact z_vcall (by rw [hM]; exact vl_X0_361_9) (c_X9_turns_9 hF hT hR h85 ht (by omega)) hd rfl rfl hT ⟨by show 3 + 64 + 1 ≤ e + 64; omega, by show 8 + (2 + 11) + (64 * 3 + 20000) ≤ 64 * e + 20000; omega⟩ hst h1 h2 (z_cI kk) z_tI
theorem z_s_turns_3 {Γ : z_W} {M : z_M} {Q : Outcome → z_H → Prop} {cs ss pc e cm sm : Nat} {ls : List (Option Value)} {rest : List Value} {h : z_H} {t : z_Tr} (hM : M.1.cls = RX0) {L : Nat} {x : Int32} {B : Nat} (hF : z_F h)  (hT : z_T h L = some (.inl (10))) (hR : z_R h L 0 = some 26) (h85 : 85 ≤ L) (ht : z_cn t.1 B) (hB : B + 60 < 2 ^ 31) (hd : decode M.2.1 pc = .ok (.invokevirtual 361, 3)) (he : 4 ≤ e) (hst : (rest.map fun v => v.category).sum ≤ 8) (h1 : cs ≤ cm) (h2 : ss ≤ sm) (kk : z_G Γ M (z_rm e cm sm) Q cs ss (pc + 3) ls (.int (a_vT 3 (z_I h L 2) (z_I h L 1) x) :: rest) (z_tc h (a_pu t (a_bT 3)))) : z_G Γ M (z_rm e cm sm) Q cs ss pc ls (.int x :: .ref L :: rest) (z_tc h t) := by
  have e1 : a_vT 3 (z_I h L 2) (z_I h L 1) x = a_vLT 3 (z_I h L 2) (z_I h L 1) x := by unfold a_vT; rw [if_neg (by decide), if_pos rfl]
  have e2 : a_bT 3 = a_bLT 3 := by unfold a_bT; rw [if_neg (by decide), if_pos rfl]
  rw [e1, e2] at kk
  exact z_vcall (by rw [hM]; exact vl_X0_361_10) (c_X7_turns_10 hF hT hR h85 ht (by omega)) hd rfl rfl hT ⟨by show 2 + 64 + 1 ≤ e + 64; omega, by show 8 + (2 + 11) + (64 * 2 + 20000) ≤ 64 * e + 20000; omega⟩ hst h1 h2 (z_cI kk) z_tI
theorem z_s_turns_4 {Γ : z_W} {M : z_M} {Q : Outcome → z_H → Prop} {cs ss pc e cm sm : Nat} {ls : List (Option Value)} {rest : List Value} {h : z_H} {t : z_Tr} (hM : M.1.cls = RX0) {L : Nat} {x : Int32} {B : Nat} (hF : z_F h)  (hT : z_T h L = some (.inl (11))) (hR : z_R h L 0 = some 26) (h85 : 85 ≤ L) (ht : z_cn t.1 B) (hB : B + 60 < 2 ^ 31) (hd : decode M.2.1 pc = .ok (.invokevirtual 361, 3)) (he : 4 ≤ e) (hst : (rest.map fun v => v.category).sum ≤ 8) (h1 : cs ≤ cm) (h2 : ss ≤ sm) (kk : z_G Γ M (z_rm e cm sm) Q cs ss (pc + 3) ls (.int (a_vT 4 (z_I h L 2) (z_I h L 1) x) :: rest) (z_tc h (a_pu t (a_bT 4)))) : z_G Γ M (z_rm e cm sm) Q cs ss pc ls (.int x :: .ref L :: rest) (z_tc h t) := by
  exact z_vcall (by rw [hM]; exact vl_X0_361_11) (c_X11_turns_11 hF hT hR h85 ht (by omega)) hd rfl rfl hT ⟨by show 3 + 64 + 1 ≤ e + 64; omega, by show 8 + (2 + 11) + (64 * 3 + 20000) ≤ 64 * e + 20000; omega⟩ hst h1 h2 (z_cI kk) z_tI
theorem z_s_turns_5 {Γ : z_W} {M : z_M} {Q : Outcome → z_H → Prop} {cs ss pc e cm sm : Nat} {ls : List (Option Value)} {rest : List Value} {h : z_H} {t : z_Tr} (hM : M.1.cls = RX0) {L : Nat} {x : Int32} {B : Nat} (hF : z_F h)  (hT : z_T h L = some (.inl (12))) (hR : z_R h L 0 = some 26) (h85 : 85 ≤ L) (ht : z_cn t.1 B) (hB : B + 60 < 2 ^ 31) (hd : decode M.2.1 pc = .ok (.invokevirtual 361, 3)) (he : 4 ≤ e) (hst : (rest.map fun v => v.category).sum ≤ 8) (h1 : cs ≤ cm) (h2 : ss ≤ sm) (kk : z_G Γ M (z_rm e cm sm) Q cs ss (pc + 3) ls (.int (a_vT 5 (z_I h L 2) (z_I h L 1) x) :: rest) (z_tc h (a_pu t (a_bT 5)))) : z_G Γ M (z_rm e cm sm) Q cs ss pc ls (.int x :: .ref L :: rest) (z_tc h t) := by
  exact z_vcall (by rw [hM]; exact vl_X0_361_12) (c_X9_turns_12 hF hT hR h85 ht (by omega)) hd rfl rfl hT ⟨by show 3 + 64 + 1 ≤ e + 64; omega, by show 8 + (2 + 11) + (64 * 3 + 20000) ≤ 64 * e + 20000; omega⟩ hst h1 h2 (z_cI kk) z_tI
theorem z_s_turns_6 {Γ : z_W} {M : z_M} {Q : Outcome → z_H → Prop} {cs ss pc e cm sm : Nat} {ls : List (Option Value)} {rest : List Value} {h : z_H} {t : z_Tr} (hM : M.1.cls = RX0) {L : Nat} {x : Int32} {B : Nat} (hF : z_F h)  (hT : z_T h L = some (.inl (13))) (hR : z_R h L 0 = some 26) (h85 : 85 ≤ L) (ht : z_cn t.1 B) (hB : B + 60 < 2 ^ 31) (hd : decode M.2.1 pc = .ok (.invokevirtual 361, 3)) (he : 4 ≤ e) (hst : (rest.map fun v => v.category).sum ≤ 8) (h1 : cs ≤ cm) (h2 : ss ≤ sm) (kk : z_G Γ M (z_rm e cm sm) Q cs ss (pc + 3) ls (.int (a_vT 6 (z_I h L 2) (z_I h L 1) x) :: rest) (z_tc h (a_pu t (a_bT 6)))) : z_G Γ M (z_rm e cm sm) Q cs ss pc ls (.int x :: .ref L :: rest) (z_tc h t) := by
  exact z_vcall (by rw [hM]; exact vl_X0_361_13) (c_X13_turns_13 hF hT hR h85 ht (by omega)) hd rfl rfl hT ⟨by show 3 + 64 + 1 ≤ e + 64; omega, by show 8 + (2 + 11) + (64 * 3 + 20000) ≤ 64 * e + 20000; omega⟩ hst h1 h2 (z_cI kk) z_tI
theorem z_s_turns {Γ : z_W} {M : z_M} {Q : Outcome → z_H → Prop} {cs ss pc e cm sm : Nat} {ls : List (Option Value)} {rest : List Value} {h : z_H} {t : z_Tr} (hM : M.1.cls = RX0) {L k : Nat} {x : Int32} {B : Nat} (hF : z_F h) (hk : k ≤ 6) (hT : z_T h L = some (.inl (7 + k))) (hR : z_R h L 0 = some 26) (h85 : 85 ≤ L) (ht : z_cn t.1 B) (hB : B + 60 < 2 ^ 31) (hd : decode M.2.1 pc = .ok (.invokevirtual 361, 3)) (he : 4 ≤ e) (hst : (rest.map fun v => v.category).sum ≤ 8) (h1 : cs ≤ cm) (h2 : ss ≤ sm) (kk : z_G Γ M (z_rm e cm sm) Q cs ss (pc + 3) ls (.int (a_vT (nI k) (z_I h L 2) (z_I h L 1) x) :: rest) (z_tc h (a_pu t (a_bT (nI k))))) : z_G Γ M (z_rm e cm sm) Q cs ss pc ls (.int x :: .ref L :: rest) (z_tc h t) := by
  have hk7 : k = 0 ∨ k = 1 ∨ k = 2 ∨ k = 3 ∨ k = 4 ∨ k = 5 ∨ k = 6 := by omega
  rcases hk7 with e | e | e | e | e | e | e
  · subst e; rw [show nI 0 = 0 from rfl] at kk; exact z_s_turns_0 hM hF hT hR h85 ht hB hd he hst h1 h2 kk
  · subst e; rw [show nI 1 = 1 from rfl] at kk; exact z_s_turns_1 hM hF hT hR h85 ht hB hd he hst h1 h2 kk
  · subst e; rw [show nI 2 = 2 from rfl] at kk; exact z_s_turns_2 hM hF hT hR h85 ht hB hd he hst h1 h2 kk
  · subst e; rw [show nI 3 = 3 from rfl] at kk; exact z_s_turns_3 hM hF hT hR h85 ht hB hd he hst h1 h2 kk
  · subst e; rw [show nI 4 = 4 from rfl] at kk; exact z_s_turns_4 hM hF hT hR h85 ht hB hd he hst h1 h2 kk
  · subst e; rw [show nI 5 = 5 from rfl] at kk; exact z_s_turns_5 hM hF hT hR h85 ht hB hd he hst h1 h2 kk
  · subst e; rw [show nI 6 = 6 from rfl] at kk; exact z_s_turns_6 hM hF hT hR h85 ht hB hd he hst h1 h2 kk
theorem z_s_climbs_0 {Γ : z_W} {M : z_M} {Q : Outcome → z_H → Prop} {cs ss pc e cm sm : Nat} {ls : List (Option Value)} {rest : List Value} {h : z_H} {t : z_Tr} (hM : M.1.cls = RX0) {L : Nat} {x : Int32} {B : Nat} (hF : z_F h)  (hT : z_T h L = some (.inl (7))) (hR : z_R h L 0 = some 26) (h85 : 85 ≤ L) (ht : z_cn t.1 B) (hB : B + 60 < 2 ^ 31) (hd : decode M.2.1 pc = .ok (.invokevirtual 363, 3)) (he : 10 ≤ e) (hst : (rest.map fun v => v.category).sum ≤ 8) (h1 : cs ≤ cm) (h2 : ss ≤ sm) (kk : z_G Γ M (z_rm e cm sm) Q cs ss (pc + 3) ls (.int (a_vC 0 (z_I h L 2) (z_I h L 1) x) :: rest) (z_tc h (a_pu t (a_bC 0)))) : z_G Γ M (z_rm e cm sm) Q cs ss pc ls (.int x :: .ref L :: rest) (z_tc h t) := by
  have e1 : a_vC 0 (z_I h L 2) (z_I h L 1) x = a_vLC 0 (z_I h L 2) (z_I h L 1) x := by unfold a_vC; rw [if_neg (by decide), if_neg (by decide), if_neg (by decide)]
  have e2 : a_bC 0 = a_bLC 0 := by unfold a_bC; rw [if_neg (by decide), if_neg (by decide), if_neg (by decide)]
  rw [e1, e2] at kk
  exact z_vcall (by rw [hM]; exact vl_X0_363_7) (c_X7_climbs_7 hF hT hR h85 ht (by omega)) hd rfl rfl hT ⟨by show 5 + 64 + 1 ≤ e + 64; omega, by show 8 + (2 + 11) + (64 * 5 + 20000) ≤ 64 * e + 20000; omega⟩ hst h1 h2 (z_cI kk) z_tI
theorem z_s_climbs_1 {Γ : z_W} {M : z_M} {Q : Outcome → z_H → Prop} {cs ss pc e cm sm : Nat} {ls : List (Option Value)} {rest : List Value} {h : z_H} {t : z_Tr} (hM : M.1.cls = RX0) {L : Nat} {x : Int32} {B : Nat} (hF : z_F h)  (hT : z_T h L = some (.inl (8))) (hR : z_R h L 0 = some 26) (h85 : 85 ≤ L) (ht : z_cn t.1 B) (hB : B + 60 < 2 ^ 31) (hd : decode M.2.1 pc = .ok (.invokevirtual 363, 3)) (he : 10 ≤ e) (hst : (rest.map fun v => v.category).sum ≤ 8) (h1 : cs ≤ cm) (h2 : ss ≤ sm) (kk : z_G Γ M (z_rm e cm sm) Q cs ss (pc + 3) ls (.int (a_vC 1 (z_I h L 2) (z_I h L 1) x) :: rest) (z_tc h (a_pu t (a_bC 1)))) : z_G Γ M (z_rm e cm sm) Q cs ss pc ls (.int x :: .ref L :: rest) (z_tc h t) := by
  have e1 : a_vC 1 (z_I h L 2) (z_I h L 1) x = a_vSC 1 (z_I h L 2) (z_I h L 1) x := by unfold a_vC; rw [if_pos rfl]
  have e2 : a_bC 1 = a_bSC 1 := by unfold a_bC; rw [if_pos rfl]
  rw [e1, e2] at kk
  exact z_vcall (by rw [hM]; exact vl_X0_363_8) (c_X8_climbs_8 hF hT hR h85 ht (by omega)) hd rfl rfl hT ⟨by show 7 + 64 + 1 ≤ e + 64; omega, by show 8 + (2 + 11) + (64 * 7 + 20000) ≤ 64 * e + 20000; omega⟩ hst h1 h2 (z_cI kk) z_tI
theorem z_s_climbs_2 {Γ : z_W} {M : z_M} {Q : Outcome → z_H → Prop} {cs ss pc e cm sm : Nat} {ls : List (Option Value)} {rest : List Value} {h : z_H} {t : z_Tr} (hM : M.1.cls = RX0) {L : Nat} {x : Int32} {B : Nat} (hF : z_F h)  (hT : z_T h L = some (.inl (9))) (hR : z_R h L 0 = some 26) (h85 : 85 ≤ L) (ht : z_cn t.1 B) (hB : B + 60 < 2 ^ 31) (hd : decode M.2.1 pc = .ok (.invokevirtual 363, 3)) (he : 10 ≤ e) (hst : (rest.map fun v => v.category).sum ≤ 8) (h1 : cs ≤ cm) (h2 : ss ≤ sm) (kk : z_G Γ M (z_rm e cm sm) Q cs ss (pc + 3) ls (.int (a_vC 2 (z_I h L 2) (z_I h L 1) x) :: rest) (z_tc h (a_pu t (a_bC 2)))) : z_G Γ M (z_rm e cm sm) Q cs ss pc ls (.int x :: .ref L :: rest) (z_tc h t) := by
  have e1 : a_vC 2 (z_I h L 2) (z_I h L 1) x = a_vLC 2 (z_I h L 2) (z_I h L 1) x := by unfold a_vC; rw [if_neg (by decide), if_neg (by decide), if_neg (by decide)]
  have e2 : a_bC 2 = a_bLC 2 := by unfold a_bC; rw [if_neg (by decide), if_neg (by decide), if_neg (by decide)]
  rw [e1, e2] at kk
  exact z_vcall (by rw [hM]; exact vl_X0_363_9) (c_X7_climbs_9 hF hT hR h85 ht (by omega)) hd rfl rfl hT ⟨by show 5 + 64 + 1 ≤ e + 64; omega, by show 8 + (2 + 11) + (64 * 5 + 20000) ≤ 64 * e + 20000; omega⟩ hst h1 h2 (z_cI kk) z_tI
theorem z_s_climbs_3 {Γ : z_W} {M : z_M} {Q : Outcome → z_H → Prop} {cs ss pc e cm sm : Nat} {ls : List (Option Value)} {rest : List Value} {h : z_H} {t : z_Tr} (hM : M.1.cls = RX0) {L : Nat} {x : Int32} {B : Nat} (hF : z_F h)  (hT : z_T h L = some (.inl (10))) (hR : z_R h L 0 = some 26) (h85 : 85 ≤ L) (ht : z_cn t.1 B) (hB : B + 60 < 2 ^ 31) (hd : decode M.2.1 pc = .ok (.invokevirtual 363, 3)) (he : 10 ≤ e) (hst : (rest.map fun v => v.category).sum ≤ 8) (h1 : cs ≤ cm) (h2 : ss ≤ sm) (kk : z_G Γ M (z_rm e cm sm) Q cs ss (pc + 3) ls (.int (a_vC 3 (z_I h L 2) (z_I h L 1) x) :: rest) (z_tc h (a_pu t (a_bC 3)))) : z_G Γ M (z_rm e cm sm) Q cs ss pc ls (.int x :: .ref L :: rest) (z_tc h t) := by
  have e1 : a_vC 3 (z_I h L 2) (z_I h L 1) x = a_vLC 3 (z_I h L 2) (z_I h L 1) x := by unfold a_vC; rw [if_neg (by decide), if_neg (by decide), if_neg (by decide)]
  have e2 : a_bC 3 = a_bLC 3 := by unfold a_bC; rw [if_neg (by decide), if_neg (by decide), if_neg (by decide)]
  rw [e1, e2] at kk
  exact z_vcall (by rw [hM]; exact vl_X0_363_10) (c_X7_climbs_10 hF hT hR h85 ht (by omega)) hd rfl rfl hT ⟨by show 5 + 64 + 1 ≤ e + 64; omega, by show 8 + (2 + 11) + (64 * 5 + 20000) ≤ 64 * e + 20000; omega⟩ hst h1 h2 (z_cI kk) z_tI
theorem z_s_climbs_4 {Γ : z_W} {M : z_M} {Q : Outcome → z_H → Prop} {cs ss pc e cm sm : Nat} {ls : List (Option Value)} {rest : List Value} {h : z_H} {t : z_Tr} (hM : M.1.cls = RX0) {L : Nat} {x : Int32} {B : Nat} (hF : z_F h)  (hT : z_T h L = some (.inl (11))) (hR : z_R h L 0 = some 26) (h85 : 85 ≤ L) (ht : z_cn t.1 B) (hB : B + 60 < 2 ^ 31) (hd : decode M.2.1 pc = .ok (.invokevirtual 363, 3)) (he : 10 ≤ e) (hst : (rest.map fun v => v.category).sum ≤ 8) (h1 : cs ≤ cm) (h2 : ss ≤ sm) (kk : z_G Γ M (z_rm e cm sm) Q cs ss (pc + 3) ls (.int (a_vC 4 (z_I h L 2) (z_I h L 1) x) :: rest) (z_tc h (a_pu t (a_bC 4)))) : z_G Γ M (z_rm e cm sm) Q cs ss pc ls (.int x :: .ref L :: rest) (z_tc h t) := by
  exact z_vcall (by rw [hM]; exact vl_X0_363_11) (c_X11_climbs_11 hF hT hR h85 ht (by omega)) hd rfl rfl hT ⟨by show 9 + 64 + 1 ≤ e + 64; omega, by show 8 + (2 + 11) + (64 * 9 + 20000) ≤ 64 * e + 20000; omega⟩ hst h1 h2 (z_cI kk) z_tI
theorem z_s_climbs_5 {Γ : z_W} {M : z_M} {Q : Outcome → z_H → Prop} {cs ss pc e cm sm : Nat} {ls : List (Option Value)} {rest : List Value} {h : z_H} {t : z_Tr} (hM : M.1.cls = RX0) {L : Nat} {x : Int32} {B : Nat} (hF : z_F h)  (hT : z_T h L = some (.inl (12))) (hR : z_R h L 0 = some 26) (h85 : 85 ≤ L) (ht : z_cn t.1 B) (hB : B + 60 < 2 ^ 31) (hd : decode M.2.1 pc = .ok (.invokevirtual 363, 3)) (he : 10 ≤ e) (hst : (rest.map fun v => v.category).sum ≤ 8) (h1 : cs ≤ cm) (h2 : ss ≤ sm) (kk : z_G Γ M (z_rm e cm sm) Q cs ss (pc + 3) ls (.int (a_vC 5 (z_I h L 2) (z_I h L 1) x) :: rest) (z_tc h (a_pu t (a_bC 5)))) : z_G Γ M (z_rm e cm sm) Q cs ss pc ls (.int x :: .ref L :: rest) (z_tc h t) := by
  have e1 : a_vC 5 (z_I h L 2) (z_I h L 1) x = a_vLC 5 (z_I h L 2) (z_I h L 1) x := by unfold a_vC; rw [if_neg (by decide), if_neg (by decide), if_neg (by decide)]
  have e2 : a_bC 5 = a_bLC 5 := by unfold a_bC; rw [if_neg (by decide), if_neg (by decide), if_neg (by decide)]
  rw [e1, e2] at kk
  exact z_vcall (by rw [hM]; exact vl_X0_363_12) (c_X7_climbs_12 hF hT hR h85 ht (by omega)) hd rfl rfl hT ⟨by show 5 + 64 + 1 ≤ e + 64; omega, by show 8 + (2 + 11) + (64 * 5 + 20000) ≤ 64 * e + 20000; omega⟩ hst h1 h2 (z_cI kk) z_tI
theorem z_s_climbs_6 {Γ : z_W} {M : z_M} {Q : Outcome → z_H → Prop} {cs ss pc e cm sm : Nat} {ls : List (Option Value)} {rest : List Value} {h : z_H} {t : z_Tr} (hM : M.1.cls = RX0) {L : Nat} {x : Int32} {B : Nat} (hF : z_F h)  (hT : z_T h L = some (.inl (13))) (hR : z_R h L 0 = some 26) (h85 : 85 ≤ L) (ht : z_cn t.1 B) (hB : B + 60 < 2 ^ 31) (hd : decode M.2.1 pc = .ok (.invokevirtual 363, 3)) (he : 10 ≤ e) (hst : (rest.map fun v => v.category).sum ≤ 8) (h1 : cs ≤ cm) (h2 : ss ≤ sm) (kk : z_G Γ M (z_rm e cm sm) Q cs ss (pc + 3) ls (.int (a_vC 6 (z_I h L 2) (z_I h L 1) x) :: rest) (z_tc h (a_pu t (a_bC 6)))) : z_G Γ M (z_rm e cm sm) Q cs ss pc ls (.int x :: .ref L :: rest) (z_tc h t) := by
  exact z_vcall (by rw [hM]; exact vl_X0_363_13) (c_X13_climbs_13 hF hT hR h85 ht (by omega)) hd rfl rfl hT ⟨by show 9 + 64 + 1 ≤ e + 64; omega, by show 8 + (3 + 11) + (64 * 9 + 20000) ≤ 64 * e + 20000; omega⟩ hst h1 h2 (z_cI kk) z_tI
theorem z_s_climbs {Γ : z_W} {M : z_M} {Q : Outcome → z_H → Prop} {cs ss pc e cm sm : Nat} {ls : List (Option Value)} {rest : List Value} {h : z_H} {t : z_Tr} (hM : M.1.cls = RX0) {L k : Nat} {x : Int32} {B : Nat} (hF : z_F h) (hk : k ≤ 6) (hT : z_T h L = some (.inl (7 + k))) (hR : z_R h L 0 = some 26) (h85 : 85 ≤ L) (ht : z_cn t.1 B) (hB : B + 60 < 2 ^ 31) (hd : decode M.2.1 pc = .ok (.invokevirtual 363, 3)) (he : 10 ≤ e) (hst : (rest.map fun v => v.category).sum ≤ 8) (h1 : cs ≤ cm) (h2 : ss ≤ sm) (kk : z_G Γ M (z_rm e cm sm) Q cs ss (pc + 3) ls (.int (a_vC (nI k) (z_I h L 2) (z_I h L 1) x) :: rest) (z_tc h (a_pu t (a_bC (nI k))))) : z_G Γ M (z_rm e cm sm) Q cs ss pc ls (.int x :: .ref L :: rest) (z_tc h t) := by
  have hk7 : k = 0 ∨ k = 1 ∨ k = 2 ∨ k = 3 ∨ k = 4 ∨ k = 5 ∨ k = 6 := by omega
  rcases hk7 with e | e | e | e | e | e | e
  · subst e; rw [show nI 0 = 0 from rfl] at kk; exact z_s_climbs_0 hM hF hT hR h85 ht hB hd he hst h1 h2 kk
  · subst e; rw [show nI 1 = 1 from rfl] at kk; exact z_s_climbs_1 hM hF hT hR h85 ht hB hd he hst h1 h2 kk
  · subst e; rw [show nI 2 = 2 from rfl] at kk; exact z_s_climbs_2 hM hF hT hR h85 ht hB hd he hst h1 h2 kk
  · subst e; rw [show nI 3 = 3 from rfl] at kk; exact z_s_climbs_3 hM hF hT hR h85 ht hB hd he hst h1 h2 kk
  · subst e; rw [show nI 4 = 4 from rfl] at kk; exact z_s_climbs_4 hM hF hT hR h85 ht hB hd he hst h1 h2 kk
  · subst e; rw [show nI 5 = 5 from rfl] at kk; exact z_s_climbs_5 hM hF hT hR h85 ht hB hd he hst h1 h2 kk
  · subst e; rw [show nI 6 = 6 from rfl] at kk; exact z_s_climbs_6 hM hF hT hR h85 ht hB hd he hst h1 h2 kk
theorem z_s_tells_0 {Γ : z_W} {M : z_M} {Q : Outcome → z_H → Prop} {cs ss pc e cm sm : Nat} {ls : List (Option Value)} {rest : List Value} {h : z_H} {t : z_Tr} (hM : M.1.cls = RX0) {L : Nat} {x : Int32} {B : Nat} (hF : z_F h)  (hT : z_T h L = some (.inl (7))) (hR : z_R h L 0 = some 26) (h85 : 85 ≤ L) (ht : z_cn t.1 B) (hB : B + 60 < 2 ^ 31) (hd : decode M.2.1 pc = .ok (.invokevirtual 365, 3)) (he : 14 ≤ e) (hst : (rest.map fun v => v.category).sum ≤ 8) (h1 : cs ≤ cm) (h2 : ss ≤ sm) (kk : z_G Γ M (z_rm e cm sm) Q cs ss (pc + 3) ls (.int (a_vS 0 (z_I h L 2) (z_I h L 1) x) :: rest) (z_tc h (a_pu t (a_bS 0)))) : z_G Γ M (z_rm e cm sm) Q cs ss pc ls (.int x :: .ref L :: rest) (z_tc h t) := by
  have e1 : a_vS 0 (z_I h L 2) (z_I h L 1) x = a_vLS 0 (z_I h L 2) (z_I h L 1) x := by unfold a_vS; rw [if_neg (by decide), if_neg (by decide), if_neg (by decide), if_neg (by decide)]
  have e2 : a_bS 0 = a_bLS 0 := by unfold a_bS; rw [if_neg (by decide), if_neg (by decide), if_neg (by decide), if_neg (by decide)]
  rw [e1, e2] at kk
  exact z_vcall (by rw [hM]; exact vl_X0_365_7) (c_X7_tells_7 hF hT hR h85 ht (by omega)) hd rfl rfl hT ⟨by show 11 + 64 + 1 ≤ e + 64; omega, by show 8 + (2 + 11) + (64 * 11 + 20000) ≤ 64 * e + 20000; omega⟩ hst h1 h2 (z_cI kk) z_tI
theorem z_s_tells_1 {Γ : z_W} {M : z_M} {Q : Outcome → z_H → Prop} {cs ss pc e cm sm : Nat} {ls : List (Option Value)} {rest : List Value} {h : z_H} {t : z_Tr} (hM : M.1.cls = RX0) {L : Nat} {x : Int32} {B : Nat} (hF : z_F h)  (hT : z_T h L = some (.inl (8))) (hR : z_R h L 0 = some 26) (h85 : 85 ≤ L) (ht : z_cn t.1 B) (hB : B + 60 < 2 ^ 31) (hd : decode M.2.1 pc = .ok (.invokevirtual 365, 3)) (he : 14 ≤ e) (hst : (rest.map fun v => v.category).sum ≤ 8) (h1 : cs ≤ cm) (h2 : ss ≤ sm) (kk : z_G Γ M (z_rm e cm sm) Q cs ss (pc + 3) ls (.int (a_vS 1 (z_I h L 2) (z_I h L 1) x) :: rest) (z_tc h (a_pu t (a_bS 1)))) : z_G Γ M (z_rm e cm sm) Q cs ss pc ls (.int x :: .ref L :: rest) (z_tc h t) := by
  have e1 : a_vS 1 (z_I h L 2) (z_I h L 1) x = a_vLS 1 (z_I h L 2) (z_I h L 1) x := by unfold a_vS; rw [if_neg (by decide), if_neg (by decide), if_neg (by decide), if_neg (by decide)]
  have e2 : a_bS 1 = a_bLS 1 := by unfold a_bS; rw [if_neg (by decide), if_neg (by decide), if_neg (by decide), if_neg (by decide)]
  rw [e1, e2] at kk
  exact z_vcall (by rw [hM]; exact vl_X0_365_8) (c_X7_tells_8 hF hT hR h85 ht (by omega)) hd rfl rfl hT ⟨by show 11 + 64 + 1 ≤ e + 64; omega, by show 8 + (2 + 11) + (64 * 11 + 20000) ≤ 64 * e + 20000; omega⟩ hst h1 h2 (z_cI kk) z_tI
theorem z_s_tells_2 {Γ : z_W} {M : z_M} {Q : Outcome → z_H → Prop} {cs ss pc e cm sm : Nat} {ls : List (Option Value)} {rest : List Value} {h : z_H} {t : z_Tr} (hM : M.1.cls = RX0) {L : Nat} {x : Int32} {B : Nat} (hF : z_F h)  (hT : z_T h L = some (.inl (9))) (hR : z_R h L 0 = some 26) (h85 : 85 ≤ L) (ht : z_cn t.1 B) (hB : B + 60 < 2 ^ 31) (hd : decode M.2.1 pc = .ok (.invokevirtual 365, 3)) (he : 14 ≤ e) (hst : (rest.map fun v => v.category).sum ≤ 8) (h1 : cs ≤ cm) (h2 : ss ≤ sm) (kk : z_G Γ M (z_rm e cm sm) Q cs ss (pc + 3) ls (.int (a_vS 2 (z_I h L 2) (z_I h L 1) x) :: rest) (z_tc h (a_pu t (a_bS 2)))) : z_G Γ M (z_rm e cm sm) Q cs ss pc ls (.int x :: .ref L :: rest) (z_tc h t) := by
  have e1 : a_vS 2 (z_I h L 2) (z_I h L 1) x = a_vLS 2 (z_I h L 2) (z_I h L 1) x := by unfold a_vS; rw [if_neg (by decide), if_neg (by decide), if_neg (by decide), if_neg (by decide)]
  have e2 : a_bS 2 = a_bLS 2 := by unfold a_bS; rw [if_neg (by decide), if_neg (by decide), if_neg (by decide), if_neg (by decide)]
  rw [e1, e2] at kk
  exact z_vcall (by rw [hM]; exact vl_X0_365_9) (c_X7_tells_9 hF hT hR h85 ht (by omega)) hd rfl rfl hT ⟨by show 11 + 64 + 1 ≤ e + 64; omega, by show 8 + (2 + 11) + (64 * 11 + 20000) ≤ 64 * e + 20000; omega⟩ hst h1 h2 (z_cI kk) z_tI
theorem z_s_tells_3 {Γ : z_W} {M : z_M} {Q : Outcome → z_H → Prop} {cs ss pc e cm sm : Nat} {ls : List (Option Value)} {rest : List Value} {h : z_H} {t : z_Tr} (hM : M.1.cls = RX0) {L : Nat} {x : Int32} {B : Nat} (hF : z_F h)  (hT : z_T h L = some (.inl (10))) (hR : z_R h L 0 = some 26) (h85 : 85 ≤ L) (ht : z_cn t.1 B) (hB : B + 60 < 2 ^ 31) (hd : decode M.2.1 pc = .ok (.invokevirtual 365, 3)) (he : 14 ≤ e) (hst : (rest.map fun v => v.category).sum ≤ 8) (h1 : cs ≤ cm) (h2 : ss ≤ sm) (kk : z_G Γ M (z_rm e cm sm) Q cs ss (pc + 3) ls (.int (a_vS 3 (z_I h L 2) (z_I h L 1) x) :: rest) (z_tc h (a_pu t (a_bS 3)))) : z_G Γ M (z_rm e cm sm) Q cs ss pc ls (.int x :: .ref L :: rest) (z_tc h t) := by
  exact z_vcall (by rw [hM]; exact vl_X0_365_10) (c_X10_tells_10 hF hT hR h85 ht (by omega)) hd rfl rfl hT ⟨by show 13 + 64 + 1 ≤ e + 64; omega, by show 8 + (3 + 11) + (64 * 13 + 20000) ≤ 64 * e + 20000; omega⟩ hst h1 h2 (z_cI kk) z_tI
theorem z_s_tells_4 {Γ : z_W} {M : z_M} {Q : Outcome → z_H → Prop} {cs ss pc e cm sm : Nat} {ls : List (Option Value)} {rest : List Value} {h : z_H} {t : z_Tr} (hM : M.1.cls = RX0) {L : Nat} {x : Int32} {B : Nat} (hF : z_F h)  (hT : z_T h L = some (.inl (11))) (hR : z_R h L 0 = some 26) (h85 : 85 ≤ L) (ht : z_cn t.1 B) (hB : B + 60 < 2 ^ 31) (hd : decode M.2.1 pc = .ok (.invokevirtual 365, 3)) (he : 14 ≤ e) (hst : (rest.map fun v => v.category).sum ≤ 8) (h1 : cs ≤ cm) (h2 : ss ≤ sm) (kk : z_G Γ M (z_rm e cm sm) Q cs ss (pc + 3) ls (.int (a_vS 4 (z_I h L 2) (z_I h L 1) x) :: rest) (z_tc h (a_pu t (a_bS 4)))) : z_G Γ M (z_rm e cm sm) Q cs ss pc ls (.int x :: .ref L :: rest) (z_tc h t) := by
  have e1 : a_vS 4 (z_I h L 2) (z_I h L 1) x = a_vLS 4 (z_I h L 2) (z_I h L 1) x := by unfold a_vS; rw [if_neg (by decide), if_pos rfl]
  have e2 : a_bS 4 = a_bLS 4 := by unfold a_bS; rw [if_neg (by decide), if_pos rfl]
  rw [e1, e2] at kk
  exact z_vcall (by rw [hM]; exact vl_X0_365_11) (c_X7_tells_11 hF hT hR h85 ht (by omega)) hd rfl rfl hT ⟨by show 11 + 64 + 1 ≤ e + 64; omega, by show 8 + (2 + 11) + (64 * 11 + 20000) ≤ 64 * e + 20000; omega⟩ hst h1 h2 (z_cI kk) z_tI
theorem z_s_tells_5 {Γ : z_W} {M : z_M} {Q : Outcome → z_H → Prop} {cs ss pc e cm sm : Nat} {ls : List (Option Value)} {rest : List Value} {h : z_H} {t : z_Tr} (hM : M.1.cls = RX0) {L : Nat} {x : Int32} {B : Nat} (hF : z_F h)  (hT : z_T h L = some (.inl (12))) (hR : z_R h L 0 = some 26) (h85 : 85 ≤ L) (ht : z_cn t.1 B) (hB : B + 60 < 2 ^ 31) (hd : decode M.2.1 pc = .ok (.invokevirtual 365, 3)) (he : 14 ≤ e) (hst : (rest.map fun v => v.category).sum ≤ 8) (h1 : cs ≤ cm) (h2 : ss ≤ sm) (kk : z_G Γ M (z_rm e cm sm) Q cs ss (pc + 3) ls (.int (a_vS 5 (z_I h L 2) (z_I h L 1) x) :: rest) (z_tc h (a_pu t (a_bS 5)))) : z_G Γ M (z_rm e cm sm) Q cs ss pc ls (.int x :: .ref L :: rest) (z_tc h t) := by
  exact z_vcall (by rw [hM]; exact vl_X0_365_12) (c_X12_tells_12 hF hT hR h85 ht (by omega)) hd rfl rfl hT ⟨by show 13 + 64 + 1 ≤ e + 64; omega, by show 8 + (2 + 11) + (64 * 13 + 20000) ≤ 64 * e + 20000; omega⟩ hst h1 h2 (z_cI kk) z_tI
theorem z_s_tells_6 {Γ : z_W} {M : z_M} {Q : Outcome → z_H → Prop} {cs ss pc e cm sm : Nat} {ls : List (Option Value)} {rest : List Value} {h : z_H} {t : z_Tr} (hM : M.1.cls = RX0) {L : Nat} {x : Int32} {B : Nat} (hF : z_F h)  (hT : z_T h L = some (.inl (13))) (hR : z_R h L 0 = some 26) (h85 : 85 ≤ L) (ht : z_cn t.1 B) (hB : B + 60 < 2 ^ 31) (hd : decode M.2.1 pc = .ok (.invokevirtual 365, 3)) (he : 14 ≤ e) (hst : (rest.map fun v => v.category).sum ≤ 8) (h1 : cs ≤ cm) (h2 : ss ≤ sm) (kk : z_G Γ M (z_rm e cm sm) Q cs ss (pc + 3) ls (.int (a_vS 6 (z_I h L 2) (z_I h L 1) x) :: rest) (z_tc h (a_pu t (a_bS 6)))) : z_G Γ M (z_rm e cm sm) Q cs ss pc ls (.int x :: .ref L :: rest) (z_tc h t) := by
  exact z_vcall (by rw [hM]; exact vl_X0_365_13) (c_X10_tells_13 hF hT hR h85 ht (by omega)) hd rfl rfl hT ⟨by show 13 + 64 + 1 ≤ e + 64; omega, by show 8 + (3 + 11) + (64 * 13 + 20000) ≤ 64 * e + 20000; omega⟩ hst h1 h2 (z_cI kk) z_tI
theorem z_s_tells {Γ : z_W} {M : z_M} {Q : Outcome → z_H → Prop} {cs ss pc e cm sm : Nat} {ls : List (Option Value)} {rest : List Value} {h : z_H} {t : z_Tr} (hM : M.1.cls = RX0) {L k : Nat} {x : Int32} {B : Nat} (hF : z_F h) (hk : k ≤ 6) (hT : z_T h L = some (.inl (7 + k))) (hR : z_R h L 0 = some 26) (h85 : 85 ≤ L) (ht : z_cn t.1 B) (hB : B + 60 < 2 ^ 31) (hd : decode M.2.1 pc = .ok (.invokevirtual 365, 3)) (he : 14 ≤ e) (hst : (rest.map fun v => v.category).sum ≤ 8) (h1 : cs ≤ cm) (h2 : ss ≤ sm) (kk : z_G Γ M (z_rm e cm sm) Q cs ss (pc + 3) ls (.int (a_vS (nI k) (z_I h L 2) (z_I h L 1) x) :: rest) (z_tc h (a_pu t (a_bS (nI k))))) : z_G Γ M (z_rm e cm sm) Q cs ss pc ls (.int x :: .ref L :: rest) (z_tc h t) := by
  have hk7 : k = 0 ∨ k = 1 ∨ k = 2 ∨ k = 3 ∨ k = 4 ∨ k = 5 ∨ k = 6 := by omega
  rcases hk7 with e | e | e | e | e | e | e
  · subst e; rw [show nI 0 = 0 from rfl] at kk; exact z_s_tells_0 hM hF hT hR h85 ht hB hd he hst h1 h2 kk
  · subst e; rw [show nI 1 = 1 from rfl] at kk; exact z_s_tells_1 hM hF hT hR h85 ht hB hd he hst h1 h2 kk
  · subst e; rw [show nI 2 = 2 from rfl] at kk; exact z_s_tells_2 hM hF hT hR h85 ht hB hd he hst h1 h2 kk
  · subst e; rw [show nI 3 = 3 from rfl] at kk; exact z_s_tells_3 hM hF hT hR h85 ht hB hd he hst h1 h2 kk
  · subst e; rw [show nI 4 = 4 from rfl] at kk; exact z_s_tells_4 hM hF hT hR h85 ht hB hd he hst h1 h2 kk
  · subst e; rw [show nI 5 = 5 from rfl] at kk; exact z_s_tells_5 hM hF hT hR h85 ht hB hd he hst h1 h2 kk
  · subst e; rw [show nI 6 = 6 from rfl] at kk; exact z_s_tells_6 hM hF hT hR h85 ht hB hd he hst h1 h2 kk
