/-! ArrayList: new, add, grow (printed by class30.py) -/
set_option maxRecDepth 20000
abbrev z_oa (n : Nat) : Nat ⊕ (FieldType × Nat) := .inr (.object "java/lang/Object", n)
theorem c_J0_init {Γ : z_W} {h : z_H} {L : Nat} : z_C Γ M_J0_init (z_rm 1 0 0) [.ref L] h (z_rv h) := by
  refine z_C.ofF (by decide +kernel) rfl [some (.ref L)] (Nat.le_of_ble_eq_true rfl) rfl ?_
  refine z_aload_n dJ0_init_0 rfl rfl ?_
  refine z_objInit dJ0_init_1 q180 q135 q136 (Nat.le_of_ble_eq_true rfl) ⟨by decide, by decide⟩ ?_
  exact z_vret dJ0_init_4 rfl (Nat.le_refl _) (Nat.le_refl _) (z_rv_i rfl)
theorem c_J1_init {Γ : z_W} {h : z_H} {L : Nat} (hT : z_T h L = some (.inl 21)) (hL : 16 ≤ L) : z_C Γ M_J1_init (z_rm 2 0 0) [.ref L] h (z_rv (z_sI h L 0 0)) := by
  refine z_C.ofF (by decide +kernel) rfl [some (.ref L)] (Nat.le_of_ble_eq_true rfl) rfl ?_
  refine z_aload_n dJ1_init_0 rfl rfl ?_
  refine z_icall il_J1_1 c_J0_init dJ1_init_1 rfl rfl ⟨by decide, by decide⟩ (Nat.le_of_ble_eq_true rfl) (Nat.le_refl _) (Nat.le_refl _) (z_cV ?_) z_tV
  refine z_aload_n dJ1_init_4 rfl rfl ?_
  refine z_iconst (v := 0) dJ1_init_5 rfl ?_
  refine z_putI dJ1_init_6 (pl_J1_7_21 rfl) hT hL rfl ?_
  exact z_vret dJ1_init_9 rfl (Nat.le_refl _) (Nat.le_refl _) (z_rv_i rfl)
/-- a list just made -/
def z_al0 (h : z_H) (L : Nat) : z_H := z_sR (z_sI h L 0 0) L 1 (some 1)
theorem c_J2_init {Γ : z_W} {h : z_H} {L : Nat} (hT : z_T h L = some (.inl 21)) (hL : 16 ≤ L) : z_C Γ M_J2_init (z_rm 3 0 0) [.ref L] h (z_rv (z_al0 h L)) := by
  refine z_C.ofF (by decide +kernel) rfl [some (.ref L)] (Nat.le_of_ble_eq_true rfl) rfl ?_
  refine z_aload_n dJ2_init_0 rfl rfl ?_
  refine z_icall il_J2_1 (c_J1_init hT hL) dJ2_init_1 rfl rfl ⟨by decide, by decide⟩ (Nat.le_of_ble_eq_true rfl) (Nat.le_refl _) (Nat.le_refl _) (z_cV ?_) z_tV
  refine z_aload_n dJ2_init_4 rfl rfl ?_
  refine z_gets dJ2_init_5 q181 z_svE ?_
  refine z_putR dJ2_init_8 (pl_J2_9_21 rfl) hT hL rfl ?_
  exact z_vret dJ2_init_11 rfl (Nat.le_refl _) (Nat.le_refl _) (z_rv_i rfl)
/-- what lies in a list's array may lie in any -/
def z_els (h : z_H) (A n : Nat) : Prop := ∀ i b, i < n → z_R h A i = some b → b < z_n h ∧ ∃ c q, z_T h b = some (.inl c) ∧ z_cl[c]? = some q ∧ z_As q.1 "java/lang/Object"
/-- a longer copy of an array -/
def z_cpo (h : z_H) (A n N : Nat) : z_H := z_cp (z_new h (z_oa N)) A (z_n h) 0 0 n

theorem c_J13_copyOf_2_10 {Γ : z_W} {h : z_H} {A : Nat} (hn : 85 ≤ z_n h) (hA : A < z_n h) (hT : z_T h A = some (z_oa 10)) (he : z_els h A 10) : z_C Γ M_J13_copyOf_2 (z_rm 2 1 15) [.ref A, .int 15, .ref 2] h (z_rr (z_n h) (z_cpo h A 10 15)) := by
  have hT1 : z_T (z_new h (z_oa 15)) A = some (z_oa 10) := (if_neg (Nat.ne_of_lt hA)).trans hT
  refine z_C.ofF (by decide +kernel) rfl [some (.ref A), some (.int 15), some (.ref 2), none] (Nat.le_of_ble_eq_true rfl) rfl ?_
  refine z_aload_n dJ13_copyOf_2_0 rfl rfl ?_
  refine z_ldcM dJ13_copyOf_2_1 q963 ?_
  refine z_acNS 13 dJ13_copyOf_2_3 (by decide) ?_
  refine z_iload_n dJ13_copyOf_2_6 rfl rfl ?_
  refine z_newq (N := 15) dJ13_copyOf_2_7 q965 (by simp [z_at]) (fun l U hK => hK.2.2.2.2.2.2.1) rfl (by decide) (Nat.le_of_ble_eq_true rfl) (Nat.le_of_ble_eq_true rfl) ?_
  refine z_goto 24 dJ13_copyOf_2_10 (by decide) ?_
  refine z_astore_n dJ13_copyOf_2_24 rfl (by decide) rfl ?_
  refine z_aload_n dJ13_copyOf_2_25 rfl rfl ?_
  refine z_iconst (v := 0) dJ13_copyOf_2_26 rfl ?_
  refine z_aload_n dJ13_copyOf_2_27 rfl rfl ?_
  refine z_iconst (v := 0) dJ13_copyOf_2_28 rfl ?_
  refine z_aload_n dJ13_copyOf_2_29 rfl rfl ?_
  refine z_alen dJ13_copyOf_2_30 hT1 (by simp [z_at]) ?_
  refine z_iload_n dJ13_copyOf_2_31 rfl rfl ?_
  refine z_scall sl_J13_304 c_J3_min dJ13_copyOf_2_32 rfl rfl ⟨by decide, by decide⟩ (Nat.le_of_ble_eq_true rfl) (Nat.le_of_ble_eq_true rfl) (Nat.le_of_ble_eq_true rfl) (z_cI ?_) z_tI
  refine z_eqi (nI 10) (by unfold m_J3_min; decide) ?_
  refine z_acopy (sp := 0) (dp := 0) (n := 10) dJ13_copyOf_2_35 q967 hT1 (if_pos rfl) (by simp [z_at]) (Nat.le_trans (by decide) hn) rfl rfl rfl (by decide) (by decide) ⟨by decide, by decide⟩ (Or.inr ⟨"java/lang/Object", rfl, fun i hi b hb => ?_⟩) (Nat.le_of_ble_eq_true rfl) ?_
  · rw [Nat.zero_add] at hb
    have hb2 : z_R h A i = some b := (if_neg (Nat.ne_of_lt hA)).symm.trans hb
    obtain ⟨g0, c, q, g1, g2, g3⟩ := he i b hi hb2
    refine ⟨c, q, ?_, g2, g3⟩
    rw [z_Tn, if_neg (Nat.ne_of_lt g0)]
    exact g1
  refine z_aload_n dJ13_copyOf_2_38 rfl rfl ?_
  exact z_aret dJ13_copyOf_2_39 rfl (Or.inr ⟨_, rfl⟩) (Or.inr ⟨_, rfl⟩) (Nat.le_of_ble_eq_true rfl) (Nat.le_of_ble_eq_true rfl) ⟨rfl, rfl⟩
theorem c_J13_copyOf_10 {Γ : z_W} {h : z_H} {A : Nat} (hn : 85 ≤ z_n h) (hA : A < z_n h) (hT : z_T h A = some (z_oa 10)) (he : z_els h A 10) : z_C Γ M_J13_copyOf (z_rm 3 1 15) [.ref A, .int 15] h (z_rr (z_n h) (z_cpo h A 10 15)) := by
  refine z_C.ofF (by decide +kernel) rfl [some (.ref A), some (.int 15)] (Nat.le_of_ble_eq_true rfl) rfl ?_
  refine z_aload_n dJ13_copyOf_0 rfl rfl ?_
  refine z_iload_n dJ13_copyOf_1 rfl rfl ?_
  refine z_aload_n dJ13_copyOf_2 rfl rfl ?_
  refine z_getC dJ13_copyOf_3 q930 hT (Nat.le_of_ble_eq_true rfl) ?_
  refine z_scall sl_J13_300 (c_J13_copyOf_2_10 hn hA hT he) dJ13_copyOf_6 rfl rfl ⟨by decide, by decide⟩ (Nat.le_of_ble_eq_true rfl) (Nat.le_refl _) (Nat.le_refl _) (z_cR ?_) z_tR
  exact z_aret dJ13_copyOf_9 rfl (Or.inr ⟨_, rfl⟩) (Or.inr ⟨_, rfl⟩) (Nat.le_refl _) (Nat.le_refl _) ⟨rfl, rfl⟩
theorem c_J13_copyOf_2_15 {Γ : z_W} {h : z_H} {A : Nat} (hn : 85 ≤ z_n h) (hA : A < z_n h) (hT : z_T h A = some (z_oa 15)) (he : z_els h A 15) : z_C Γ M_J13_copyOf_2 (z_rm 2 1 22) [.ref A, .int 22, .ref 2] h (z_rr (z_n h) (z_cpo h A 15 22)) := by
  have hT1 : z_T (z_new h (z_oa 22)) A = some (z_oa 15) := (if_neg (Nat.ne_of_lt hA)).trans hT
  refine z_C.ofF (by decide +kernel) rfl [some (.ref A), some (.int 22), some (.ref 2), none] (Nat.le_of_ble_eq_true rfl) rfl ?_
  refine z_aload_n dJ13_copyOf_2_0 rfl rfl ?_
  refine z_ldcM dJ13_copyOf_2_1 q963 ?_
  refine z_acNS 13 dJ13_copyOf_2_3 (by decide) ?_
  refine z_iload_n dJ13_copyOf_2_6 rfl rfl ?_
  refine z_newq (N := 22) dJ13_copyOf_2_7 q965 (by simp [z_at]) (fun l U hK => hK.2.2.2.2.2.2.1) rfl (by decide) (Nat.le_of_ble_eq_true rfl) (Nat.le_of_ble_eq_true rfl) ?_
  refine z_goto 24 dJ13_copyOf_2_10 (by decide) ?_
  refine z_astore_n dJ13_copyOf_2_24 rfl (by decide) rfl ?_
  refine z_aload_n dJ13_copyOf_2_25 rfl rfl ?_
  refine z_iconst (v := 0) dJ13_copyOf_2_26 rfl ?_
  refine z_aload_n dJ13_copyOf_2_27 rfl rfl ?_
  refine z_iconst (v := 0) dJ13_copyOf_2_28 rfl ?_
  refine z_aload_n dJ13_copyOf_2_29 rfl rfl ?_
  refine z_alen dJ13_copyOf_2_30 hT1 (by simp [z_at]) ?_
  refine z_iload_n dJ13_copyOf_2_31 rfl rfl ?_
  refine z_scall sl_J13_304 c_J3_min dJ13_copyOf_2_32 rfl rfl ⟨by decide, by decide⟩ (Nat.le_of_ble_eq_true rfl) (Nat.le_of_ble_eq_true rfl) (Nat.le_of_ble_eq_true rfl) (z_cI ?_) z_tI
  refine z_eqi (nI 15) (by unfold m_J3_min; decide) ?_
  refine z_acopy (sp := 0) (dp := 0) (n := 15) dJ13_copyOf_2_35 q967 hT1 (if_pos rfl) (by simp [z_at]) (Nat.le_trans (by decide) hn) rfl rfl rfl (by decide) (by decide) ⟨by decide, by decide⟩ (Or.inr ⟨"java/lang/Object", rfl, fun i hi b hb => ?_⟩) (Nat.le_of_ble_eq_true rfl) ?_
  · rw [Nat.zero_add] at hb
    have hb2 : z_R h A i = some b := (if_neg (Nat.ne_of_lt hA)).symm.trans hb
    obtain ⟨g0, c, q, g1, g2, g3⟩ := he i b hi hb2
    refine ⟨c, q, ?_, g2, g3⟩
    rw [z_Tn, if_neg (Nat.ne_of_lt g0)]
    exact g1
  refine z_aload_n dJ13_copyOf_2_38 rfl rfl ?_
  exact z_aret dJ13_copyOf_2_39 rfl (Or.inr ⟨_, rfl⟩) (Or.inr ⟨_, rfl⟩) (Nat.le_of_ble_eq_true rfl) (Nat.le_of_ble_eq_true rfl) ⟨rfl, rfl⟩
theorem c_J13_copyOf_15 {Γ : z_W} {h : z_H} {A : Nat} (hn : 85 ≤ z_n h) (hA : A < z_n h) (hT : z_T h A = some (z_oa 15)) (he : z_els h A 15) : z_C Γ M_J13_copyOf (z_rm 3 1 22) [.ref A, .int 22] h (z_rr (z_n h) (z_cpo h A 15 22)) := by
  refine z_C.ofF (by decide +kernel) rfl [some (.ref A), some (.int 22)] (Nat.le_of_ble_eq_true rfl) rfl ?_
  refine z_aload_n dJ13_copyOf_0 rfl rfl ?_
  refine z_iload_n dJ13_copyOf_1 rfl rfl ?_
  refine z_aload_n dJ13_copyOf_2 rfl rfl ?_
  refine z_getC dJ13_copyOf_3 q930 hT (Nat.le_of_ble_eq_true rfl) ?_
  refine z_scall sl_J13_300 (c_J13_copyOf_2_15 hn hA hT he) dJ13_copyOf_6 rfl rfl ⟨by decide, by decide⟩ (Nat.le_of_ble_eq_true rfl) (Nat.le_refl _) (Nat.le_refl _) (z_cR ?_) z_tR
  exact z_aret dJ13_copyOf_9 rfl (Or.inr ⟨_, rfl⟩) (Or.inr ⟨_, rfl⟩) (Nat.le_refl _) (Nat.le_refl _) ⟨rfl, rfl⟩
theorem c_J13_copyOf_2_22 {Γ : z_W} {h : z_H} {A : Nat} (hn : 85 ≤ z_n h) (hA : A < z_n h) (hT : z_T h A = some (z_oa 22)) (he : z_els h A 22) : z_C Γ M_J13_copyOf_2 (z_rm 2 1 33) [.ref A, .int 33, .ref 2] h (z_rr (z_n h) (z_cpo h A 22 33)) := by
  have hT1 : z_T (z_new h (z_oa 33)) A = some (z_oa 22) := (if_neg (Nat.ne_of_lt hA)).trans hT
  refine z_C.ofF (by decide +kernel) rfl [some (.ref A), some (.int 33), some (.ref 2), none] (Nat.le_of_ble_eq_true rfl) rfl ?_
  refine z_aload_n dJ13_copyOf_2_0 rfl rfl ?_
  refine z_ldcM dJ13_copyOf_2_1 q963 ?_
  refine z_acNS 13 dJ13_copyOf_2_3 (by decide) ?_
  refine z_iload_n dJ13_copyOf_2_6 rfl rfl ?_
  refine z_newq (N := 33) dJ13_copyOf_2_7 q965 (by simp [z_at]) (fun l U hK => hK.2.2.2.2.2.2.1) rfl (by decide) (Nat.le_of_ble_eq_true rfl) (Nat.le_of_ble_eq_true rfl) ?_
  refine z_goto 24 dJ13_copyOf_2_10 (by decide) ?_
  refine z_astore_n dJ13_copyOf_2_24 rfl (by decide) rfl ?_
  refine z_aload_n dJ13_copyOf_2_25 rfl rfl ?_
  refine z_iconst (v := 0) dJ13_copyOf_2_26 rfl ?_
  refine z_aload_n dJ13_copyOf_2_27 rfl rfl ?_
  refine z_iconst (v := 0) dJ13_copyOf_2_28 rfl ?_
  refine z_aload_n dJ13_copyOf_2_29 rfl rfl ?_
  refine z_alen dJ13_copyOf_2_30 hT1 (by simp [z_at]) ?_
  refine z_iload_n dJ13_copyOf_2_31 rfl rfl ?_
  refine z_scall sl_J13_304 c_J3_min dJ13_copyOf_2_32 rfl rfl ⟨by decide, by decide⟩ (Nat.le_of_ble_eq_true rfl) (Nat.le_of_ble_eq_true rfl) (Nat.le_of_ble_eq_true rfl) (z_cI ?_) z_tI
  refine z_eqi (nI 22) (by unfold m_J3_min; decide) ?_
  refine z_acopy (sp := 0) (dp := 0) (n := 22) dJ13_copyOf_2_35 q967 hT1 (if_pos rfl) (by simp [z_at]) (Nat.le_trans (by decide) hn) rfl rfl rfl (by decide) (by decide) ⟨by decide, by decide⟩ (Or.inr ⟨"java/lang/Object", rfl, fun i hi b hb => ?_⟩) (Nat.le_of_ble_eq_true rfl) ?_
  · rw [Nat.zero_add] at hb
    have hb2 : z_R h A i = some b := (if_neg (Nat.ne_of_lt hA)).symm.trans hb
    obtain ⟨g0, c, q, g1, g2, g3⟩ := he i b hi hb2
    refine ⟨c, q, ?_, g2, g3⟩
    rw [z_Tn, if_neg (Nat.ne_of_lt g0)]
    exact g1
  refine z_aload_n dJ13_copyOf_2_38 rfl rfl ?_
  exact z_aret dJ13_copyOf_2_39 rfl (Or.inr ⟨_, rfl⟩) (Or.inr ⟨_, rfl⟩) (Nat.le_of_ble_eq_true rfl) (Nat.le_of_ble_eq_true rfl) ⟨rfl, rfl⟩
theorem c_J13_copyOf_22 {Γ : z_W} {h : z_H} {A : Nat} (hn : 85 ≤ z_n h) (hA : A < z_n h) (hT : z_T h A = some (z_oa 22)) (he : z_els h A 22) : z_C Γ M_J13_copyOf (z_rm 3 1 33) [.ref A, .int 33] h (z_rr (z_n h) (z_cpo h A 22 33)) := by
  refine z_C.ofF (by decide +kernel) rfl [some (.ref A), some (.int 33)] (Nat.le_of_ble_eq_true rfl) rfl ?_
  refine z_aload_n dJ13_copyOf_0 rfl rfl ?_
  refine z_iload_n dJ13_copyOf_1 rfl rfl ?_
  refine z_aload_n dJ13_copyOf_2 rfl rfl ?_
  refine z_getC dJ13_copyOf_3 q930 hT (Nat.le_of_ble_eq_true rfl) ?_
  refine z_scall sl_J13_300 (c_J13_copyOf_2_22 hn hA hT he) dJ13_copyOf_6 rfl rfl ⟨by decide, by decide⟩ (Nat.le_of_ble_eq_true rfl) (Nat.le_refl _) (Nat.le_refl _) (z_cR ?_) z_tR
  exact z_aret dJ13_copyOf_9 rfl (Or.inr ⟨_, rfl⟩) (Or.inr ⟨_, rfl⟩) (Nat.le_refl _) (Nat.le_refl _) ⟨rfl, rfl⟩
theorem c_J12_newLength_10 {Γ : z_W} {h : z_H} : z_C Γ M_J12_newLength (z_rm 2 0 0) [.int 10, .int 1, .int 5] h (z_ri 15 h) := by
  refine z_C.ofF (by decide +kernel) rfl [some (.int 10), some (.int 1), some (.int 5), none] (Nat.le_of_ble_eq_true rfl) rfl ?_
  refine z_iload_n dJ12_newLength_0 rfl rfl ?_
  refine z_iload_n dJ12_newLength_1 rfl rfl ?_
  refine z_iload_n dJ12_newLength_2 rfl rfl ?_
  refine z_scall sl_J12_194 (c_J3_max) dJ12_newLength_3 rfl rfl ⟨by decide, by decide⟩ (Nat.le_of_ble_eq_true rfl) (Nat.le_refl _) (Nat.le_refl _) (z_cI ?_) z_tI
  refine z_eqi (5) (by unfold m_J3_max; decide) ?_
  refine z_iadd dJ12_newLength_6 ?_
  refine z_eqi (15) (by decide) ?_
  refine z_istore_n dJ12_newLength_7 rfl (by decide) rfl ?_
  refine z_iconst (v := 0) dJ12_newLength_8 rfl ?_
  refine z_iload_n dJ12_newLength_9 rfl rfl ?_
  refine z_icmp_ge 21 dJ12_newLength_10 (by decide) (fun q => absurd q (by decide)) (fun _ => ?_)
  refine z_iload_n dJ12_newLength_13 rfl rfl ?_
  refine z_ldc dJ12_newLength_14 q923 ?_
  refine z_icmp_gt 21 dJ12_newLength_16 (by decide) (fun q => absurd q (by decide)) (fun _ => ?_)
  refine z_iload_n dJ12_newLength_19 rfl rfl ?_
  refine z_iret dJ12_newLength_20 rfl rfl (Nat.le_refl _) (Nat.le_refl _) (z_ri_i ?_ ?_)
  · rfl
  · rfl
theorem c_J12_newLength_15 {Γ : z_W} {h : z_H} : z_C Γ M_J12_newLength (z_rm 2 0 0) [.int 15, .int 1, .int 7] h (z_ri 22 h) := by
  refine z_C.ofF (by decide +kernel) rfl [some (.int 15), some (.int 1), some (.int 7), none] (Nat.le_of_ble_eq_true rfl) rfl ?_
  refine z_iload_n dJ12_newLength_0 rfl rfl ?_
  refine z_iload_n dJ12_newLength_1 rfl rfl ?_
  refine z_iload_n dJ12_newLength_2 rfl rfl ?_
  refine z_scall sl_J12_194 (c_J3_max) dJ12_newLength_3 rfl rfl ⟨by decide, by decide⟩ (Nat.le_of_ble_eq_true rfl) (Nat.le_refl _) (Nat.le_refl _) (z_cI ?_) z_tI
  refine z_eqi (7) (by unfold m_J3_max; decide) ?_
  refine z_iadd dJ12_newLength_6 ?_
  refine z_eqi (22) (by decide) ?_
  refine z_istore_n dJ12_newLength_7 rfl (by decide) rfl ?_
  refine z_iconst (v := 0) dJ12_newLength_8 rfl ?_
  refine z_iload_n dJ12_newLength_9 rfl rfl ?_
  refine z_icmp_ge 21 dJ12_newLength_10 (by decide) (fun q => absurd q (by decide)) (fun _ => ?_)
  refine z_iload_n dJ12_newLength_13 rfl rfl ?_
  refine z_ldc dJ12_newLength_14 q923 ?_
  refine z_icmp_gt 21 dJ12_newLength_16 (by decide) (fun q => absurd q (by decide)) (fun _ => ?_)
  refine z_iload_n dJ12_newLength_19 rfl rfl ?_
  refine z_iret dJ12_newLength_20 rfl rfl (Nat.le_refl _) (Nat.le_refl _) (z_ri_i ?_ ?_)
  · rfl
  · rfl
theorem c_J12_newLength_22 {Γ : z_W} {h : z_H} : z_C Γ M_J12_newLength (z_rm 2 0 0) [.int 22, .int 1, .int 11] h (z_ri 33 h) := by
  refine z_C.ofF (by decide +kernel) rfl [some (.int 22), some (.int 1), some (.int 11), none] (Nat.le_of_ble_eq_true rfl) rfl ?_
  refine z_iload_n dJ12_newLength_0 rfl rfl ?_
  refine z_iload_n dJ12_newLength_1 rfl rfl ?_
  refine z_iload_n dJ12_newLength_2 rfl rfl ?_
  refine z_scall sl_J12_194 (c_J3_max) dJ12_newLength_3 rfl rfl ⟨by decide, by decide⟩ (Nat.le_of_ble_eq_true rfl) (Nat.le_refl _) (Nat.le_refl _) (z_cI ?_) z_tI
  refine z_eqi (11) (by unfold m_J3_max; decide) ?_
  refine z_iadd dJ12_newLength_6 ?_
  refine z_eqi (33) (by decide) ?_
  refine z_istore_n dJ12_newLength_7 rfl (by decide) rfl ?_
  refine z_iconst (v := 0) dJ12_newLength_8 rfl ?_
  refine z_iload_n dJ12_newLength_9 rfl rfl ?_
  refine z_icmp_ge 21 dJ12_newLength_10 (by decide) (fun q => absurd q (by decide)) (fun _ => ?_)
  refine z_iload_n dJ12_newLength_13 rfl rfl ?_
  refine z_ldc dJ12_newLength_14 q923 ?_
  refine z_icmp_gt 21 dJ12_newLength_16 (by decide) (fun q => absurd q (by decide)) (fun _ => ?_)
  refine z_iload_n dJ12_newLength_19 rfl rfl ?_
  refine z_iret dJ12_newLength_20 rfl rfl (Nat.le_refl _) (Nat.le_refl _) (z_ri_i ?_ ?_)
  · rfl
  · rfl
/-- the list's array is replaced -/
def z_gw (h : z_H) (L A n : Nat) : z_H := z_sR (if n = 0 then z_new h (z_oa 10) else z_cpo h A n (n + n / 2)) L 1 (some (z_n h))
theorem c_J2_grow_2_0 {Γ : z_W} {h : z_H} {L : Nat} (hn : 85 ≤ z_n h) (hL : 16 ≤ L) (hLn : L < z_n h) (hT : z_T h L = some (.inl 21)) (hR : z_R h L 1 = some 1) (hA : z_T h 1 = some (z_oa 0)) : z_C Γ M_J2_grow_2 (z_rm 4 1 33) [.ref L, .int 1] h (z_rr (z_n h) (z_gw h L 1 0)) := by
  have hT1 : z_T (z_new h (z_oa 10)) L = some (.inl 21) := (if_neg (Nat.ne_of_lt hLn)).trans hT
  refine z_C.ofF (by decide +kernel) rfl [some (.ref L), some (.int 1), none, none] (Nat.le_of_ble_eq_true rfl) rfl ?_
  refine z_aload_n dJ2_grow_2_0 rfl rfl ?_
  refine z_getR 1 dJ2_grow_2_1 fl_J2_9_21 hT rfl hR ?_
  refine z_alen dJ2_grow_2_4 hA (by simp [z_at]) ?_
  refine z_eqi 0 rfl ?_
  refine z_istore_n dJ2_grow_2_5 rfl (by decide) rfl ?_
  refine z_iload_n dJ2_grow_2_6 rfl rfl ?_
  refine z_if_gt 20 dJ2_grow_2_7 (by decide) (fun q => absurd q (by decide)) (fun _ => ?_)
  refine z_aload_n dJ2_grow_2_10 rfl rfl ?_
  refine z_getR 1 dJ2_grow_2_11 fl_J2_9_21 hT rfl hR ?_
  refine z_gets dJ2_grow_2_14 q181 z_svE ?_
  refine z_acES 45 dJ2_grow_2_17 (by decide) ?_
  refine z_aload_n dJ2_grow_2_45 rfl rfl ?_
  refine z_bipush (v := 10) dJ2_grow_2_46 rfl ?_
  refine z_iload_n dJ2_grow_2_48 rfl rfl ?_
  refine z_scall sl_J2_79 c_J3_max dJ2_grow_2_49 rfl rfl ⟨by decide, by decide⟩ (Nat.le_of_ble_eq_true rfl) (Nat.le_of_ble_eq_true rfl) (Nat.le_of_ble_eq_true rfl) (z_cI ?_) z_tI
  refine z_eqi 10 (by unfold m_J3_max; decide) ?_
  refine z_newq (N := 10) dJ2_grow_2_52 q971 (by simp [z_at]) (fun l U hK => hK.2.2.2.2.2.2.1) rfl (by decide) (Nat.le_of_ble_eq_true rfl) (Nat.le_of_ble_eq_true rfl) ?_
  refine z_dup_x1 dJ2_grow_2_55 rfl rfl ?_
  refine z_putR dJ2_grow_2_56 (pl_J2_9_21 rfl) hT1 hL rfl ?_
  exact z_aret dJ2_grow_2_59 rfl (Or.inr ⟨_, rfl⟩) (Or.inr ⟨_, rfl⟩) (Nat.le_of_ble_eq_true rfl) (Nat.le_of_ble_eq_true rfl) ⟨rfl, rfl⟩
theorem c_J2_grow_2_10 {Γ : z_W} {h : z_H} {L A : Nat} (hn : 85 ≤ z_n h) (hL : 16 ≤ L) (hLn : L < z_n h) (hT : z_T h L = some (.inl 21)) (hR : z_R h L 1 = some A) (hAn : A < z_n h) (hA : z_T h A = some (z_oa 10)) (he : z_els h A 10) : z_C Γ M_J2_grow_2 (z_rm 4 1 33) [.ref L, .int 11] h (z_rr (z_n h) (z_gw h L A 10)) := by
  have hT1 : z_T (z_cpo h A 10 15) L = some (.inl 21) := (if_neg (Nat.ne_of_lt hLn)).trans hT
  refine z_C.ofF (by decide +kernel) rfl [some (.ref L), some (.int 11), none, none] (Nat.le_of_ble_eq_true rfl) rfl ?_
  refine z_aload_n dJ2_grow_2_0 rfl rfl ?_
  refine z_getR A dJ2_grow_2_1 fl_J2_9_21 hT rfl hR ?_
  refine z_alen dJ2_grow_2_4 hA (by simp [z_at]) ?_
  refine z_eqi 10 rfl ?_
  refine z_istore_n dJ2_grow_2_5 rfl (by decide) rfl ?_
  refine z_iload_n dJ2_grow_2_6 rfl rfl ?_
  refine z_if_gt 20 dJ2_grow_2_7 (by decide) (fun _ => ?_) (fun q => absurd (by decide) q)
  refine z_iload_n dJ2_grow_2_20 rfl rfl ?_
  refine z_iload_n dJ2_grow_2_21 rfl rfl ?_
  refine z_iload_n dJ2_grow_2_22 rfl rfl ?_
  refine z_isub dJ2_grow_2_23 ?_
  refine z_eqi 1 (by decide) ?_
  refine z_iload_n dJ2_grow_2_24 rfl rfl ?_
  refine z_iconst (v := 1) dJ2_grow_2_25 rfl ?_
  refine z_ishr dJ2_grow_2_26 ?_
  refine z_eqi 5 (by decide) ?_
  refine z_scall sl_J2_73 c_J12_newLength_10 dJ2_grow_2_27 rfl rfl ⟨by decide, by decide⟩ (Nat.le_of_ble_eq_true rfl) (Nat.le_of_ble_eq_true rfl) (Nat.le_of_ble_eq_true rfl) (z_cI ?_) z_tI
  refine z_istore_n dJ2_grow_2_30 rfl (by decide) rfl ?_
  refine z_aload_n dJ2_grow_2_31 rfl rfl ?_
  refine z_aload_n dJ2_grow_2_32 rfl rfl ?_
  refine z_getR A dJ2_grow_2_33 fl_J2_9_21 hT rfl hR ?_
  refine z_iload_n dJ2_grow_2_36 rfl rfl ?_
  refine z_scall sl_J2_66 (c_J13_copyOf_10 hn hAn hA he) dJ2_grow_2_37 rfl rfl ⟨by decide, by decide⟩ (Nat.le_of_ble_eq_true rfl) (Nat.le_of_ble_eq_true rfl) (Nat.le_of_ble_eq_true rfl) (z_cR ?_) z_tR
  refine z_dup_x1 dJ2_grow_2_40 rfl rfl ?_
  refine z_putR dJ2_grow_2_41 (pl_J2_9_21 rfl) hT1 hL rfl ?_
  exact z_aret dJ2_grow_2_44 rfl (Or.inr ⟨_, rfl⟩) (Or.inr ⟨_, rfl⟩) (Nat.le_of_ble_eq_true rfl) (Nat.le_of_ble_eq_true rfl) ⟨rfl, rfl⟩
theorem c_J2_grow_2_15 {Γ : z_W} {h : z_H} {L A : Nat} (hn : 85 ≤ z_n h) (hL : 16 ≤ L) (hLn : L < z_n h) (hT : z_T h L = some (.inl 21)) (hR : z_R h L 1 = some A) (hAn : A < z_n h) (hA : z_T h A = some (z_oa 15)) (he : z_els h A 15) : z_C Γ M_J2_grow_2 (z_rm 4 1 33) [.ref L, .int 16] h (z_rr (z_n h) (z_gw h L A 15)) := by
  have hT1 : z_T (z_cpo h A 15 22) L = some (.inl 21) := (if_neg (Nat.ne_of_lt hLn)).trans hT
  refine z_C.ofF (by decide +kernel) rfl [some (.ref L), some (.int 16), none, none] (Nat.le_of_ble_eq_true rfl) rfl ?_
  refine z_aload_n dJ2_grow_2_0 rfl rfl ?_
  refine z_getR A dJ2_grow_2_1 fl_J2_9_21 hT rfl hR ?_
  refine z_alen dJ2_grow_2_4 hA (by simp [z_at]) ?_
  refine z_eqi 15 rfl ?_
  refine z_istore_n dJ2_grow_2_5 rfl (by decide) rfl ?_
  refine z_iload_n dJ2_grow_2_6 rfl rfl ?_
  refine z_if_gt 20 dJ2_grow_2_7 (by decide) (fun _ => ?_) (fun q => absurd (by decide) q)
  refine z_iload_n dJ2_grow_2_20 rfl rfl ?_
  refine z_iload_n dJ2_grow_2_21 rfl rfl ?_
  refine z_iload_n dJ2_grow_2_22 rfl rfl ?_
  refine z_isub dJ2_grow_2_23 ?_
  refine z_eqi 1 (by decide) ?_
  refine z_iload_n dJ2_grow_2_24 rfl rfl ?_
  refine z_iconst (v := 1) dJ2_grow_2_25 rfl ?_
  refine z_ishr dJ2_grow_2_26 ?_
  refine z_eqi 7 (by decide) ?_
  refine z_scall sl_J2_73 c_J12_newLength_15 dJ2_grow_2_27 rfl rfl ⟨by decide, by decide⟩ (Nat.le_of_ble_eq_true rfl) (Nat.le_of_ble_eq_true rfl) (Nat.le_of_ble_eq_true rfl) (z_cI ?_) z_tI
  refine z_istore_n dJ2_grow_2_30 rfl (by decide) rfl ?_
  refine z_aload_n dJ2_grow_2_31 rfl rfl ?_
  refine z_aload_n dJ2_grow_2_32 rfl rfl ?_
  refine z_getR A dJ2_grow_2_33 fl_J2_9_21 hT rfl hR ?_
  refine z_iload_n dJ2_grow_2_36 rfl rfl ?_
  refine z_scall sl_J2_66 (c_J13_copyOf_15 hn hAn hA he) dJ2_grow_2_37 rfl rfl ⟨by decide, by decide⟩ (Nat.le_of_ble_eq_true rfl) (Nat.le_of_ble_eq_true rfl) (Nat.le_of_ble_eq_true rfl) (z_cR ?_) z_tR
  refine z_dup_x1 dJ2_grow_2_40 rfl rfl ?_
  refine z_putR dJ2_grow_2_41 (pl_J2_9_21 rfl) hT1 hL rfl ?_
  exact z_aret dJ2_grow_2_44 rfl (Or.inr ⟨_, rfl⟩) (Or.inr ⟨_, rfl⟩) (Nat.le_of_ble_eq_true rfl) (Nat.le_of_ble_eq_true rfl) ⟨rfl, rfl⟩
theorem c_J2_grow_2_22 {Γ : z_W} {h : z_H} {L A : Nat} (hn : 85 ≤ z_n h) (hL : 16 ≤ L) (hLn : L < z_n h) (hT : z_T h L = some (.inl 21)) (hR : z_R h L 1 = some A) (hAn : A < z_n h) (hA : z_T h A = some (z_oa 22)) (he : z_els h A 22) : z_C Γ M_J2_grow_2 (z_rm 4 1 33) [.ref L, .int 23] h (z_rr (z_n h) (z_gw h L A 22)) := by
  have hT1 : z_T (z_cpo h A 22 33) L = some (.inl 21) := (if_neg (Nat.ne_of_lt hLn)).trans hT
  refine z_C.ofF (by decide +kernel) rfl [some (.ref L), some (.int 23), none, none] (Nat.le_of_ble_eq_true rfl) rfl ?_
  refine z_aload_n dJ2_grow_2_0 rfl rfl ?_
  refine z_getR A dJ2_grow_2_1 fl_J2_9_21 hT rfl hR ?_
  refine z_alen dJ2_grow_2_4 hA (by simp [z_at]) ?_
  refine z_eqi 22 rfl ?_
  refine z_istore_n dJ2_grow_2_5 rfl (by decide) rfl ?_
  refine z_iload_n dJ2_grow_2_6 rfl rfl ?_
  refine z_if_gt 20 dJ2_grow_2_7 (by decide) (fun _ => ?_) (fun q => absurd (by decide) q)
  refine z_iload_n dJ2_grow_2_20 rfl rfl ?_
  refine z_iload_n dJ2_grow_2_21 rfl rfl ?_
  refine z_iload_n dJ2_grow_2_22 rfl rfl ?_
  refine z_isub dJ2_grow_2_23 ?_
  refine z_eqi 1 (by decide) ?_
  refine z_iload_n dJ2_grow_2_24 rfl rfl ?_
  refine z_iconst (v := 1) dJ2_grow_2_25 rfl ?_
  refine z_ishr dJ2_grow_2_26 ?_
  refine z_eqi 11 (by decide) ?_
  refine z_scall sl_J2_73 c_J12_newLength_22 dJ2_grow_2_27 rfl rfl ⟨by decide, by decide⟩ (Nat.le_of_ble_eq_true rfl) (Nat.le_of_ble_eq_true rfl) (Nat.le_of_ble_eq_true rfl) (z_cI ?_) z_tI
  refine z_istore_n dJ2_grow_2_30 rfl (by decide) rfl ?_
  refine z_aload_n dJ2_grow_2_31 rfl rfl ?_
  refine z_aload_n dJ2_grow_2_32 rfl rfl ?_
  refine z_getR A dJ2_grow_2_33 fl_J2_9_21 hT rfl hR ?_
  refine z_iload_n dJ2_grow_2_36 rfl rfl ?_
  refine z_scall sl_J2_66 (c_J13_copyOf_22 hn hAn hA he) dJ2_grow_2_37 rfl rfl ⟨by decide, by decide⟩ (Nat.le_of_ble_eq_true rfl) (Nat.le_of_ble_eq_true rfl) (Nat.le_of_ble_eq_true rfl) (z_cR ?_) z_tR
  refine z_dup_x1 dJ2_grow_2_40 rfl rfl ?_
  refine z_putR dJ2_grow_2_41 (pl_J2_9_21 rfl) hT1 hL rfl ?_
  exact z_aret dJ2_grow_2_44 rfl (Or.inr ⟨_, rfl⟩) (Or.inr ⟨_, rfl⟩) (Nat.le_of_ble_eq_true rfl) (Nat.le_of_ble_eq_true rfl) ⟨rfl, rfl⟩
/-- how long such an array can be: 0, 10, 15, 22 (and 33, that is not outgrown) -/
def z_cap (n : Nat) : Prop := n = 0 ∨ n = 10 ∨ n = 15 ∨ n = 22
theorem c_J2_grow {Γ : z_W} {h : z_H} {L A n : Nat} (hn : 85 ≤ z_n h) (hL : 16 ≤ L) (hLn : L < z_n h) (hT : z_T h L = some (.inl 21)) (hc : z_cap n) (h0 : n = 0 → A = 1) (hR : z_R h L 1 = some A) (hAn : A < z_n h) (hA : z_T h A = some (z_oa n)) (he : z_els h A n) (hs : z_I h L 2 = nI n) : z_C Γ M_J2_grow (z_rm 5 1 33) [.ref L] h (z_rr (z_n h) (z_gw h L A n)) := by
  have C : z_C Γ M_J2_grow_2 (z_rm 4 1 33) [.ref L, .int (nI (n + 1))] h (z_rr (z_n h) (z_gw h L A n)) := by
    rcases hc with rfl | rfl | rfl | rfl
    · rw [h0 rfl] at hR hA ⊢
      exact c_J2_grow_2_0 hn hL hLn hT hR hA
    · exact c_J2_grow_2_10 hn hL hLn hT hR hAn hA he
    · exact c_J2_grow_2_15 hn hL hLn hT hR hAn hA he
    · exact c_J2_grow_2_22 hn hL hLn hT hR hAn hA he
  refine z_C.ofF (by decide +kernel) rfl [some (.ref L)] (Nat.le_of_ble_eq_true rfl) rfl ?_
  refine z_aload_n dJ2_grow_0 rfl rfl ?_
  refine z_aload_n dJ2_grow_1 rfl rfl ?_
  refine z_getI dJ2_grow_2 fl_J2_48_21 hT rfl ?_
  refine z_iconst (v := 1) dJ2_grow_5 rfl ?_
  refine z_iadd dJ2_grow_6 ?_
  refine z_eqi (nI (n + 1)) (by rw [hs, nI_succ]) ?_
  refine z_vcall vl_J2_69_21 C dJ2_grow_7 rfl rfl hT ⟨by decide, by decide⟩ (Nat.le_of_ble_eq_true rfl) (Nat.le_refl _) (Nat.le_refl _) (z_cR ?_) z_tR
  exact z_aret dJ2_grow_10 rfl (Or.inr ⟨_, rfl⟩) (Or.inr ⟨_, rfl⟩) (Nat.le_refl _) (Nat.le_refl _) ⟨rfl, rfl⟩
/-- an element is laid behind the last -/
def z_ap (g : z_H) (L A k e : Nat) : z_H := z_sI (z_sR g A k (some e)) L 2 (nI (k + 1))
theorem k_J2_add_2 {Γ : z_W} {g : z_H} {L A n k e c a b : Nat} {q : vw_C} (hL : 16 ≤ L) (hT : z_T g L = some (.inl 21)) (hA : z_T g A = some (z_oa n)) (hA16 : 16 ≤ A) (hk : k < n) (hn31 : n < 2 ^ 31) (hTe : z_T g e = some (.inl c)) (hq : z_cl[c]? = some q) (has : z_As q.1 "java/lang/Object") (ha : a ≤ 1) (hb : b ≤ 33) : z_G Γ M_J2_add_2 (z_rm 6 1 33) (z_rv (z_ap g L A k e)) a b 11 [some (.ref L), some (.ref e), some (.ref A), some (.int (nI k))] [] g := by
  refine z_aload_n dJ2_add_2_11 rfl rfl ?_
  refine z_iload_n dJ2_add_2_12 rfl rfl ?_
  refine z_aload_n dJ2_add_2_13 rfl rfl ?_
  refine z_aast k dJ2_add_2_14 hA (by simp [z_at]) hA16 rfl hk hn31 hTe hq has ?_
  refine z_aload_n dJ2_add_2_15 rfl rfl ?_
  refine z_iload_n dJ2_add_2_16 rfl rfl ?_
  refine z_iconst (v := 1) dJ2_add_2_17 rfl ?_
  refine z_iadd dJ2_add_2_18 ?_
  refine z_eqi (nI (k + 1)) (nI_succ k).symm ?_
  refine z_putI dJ2_add_2_19 (pl_J2_48_21 rfl) hT hL rfl ?_
  exact z_vret dJ2_add_2_22 rfl ha hb (z_rv_i rfl)
