/-! THE REFERENCE: reading tests and expressions (printed by model20.py) -/
set_option maxRecDepth 20000
theorem a_nm_l {tx : Nat → Int32} {n a p : Nat} (h : a_nm tx n a = .inl p) : p = a := by
  unfold a_nm at h
  split at h
  · split at h <;> cases h
  · cases h; rfl
theorem a_pc_in {tx : Nat → Int32} {n a : Nat} (h : 0 ≤ a_pc (a_cr tx n a)) : a < n := by
  unfold a_cr at h
  by_cases q : a < n
  · exact q
  · rw [if_neg q] at h; exact absurd h (by decide)
theorem a_ts_n {tx : Nat → Int32} {n a p : Nat} (h : a_ts tx n a = .inl p) : (¬ 0 ≤ a_pc (a_cr tx n a) ∧ p = a) ∨ (0 ≤ a_pc (a_cr tx n a) ∧ ¬ z_in (a_cr tx n (a + 1)) 60 62 ∧ p = a + 1) ∨ (0 ≤ a_pc (a_cr tx n a) ∧ z_in (a_cr tx n (a + 1)) 60 62 ∧ a_nm tx n (a + 2) = .inl p ∧ p = a + 2) := by
  unfold a_ts at h
  by_cases c1 : 0 ≤ a_pc (a_cr tx n a)
  · rw [if_pos c1] at h
    by_cases c2 : z_in (a_cr tx n (a + 1)) 60 62
    · rw [if_pos c2] at h
      cases e : a_nm tx n (a + 2) with
      | inl q =>
        rw [e] at h
        cases h
        exact Or.inr (Or.inr ⟨c1, c2, rfl, a_nm_l e⟩)
      | inr q => rw [e] at h; cases h
    · rw [if_neg c2] at h
      cases h
      exact Or.inr (Or.inl ⟨c1, c2, rfl⟩)
  · rw [if_neg c1] at h
    cases h
    exact Or.inl ⟨c1, rfl⟩
theorem a_ts_y {tx : Nat → Int32} {n a b : Nat} {L : List Int32} (h : a_ts tx n a = .inr (b, L)) : 0 ≤ a_pc (a_cr tx n a) ∧ z_in (a_cr tx n (a + 1)) 60 62 ∧ ∃ v, a_nm tx n (a + 2) = .inr (b, v) ∧ L = [1000 * a_pc (a_cr tx n a) + 100 * (a_cr tx n (a + 1) - 60) + v] := by
  unfold a_ts at h
  by_cases c1 : 0 ≤ a_pc (a_cr tx n a)
  · rw [if_pos c1] at h
    by_cases c2 : z_in (a_cr tx n (a + 1)) 60 62
    · rw [if_pos c2] at h
      cases e : a_nm tx n (a + 2) with
      | inl q => rw [e] at h; cases h
      | inr q =>
        rw [e] at h
        simp only [Sum.inr.injEq, Prod.mk.injEq] at h
        exact ⟨c1, c2, q.2, by rw [← h.1], h.2.symm⟩
    · rw [if_neg c2] at h; cases h
  · rw [if_neg c1] at h; cases h
theorem c_X6_takesTest_n {Γ : z_W} {h : z_H} {F : Nat → Nat → Int32} {tx : Nat → Int32} {n a : Nat} {p : Nat} (hF : z_F h) (ht : z_pt tx n F) (hn : a ≤ n) (ha : F 49 14 = nI a) (hc : a_ts tx n a = .inl p) : z_C Γ M_X6_takesTest (z_rm 4 0 0) [.ref 49] (z_ci h F) (z_rp h 0 (fun F' => F' 49 14 = nI p ∧ z_fm z_Rd F F')) := by
  refine z_C.of (by decide +kernel) rfl [some (.ref 49), none, none] (Nat.le_of_ble_eq_true rfl) rfl ?_
  rcases a_ts_n hc with ⟨k1, hp⟩ | ⟨k1, k2, hp⟩ | ⟨k1, k2, k3, hp⟩
  · refine z_aload_n dX6_takesTest_0 rfl rfl ?_
    refine z_aload_n dX6_takesTest_1 rfl rfl ?_
    refine z_vcall vl_X6_238_6 (c_X6_peek hF ht hn ha) dX6_takesTest_2 rfl rfl (hF.1 49 _ rfl) ⟨by decide, by decide⟩ (Nat.le_of_ble_eq_true rfl) (Nat.le_refl _) (Nat.le_refl _) (z_cI ?_) z_tI
    refine z_vcall vl_X6_253_6 (c_X6_place hF) dX6_takesTest_5 rfl rfl (hF.1 49 _ rfl) ⟨by decide, by decide⟩ (Nat.le_of_ble_eq_true rfl) (Nat.le_refl _) (Nat.le_refl _) (z_cI ?_) z_tI
    refine z_eqi (a_pc (a_cr tx n a)) (m_place_pc _ _) ?_
    refine z_istore_n dX6_takesTest_8 rfl (by decide) rfl ?_
    refine z_iload_n dX6_takesTest_9 rfl rfl ?_
    refine z_if_ge 15 dX6_takesTest_10 (by decide) (fun q => by first | exact absurd q k1 | exact absurd k1 q) (fun _ => ?_)
    refine z_iconst (v := 0) dX6_takesTest_13 rfl ?_
    refine z_iret dX6_takesTest_14 rfl rfl (Nat.le_refl _) (Nat.le_refl _) (z_rp_i ?_ ?_)
    · rfl
    · subst hp
      exact ⟨ha, (z_fm.refl _ _)⟩
  · refine z_aload_n dX6_takesTest_0 rfl rfl ?_
    refine z_aload_n dX6_takesTest_1 rfl rfl ?_
    refine z_vcall vl_X6_238_6 (c_X6_peek hF ht hn ha) dX6_takesTest_2 rfl rfl (hF.1 49 _ rfl) ⟨by decide, by decide⟩ (Nat.le_of_ble_eq_true rfl) (Nat.le_refl _) (Nat.le_refl _) (z_cI ?_) z_tI
    refine z_vcall vl_X6_253_6 (c_X6_place hF) dX6_takesTest_5 rfl rfl (hF.1 49 _ rfl) ⟨by decide, by decide⟩ (Nat.le_of_ble_eq_true rfl) (Nat.le_refl _) (Nat.le_refl _) (z_cI ?_) z_tI
    refine z_eqi (a_pc (a_cr tx n a)) (m_place_pc _ _) ?_
    refine z_istore_n dX6_takesTest_8 rfl (by decide) rfl ?_
    refine z_iload_n dX6_takesTest_9 rfl rfl ?_
    refine z_if_ge 15 dX6_takesTest_10 (by decide) (fun _ => ?_) (fun q => by first | exact absurd k1 q | exact absurd q k1)
    refine z_aload_n dX6_takesTest_15 rfl rfl ?_
    refine z_dup dX6_takesTest_16 rfl ?_
    refine z_getI dX6_takesTest_17 fl_X6_53_6 (hF.1 49 _ rfl) rfl ?_
    refine z_eqi (nI a) ha ?_
    refine z_iconst (v := 1) dX6_takesTest_20 rfl ?_
    refine z_iadd dX6_takesTest_21 ?_
    refine z_eqi (nI (a + 1)) (nI_succ _).symm ?_
    refine z_putI dX6_takesTest_22 (pl_X6_53_6 rfl) (hF.1 49 _ rfl) (by decide) rfl ?_
    refine z_meq (z_ci h (z_u F 49 14 (nI (a + 1)))) rfl ?_
    refine z_aload_n dX6_takesTest_25 rfl rfl ?_
    refine z_vcall vl_X6_238_6 (c_X6_peek hF ht (a_pc_in k1) rfl) dX6_takesTest_26 rfl rfl (hF.1 49 _ rfl) ⟨by decide, by decide⟩ (Nat.le_of_ble_eq_true rfl) (Nat.le_refl _) (Nat.le_refl _) (z_cI ?_) z_tI
    refine z_istore_n dX6_takesTest_29 rfl (by decide) rfl ?_
    refine z_aload_n dX6_takesTest_30 rfl rfl ?_
    refine z_iload_n dX6_takesTest_31 rfl rfl ?_
    refine z_bipush (v := 60) dX6_takesTest_32 rfl ?_
    refine z_bipush (v := 62) dX6_takesTest_34 rfl ?_
    refine z_vcall vl_X6_227_6 (c_X6_in hF) dX6_takesTest_36 rfl rfl (hF.1 49 _ rfl) ⟨by decide, by decide⟩ (Nat.le_of_ble_eq_true rfl) (Nat.le_refl _) (Nat.le_refl _) (z_cI ?_) z_tI
    refine z_bif_ne 44 dX6_takesTest_39 (by decide) (fun q => by first | exact absurd q k2 | exact absurd k2 q) (fun _ => ?_)
    refine z_iconst (v := 0) dX6_takesTest_42 rfl ?_
    refine z_iret dX6_takesTest_43 rfl rfl (Nat.le_refl _) (Nat.le_refl _) (z_rp_i ?_ ?_)
    · rfl
    · subst hp
      exact ⟨rfl, (z_fm.refl _ _).u (by decide)⟩
  · refine z_aload_n dX6_takesTest_0 rfl rfl ?_
    refine z_aload_n dX6_takesTest_1 rfl rfl ?_
    refine z_vcall vl_X6_238_6 (c_X6_peek hF ht hn ha) dX6_takesTest_2 rfl rfl (hF.1 49 _ rfl) ⟨by decide, by decide⟩ (Nat.le_of_ble_eq_true rfl) (Nat.le_refl _) (Nat.le_refl _) (z_cI ?_) z_tI
    refine z_vcall vl_X6_253_6 (c_X6_place hF) dX6_takesTest_5 rfl rfl (hF.1 49 _ rfl) ⟨by decide, by decide⟩ (Nat.le_of_ble_eq_true rfl) (Nat.le_refl _) (Nat.le_refl _) (z_cI ?_) z_tI
    refine z_eqi (a_pc (a_cr tx n a)) (m_place_pc _ _) ?_
    refine z_istore_n dX6_takesTest_8 rfl (by decide) rfl ?_
    refine z_iload_n dX6_takesTest_9 rfl rfl ?_
    refine z_if_ge 15 dX6_takesTest_10 (by decide) (fun _ => ?_) (fun q => by first | exact absurd k1 q | exact absurd q k1)
    refine z_aload_n dX6_takesTest_15 rfl rfl ?_
    refine z_dup dX6_takesTest_16 rfl ?_
    refine z_getI dX6_takesTest_17 fl_X6_53_6 (hF.1 49 _ rfl) rfl ?_
    refine z_eqi (nI a) ha ?_
    refine z_iconst (v := 1) dX6_takesTest_20 rfl ?_
    refine z_iadd dX6_takesTest_21 ?_
    refine z_eqi (nI (a + 1)) (nI_succ _).symm ?_
    refine z_putI dX6_takesTest_22 (pl_X6_53_6 rfl) (hF.1 49 _ rfl) (by decide) rfl ?_
    refine z_meq (z_ci h (z_u F 49 14 (nI (a + 1)))) rfl ?_
    refine z_aload_n dX6_takesTest_25 rfl rfl ?_
    refine z_vcall vl_X6_238_6 (c_X6_peek hF ht (a_pc_in k1) rfl) dX6_takesTest_26 rfl rfl (hF.1 49 _ rfl) ⟨by decide, by decide⟩ (Nat.le_of_ble_eq_true rfl) (Nat.le_refl _) (Nat.le_refl _) (z_cI ?_) z_tI
    refine z_istore_n dX6_takesTest_29 rfl (by decide) rfl ?_
    refine z_aload_n dX6_takesTest_30 rfl rfl ?_
    refine z_iload_n dX6_takesTest_31 rfl rfl ?_
    refine z_bipush (v := 60) dX6_takesTest_32 rfl ?_
    refine z_bipush (v := 62) dX6_takesTest_34 rfl ?_
    refine z_vcall vl_X6_227_6 (c_X6_in hF) dX6_takesTest_36 rfl rfl (hF.1 49 _ rfl) ⟨by decide, by decide⟩ (Nat.le_of_ble_eq_true rfl) (Nat.le_refl _) (Nat.le_refl _) (z_cI ?_) z_tI
    refine z_bif_ne 44 dX6_takesTest_39 (by decide) (fun _ => ?_) (fun q => by first | exact absurd k2 q | exact absurd q k2)
    refine z_aload_n dX6_takesTest_44 rfl rfl ?_
    refine z_dup dX6_takesTest_45 rfl ?_
    refine z_getI dX6_takesTest_46 fl_X6_53_6 (hF.1 49 _ rfl) rfl ?_
    refine z_eqi (nI (a + 1)) rfl ?_
    refine z_iconst (v := 1) dX6_takesTest_49 rfl ?_
    refine z_iadd dX6_takesTest_50 ?_
    refine z_eqi (nI (a + 2)) (nI_succ _).symm ?_
    refine z_putI dX6_takesTest_51 (pl_X6_53_6 rfl) (hF.1 49 _ rfl) (by decide) rfl ?_
    refine z_meq (z_ci h (z_u (z_u F 49 14 (nI (a + 1))) 49 14 (nI (a + 2)))) rfl ?_
    refine z_aload_n dX6_takesTest_54 rfl rfl ?_
    refine z_vcall vl_X6_257_6 (c_X6_takesNumber_n hF ht (a_cr_d k2 (by decide)) rfl k3) dX6_takesTest_55 rfl rfl (hF.1 49 _ rfl) ⟨by decide, by decide⟩ (Nat.le_of_ble_eq_true rfl) (Nat.le_refl _) (Nat.le_refl _) (z_cI ?_) z_tI
    refine z_if_ne 63 dX6_takesTest_58 (by decide) (fun q => absurd q (by decide)) (fun _ => ?_)
    refine z_iconst (v := 0) dX6_takesTest_61 rfl ?_
    refine z_iret dX6_takesTest_62 rfl rfl (Nat.le_refl _) (Nat.le_refl _) (z_rp_i ?_ ?_)
    · rfl
    · subst hp
      exact ⟨rfl, ((z_fm.refl _ _).u (by decide)).u (by decide)⟩
theorem c_X6_takesTest_y {Γ : z_W} {h : z_H} {F : Nat → Nat → Int32} {tx : Nat → Int32} {n a : Nat} {b : Nat} {L : List Int32} {s : Nat} {W S : List Int32} (hF : z_F h) (ht : z_pt tx n F) (hn : a ≤ n) (ha : F 49 14 = nI a) (hw : z_pw s F W S) (h6 : s + S.length + W.length + 1 ≤ 600) (h1 : W.length ≤ 101) (hc : a_ts tx n a = .inr (b, L)) : z_C Γ M_X6_takesTest (z_rm 4 0 0) [.ref 49] (z_ci h F) (z_rp h 1 (fun F' => F' 49 14 = nI b ∧ z_pw s F' (a_wo W (S ++ L)).1 (a_wo W (S ++ L)).2 ∧ z_fm (fun a k => z_Rd a k ∨ z_Rw (s + S.length) a k) F F')) := by
  refine z_C.of (by decide +kernel) rfl [some (.ref 49), none, none] (Nat.le_of_ble_eq_true rfl) rfl ?_
  obtain ⟨k1, k2, v, k3, rfl⟩ := a_ts_y hc
  refine z_aload_n dX6_takesTest_0 rfl rfl ?_
  refine z_aload_n dX6_takesTest_1 rfl rfl ?_
  refine z_vcall vl_X6_238_6 (c_X6_peek hF ht hn ha) dX6_takesTest_2 rfl rfl (hF.1 49 _ rfl) ⟨by decide, by decide⟩ (Nat.le_of_ble_eq_true rfl) (Nat.le_refl _) (Nat.le_refl _) (z_cI ?_) z_tI
  refine z_vcall vl_X6_253_6 (c_X6_place hF) dX6_takesTest_5 rfl rfl (hF.1 49 _ rfl) ⟨by decide, by decide⟩ (Nat.le_of_ble_eq_true rfl) (Nat.le_refl _) (Nat.le_refl _) (z_cI ?_) z_tI
  refine z_eqi (a_pc (a_cr tx n a)) (m_place_pc _ _) ?_
  refine z_istore_n dX6_takesTest_8 rfl (by decide) rfl ?_
  refine z_iload_n dX6_takesTest_9 rfl rfl ?_
  refine z_if_ge 15 dX6_takesTest_10 (by decide) (fun _ => ?_) (fun q => by first | exact absurd k1 q | exact absurd q k1)
  refine z_aload_n dX6_takesTest_15 rfl rfl ?_
  refine z_dup dX6_takesTest_16 rfl ?_
  refine z_getI dX6_takesTest_17 fl_X6_53_6 (hF.1 49 _ rfl) rfl ?_
  refine z_eqi (nI a) ha ?_
  refine z_iconst (v := 1) dX6_takesTest_20 rfl ?_
  refine z_iadd dX6_takesTest_21 ?_
  refine z_eqi (nI (a + 1)) (nI_succ _).symm ?_
  refine z_putI dX6_takesTest_22 (pl_X6_53_6 rfl) (hF.1 49 _ rfl) (by decide) rfl ?_
  refine z_meq (z_ci h (z_u F 49 14 (nI (a + 1)))) rfl ?_
  refine z_aload_n dX6_takesTest_25 rfl rfl ?_
  refine z_vcall vl_X6_238_6 (c_X6_peek hF ht (a_pc_in k1) rfl) dX6_takesTest_26 rfl rfl (hF.1 49 _ rfl) ⟨by decide, by decide⟩ (Nat.le_of_ble_eq_true rfl) (Nat.le_refl _) (Nat.le_refl _) (z_cI ?_) z_tI
  refine z_istore_n dX6_takesTest_29 rfl (by decide) rfl ?_
  refine z_aload_n dX6_takesTest_30 rfl rfl ?_
  refine z_iload_n dX6_takesTest_31 rfl rfl ?_
  refine z_bipush (v := 60) dX6_takesTest_32 rfl ?_
  refine z_bipush (v := 62) dX6_takesTest_34 rfl ?_
  refine z_vcall vl_X6_227_6 (c_X6_in hF) dX6_takesTest_36 rfl rfl (hF.1 49 _ rfl) ⟨by decide, by decide⟩ (Nat.le_of_ble_eq_true rfl) (Nat.le_refl _) (Nat.le_refl _) (z_cI ?_) z_tI
  refine z_bif_ne 44 dX6_takesTest_39 (by decide) (fun _ => ?_) (fun q => by first | exact absurd k2 q | exact absurd q k2)
  refine z_aload_n dX6_takesTest_44 rfl rfl ?_
  refine z_dup dX6_takesTest_45 rfl ?_
  refine z_getI dX6_takesTest_46 fl_X6_53_6 (hF.1 49 _ rfl) rfl ?_
  refine z_eqi (nI (a + 1)) rfl ?_
  refine z_iconst (v := 1) dX6_takesTest_49 rfl ?_
  refine z_iadd dX6_takesTest_50 ?_
  refine z_eqi (nI (a + 2)) (nI_succ _).symm ?_
  refine z_putI dX6_takesTest_51 (pl_X6_53_6 rfl) (hF.1 49 _ rfl) (by decide) rfl ?_
  refine z_meq (z_ci h (z_u (z_u F 49 14 (nI (a + 1))) 49 14 (nI (a + 2)))) rfl ?_
  refine z_aload_n dX6_takesTest_54 rfl rfl ?_
  refine z_vcall vl_X6_257_6 (c_X6_takesNumber_y hF ht (a_cr_d k2 (by decide)) rfl k3) dX6_takesTest_55 rfl rfl (hF.1 49 _ rfl) ⟨by decide, by decide⟩ (Nat.le_of_ble_eq_true rfl) (Nat.le_refl _) (Nat.le_refl _) (z_cJ (fun F55 q55 => ?_)) z_tJ
  refine z_if_ne 63 dX6_takesTest_58 (by decide) (fun _ => ?_) (fun q => absurd q (by decide))
  refine z_aload_n dX6_takesTest_63 rfl rfl ?_
  refine z_sipush (v := 1000) dX6_takesTest_64 rfl ?_
  refine z_iload_n dX6_takesTest_67 rfl rfl ?_
  refine z_imul dX6_takesTest_68 ?_
  refine z_bipush (v := 100) dX6_takesTest_69 rfl ?_
  refine z_iload_n dX6_takesTest_71 rfl rfl ?_
  refine z_bipush (v := 60) dX6_takesTest_72 rfl ?_
  refine z_isub dX6_takesTest_74 ?_
  refine z_imul dX6_takesTest_75 ?_
  refine z_iadd dX6_takesTest_76 ?_
  refine z_aload_n dX6_takesTest_77 rfl rfl ?_
  refine z_getI dX6_takesTest_78 fl_X6_56_6 (hF.1 49 _ rfl) rfl ?_
  refine z_eqi (v) q55.2.1 ?_
  refine z_iadd dX6_takesTest_81 ?_
  refine z_vcall vl_X6_249_6 (c_X6_emits hF ((q55.2.2 49 24 (by decide)).trans hw.1) (by omega)) dX6_takesTest_82 rfl rfl (hF.1 49 _ rfl) ⟨by decide, by decide⟩ (Nat.le_of_ble_eq_true rfl) (Nat.le_refl _) (Nat.le_refl _) (z_cV ?_) z_tV
  refine z_aload_n dX6_takesTest_85 rfl rfl ?_
  have hlay : a_lay (F55 62) W := a_lay_e W (fun j _ => q55.2.2 62 j (fun q => absurd q.1 (by decide))) hw.2.2.2.1
  have hsg : a_sg (F55 61) s S := a_sg_e hw.2.2.2.2 (fun j _ => q55.2.2 61 j (fun q => absurd q.1 (by decide)))
  have hw2 : z_pw s (z_u (z_u F55 61 (s + S.length) (1000 * a_pc (a_cr tx n a) + 100 * (a_cr tx n (a + 1) - 60) + v)) 49 24 (nI (s + S.length + 1))) W (S ++ [1000 * a_pc (a_cr tx n a) + 100 * (a_cr tx n (a + 1) - 60) + v]) := ⟨by rw [List.length_append]; rfl, (q55.2.2 49 25 (by decide)).trans hw.2.1, (q55.2.2 49 26 (by decide)).trans hw.2.2.1, hlay, a_sg_u hsg rfl⟩
  refine z_vcall vl_X6_260_6 (c_X6_whole (s := s) (W := W) (S := S ++ [1000 * a_pc (a_cr tx n a) + 100 * (a_cr tx n (a + 1) - 60) + v]) hF hw2 (by rw [List.length_append, List.length_cons, List.length_nil]; omega) h1) dX6_takesTest_86 rfl rfl (hF.1 49 _ rfl) ⟨by decide, by decide⟩ (Nat.le_of_ble_eq_true rfl) (Nat.le_refl _) (Nat.le_refl _) (z_cJV (fun F86 q86 => ?_)) z_tJV
  refine z_iconst (v := 1) dX6_takesTest_89 rfl ?_
  refine z_iret dX6_takesTest_90 rfl rfl (Nat.le_refl _) (Nat.le_refl _) (z_rp_i ?_ ?_)
  · rfl
  · refine ⟨(q86.2 49 14 (by unfold z_Rw; omega)).trans q55.1, q86.1, ?_⟩
    have e1 : z_fm (fun a k => z_Rd a k ∨ z_Rw (s + S.length) a k) F F55 := z_fm.tr (((z_fm.refl _ _).u (Or.inl (by decide))).u (Or.inl (by decide))) q55.2.2 (fun a j q => Or.inl q)
    exact z_fm.tr ((e1.u (Or.inr (Or.inr (Or.inr ⟨rfl, Nat.le_refl _⟩)))).u (Or.inr (Or.inl ⟨rfl, by decide⟩))) q86.2 (fun a j q => by rw [List.length_append, List.length_cons, List.length_nil] at q; unfold z_Rw at *; omega)
