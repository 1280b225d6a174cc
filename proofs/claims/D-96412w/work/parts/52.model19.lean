/-! THE REFERENCE: reading numbers, the pile (printed by model19.py) -/
set_option maxRecDepth 20000
theorem a_cr_d {tx : Nat → Int32} {n a : Nat} {lo hi : Int32} (h : z_in (a_cr tx n a) lo hi) (hl : ¬ lo ≤ -1) : a < n := by
  unfold a_cr at h
  by_cases q : a < n
  · exact q
  · rw [if_neg q] at h; exact absurd h.1 hl
theorem c_X6_takesNumber_n {Γ : z_W} {h : z_H} {F : Nat → Nat → Int32} {tx : Nat → Int32} {n a : Nat} {p : Nat} (hF : z_F h) (ht : z_pt tx n F) (hn : a ≤ n) (ha : F 49 14 = nI a) (hc : a_nm tx n a = .inl p) : z_C Γ M_X6_takesNumber (z_rm 3 0 0) [.ref 49] (z_ci h F) (z_ri 0 (z_ci h F)) := by
  have hd : ¬ z_in (a_cr tx n a) 48 57 := fun q => by unfold a_nm at hc; rw [if_pos q] at hc; split at hc <;> cases hc
  refine z_C.of (by decide +kernel) rfl [some (.ref 49), none] (Nat.le_of_ble_eq_true rfl) rfl ?_
  refine z_aload_n dX6_takesNumber_0 rfl rfl ?_
  refine z_vcall vl_X6_245_6 (c_X6_isDigit hF ht hn ha) dX6_takesNumber_1 rfl rfl (hF.1 49 _ rfl) ⟨by decide, by decide⟩ (Nat.le_of_ble_eq_true rfl) (Nat.le_refl _) (Nat.le_refl _) (z_cI ?_) z_tI
  refine z_bif_ne 9 dX6_takesNumber_4 (by decide) (fun q => by first | exact absurd q hd | exact absurd hd q) (fun _ => ?_)
  refine z_iconst (v := 0) dX6_takesNumber_7 rfl ?_
  refine z_iret dX6_takesNumber_8 rfl rfl (Nat.le_refl _) (Nat.le_refl _) (z_ri_i ?_ ?_)
  · rfl
  · rfl
theorem c_X6_takesNumber_y {Γ : z_W} {h : z_H} {F : Nat → Nat → Int32} {tx : Nat → Int32} {n a : Nat} {b : Nat} {v : Int32} (hF : z_F h) (ht : z_pt tx n F) (hn : a ≤ n) (ha : F 49 14 = nI a) (hc : a_nm tx n a = .inr (b, v)) : z_C Γ M_X6_takesNumber (z_rm 3 0 0) [.ref 49] (z_ci h F) (z_rp h 1 (fun F' => F' 49 14 = nI b ∧ F' 49 15 = v ∧ z_fm z_Rd F F')) := by
  have hd : z_in (a_cr tx n a) 48 57 := Decidable.byContradiction fun q => by unfold a_nm at hc; rw [if_neg q] at hc; cases hc
  have h1 : a + 1 ≤ n := a_cr_d hd (by decide)
  refine z_C.of (by decide +kernel) rfl [some (.ref 49), none] (Nat.le_of_ble_eq_true rfl) rfl ?_
  refine z_aload_n dX6_takesNumber_0 rfl rfl ?_
  refine z_vcall vl_X6_245_6 (c_X6_isDigit hF ht hn ha) dX6_takesNumber_1 rfl rfl (hF.1 49 _ rfl) ⟨by decide, by decide⟩ (Nat.le_of_ble_eq_true rfl) (Nat.le_refl _) (Nat.le_refl _) (z_cI ?_) z_tI
  refine z_bif_ne 9 dX6_takesNumber_4 (by decide) (fun _ => ?_) (fun q => by first | exact absurd hd q | exact absurd q hd)
  refine z_aload_n dX6_takesNumber_9 rfl rfl ?_
  refine z_iconst (v := 0) dX6_takesNumber_10 rfl ?_
  refine z_putI dX6_takesNumber_11 (pl_X6_56_6 rfl) (hF.1 49 _ rfl) (by decide) rfl ?_
  refine z_meq (z_ci h (z_u F 49 15 0)) rfl ?_
  refine z_iconst (v := 0) dX6_takesNumber_14 rfl ?_
  refine z_istore_n dX6_takesNumber_15 rfl (by decide) rfl ?_
  refine z_iload_n dX6_takesNumber_16 rfl rfl ?_
  refine z_iconst (v := 2) dX6_takesNumber_17 rfl ?_
  refine z_icmp_ge 63 dX6_takesNumber_18 (by decide) (fun q => absurd q (by decide)) (fun _ => ?_)
  refine z_aload_n dX6_takesNumber_21 rfl rfl ?_
  refine z_vcall vl_X6_245_6 (c_X6_isDigit hF ht hn ha) dX6_takesNumber_22 rfl rfl (hF.1 49 _ rfl) ⟨by decide, by decide⟩ (Nat.le_of_ble_eq_true rfl) (Nat.le_refl _) (Nat.le_refl _) (z_cI ?_) z_tI
  refine z_bif_eq 63 dX6_takesNumber_25 (by decide) (fun q => by first | exact absurd q hd | exact absurd hd q) (fun _ => ?_)
  refine z_aload_n dX6_takesNumber_28 rfl rfl ?_
  refine z_bipush (v := 10) dX6_takesNumber_29 rfl ?_
  refine z_aload_n dX6_takesNumber_31 rfl rfl ?_
  refine z_getI dX6_takesNumber_32 fl_X6_56_6 (hF.1 49 _ rfl) rfl ?_
  refine z_eqi (0) rfl ?_
  refine z_imul dX6_takesNumber_35 ?_
  refine z_aload_n dX6_takesNumber_36 rfl rfl ?_
  refine z_vcall vl_X6_238_6 (c_X6_peek hF ht hn ha) dX6_takesNumber_37 rfl rfl (hF.1 49 _ rfl) ⟨by decide, by decide⟩ (Nat.le_of_ble_eq_true rfl) (Nat.le_refl _) (Nat.le_refl _) (z_cI ?_) z_tI
  refine z_iadd dX6_takesNumber_40 ?_
  refine z_bipush (v := 48) dX6_takesNumber_41 rfl ?_
  refine z_isub dX6_takesNumber_43 ?_
  refine z_putI dX6_takesNumber_44 (pl_X6_56_6 rfl) (hF.1 49 _ rfl) (by decide) rfl ?_
  refine z_meq (z_ci h (z_u (z_u F 49 15 0) 49 15 (((10 * 0) + (a_cr tx n a)) - 48))) rfl ?_
  refine z_aload_n dX6_takesNumber_47 rfl rfl ?_
  refine z_dup dX6_takesNumber_48 rfl ?_
  refine z_getI dX6_takesNumber_49 fl_X6_53_6 (hF.1 49 _ rfl) rfl ?_
  refine z_eqi (nI a) ha ?_
  refine z_iconst (v := 1) dX6_takesNumber_52 rfl ?_
  refine z_iadd dX6_takesNumber_53 ?_
  refine z_eqi (nI (a + 1)) (nI_succ _).symm ?_
  refine z_putI dX6_takesNumber_54 (pl_X6_53_6 rfl) (hF.1 49 _ rfl) (by decide) rfl ?_
  refine z_meq (z_ci h (z_u (z_u (z_u F 49 15 0) 49 15 (((10 * 0) + (a_cr tx n a)) - 48)) 49 14 (nI (a + 1)))) rfl ?_
  refine z_iinc (v := 1) dX6_takesNumber_57 rfl (by decide) (by decide) rfl ?_
  refine z_goto 16 dX6_takesNumber_60 (by decide) ?_
  refine z_iload_n dX6_takesNumber_16 rfl rfl ?_
  refine z_iconst (v := 2) dX6_takesNumber_17 rfl ?_
  refine z_icmp_ge 63 dX6_takesNumber_18 (by decide) (fun q => absurd q (by decide)) (fun _ => ?_)
  refine z_aload_n dX6_takesNumber_21 rfl rfl ?_
  refine z_vcall vl_X6_245_6 (c_X6_isDigit hF ht h1 rfl) dX6_takesNumber_22 rfl rfl (hF.1 49 _ rfl) ⟨by decide, by decide⟩ (Nat.le_of_ble_eq_true rfl) (Nat.le_refl _) (Nat.le_refl _) (z_cI ?_) z_tI
  refine z_bif_eq 63 dX6_takesNumber_25 (by decide) (fun c25 => ?_) (fun c25 => ?_)
  · refine z_iconst (v := 1) dX6_takesNumber_63 rfl ?_
    refine z_iret dX6_takesNumber_64 rfl rfl (Nat.le_refl _) (Nat.le_refl _) (z_rp_i ?_ ?_)
    · rfl
    · unfold a_nm at hc; rw [if_pos hd, if_neg c25] at hc
      simp only [Sum.inr.injEq, Prod.mk.injEq] at hc
      exact ⟨by rw [← hc.1]; rfl, by rw [← hc.2]; rfl, ((((z_fm.refl _ _).u (by decide)).u (by decide)).u (by decide))⟩
  · refine z_aload_n dX6_takesNumber_28 rfl rfl ?_
    refine z_bipush (v := 10) dX6_takesNumber_29 rfl ?_
    refine z_aload_n dX6_takesNumber_31 rfl rfl ?_
    refine z_getI dX6_takesNumber_32 fl_X6_56_6 (hF.1 49 _ rfl) rfl ?_
    refine z_eqi (((10 * 0) + (a_cr tx n a)) - 48) rfl ?_
    refine z_imul dX6_takesNumber_35 ?_
    refine z_aload_n dX6_takesNumber_36 rfl rfl ?_
    refine z_vcall vl_X6_238_6 (c_X6_peek hF ht h1 rfl) dX6_takesNumber_37 rfl rfl (hF.1 49 _ rfl) ⟨by decide, by decide⟩ (Nat.le_of_ble_eq_true rfl) (Nat.le_refl _) (Nat.le_refl _) (z_cI ?_) z_tI
    refine z_iadd dX6_takesNumber_40 ?_
    refine z_bipush (v := 48) dX6_takesNumber_41 rfl ?_
    refine z_isub dX6_takesNumber_43 ?_
    refine z_putI dX6_takesNumber_44 (pl_X6_56_6 rfl) (hF.1 49 _ rfl) (by decide) rfl ?_
    refine z_meq (z_ci h (z_u (z_u (z_u (z_u F 49 15 0) 49 15 (((10 * 0) + (a_cr tx n a)) - 48)) 49 14 (nI (a + 1))) 49 15 (((10 * (((10 * 0) + (a_cr tx n a)) - 48)) + (a_cr tx n (a + 1))) - 48))) rfl ?_
    refine z_aload_n dX6_takesNumber_47 rfl rfl ?_
    refine z_dup dX6_takesNumber_48 rfl ?_
    refine z_getI dX6_takesNumber_49 fl_X6_53_6 (hF.1 49 _ rfl) rfl ?_
    refine z_eqi (nI (a + 1)) rfl ?_
    refine z_iconst (v := 1) dX6_takesNumber_52 rfl ?_
    refine z_iadd dX6_takesNumber_53 ?_
    refine z_eqi (nI (a + 2)) (nI_succ _).symm ?_
    refine z_putI dX6_takesNumber_54 (pl_X6_53_6 rfl) (hF.1 49 _ rfl) (by decide) rfl ?_
    refine z_meq (z_ci h (z_u (z_u (z_u (z_u (z_u F 49 15 0) 49 15 (((10 * 0) + (a_cr tx n a)) - 48)) 49 14 (nI (a + 1))) 49 15 (((10 * (((10 * 0) + (a_cr tx n a)) - 48)) + (a_cr tx n (a + 1))) - 48)) 49 14 (nI (a + 2)))) rfl ?_
    refine z_iinc (v := 2) dX6_takesNumber_57 rfl (by decide) (by decide) rfl ?_
    refine z_goto 16 dX6_takesNumber_60 (by decide) ?_
    refine z_iload_n dX6_takesNumber_16 rfl rfl ?_
    refine z_iconst (v := 2) dX6_takesNumber_17 rfl ?_
    refine z_icmp_ge 63 dX6_takesNumber_18 (by decide) (fun _ => ?_) (fun q => absurd q (by decide))
    refine z_iconst (v := 1) dX6_takesNumber_63 rfl ?_
    refine z_iret dX6_takesNumber_64 rfl rfl (Nat.le_refl _) (Nat.le_refl _) (z_rp_i ?_ ?_)
    · rfl
    · unfold a_nm at hc; rw [if_pos hd, if_pos c25] at hc
      simp only [Sum.inr.injEq, Prod.mk.injEq] at hc
      exact ⟨by rw [← hc.1]; rfl, by rw [← hc.2]; rfl, ((((((z_fm.refl _ _).u (by decide)).u (by decide)).u (by decide)).u (by decide)).u (by decide))⟩
theorem a_sg_u {F : Nat → Nat → Int32} {s g : Nat} {S : List Int32} {v : Int32} (h : a_sg (F 61) s S) (hg : g = s + S.length) : a_sg (z_u F 61 g v 61) s (S ++ [v]) := by
  subst hg
  refine a_sg_p h ?_ (fun j hj => ?_)
  · show (if 61 = 61 ∧ s + S.length = s + S.length then v else _) = v
    rw [if_pos ⟨rfl, rfl⟩]
  · show (if 61 = 61 ∧ j = s + S.length then v else F 61 j) = F 61 j
    rw [if_neg (fun q => by omega)]
theorem pk_m1' (n : Nat) : nI (n + 1) - 1 = nI n := pk_sub (a := n + 1) (b := 1) (by omega)
theorem a_op_c {c : Int32} {V : List Int32} (h : c = 33 ∨ c = 40) : nI (a_op (c :: V)) - 1 = nI (a_op V) := by
  rcases h with rfl | rfl
  · rw [a_op_33]; exact pk_m1' _
  · rw [a_op_40]; exact pk_m1' _
theorem lp_X6_whole {Γ : z_W} {h : z_H} {s : Nat} (hF : z_F h) : ∀ (W S : List Int32) (F : Nat → Nat → Int32), z_pw s F W S → s + S.length + W.length ≤ 600 → W.length ≤ 101 → z_G Γ M_X6_whole (z_rm 2 0 0) (z_rpv h (fun F' => z_pw s F' (a_wo (W) (S)).1 (a_wo (W) (S)).2 ∧ z_fm (z_Rw (s + (S).length)) (F) F')) 0 0 0 [some (.ref 49)] [] (z_ci h (F)) := by
  intro W
  induction W with
  | nil =>
    intro S F hw h6 h1
    refine z_aload_n dX6_whole_0 rfl rfl ?_
    refine z_getI dX6_whole_1 fl_X6_86_6 (hF.1 49 _ rfl) rfl ?_
    refine z_eqi (0) hw.2.1 ?_
    refine z_if_le 52 dX6_whole_4 (by decide) (fun _ => ?_) (fun q => by first | exact absurd (Int32.le_refl _) q | exact absurd q (Int32.le_refl _))
    refine z_vret dX6_whole_52 rfl (Nat.le_refl _) (Nat.le_refl _) (z_rpv_i ?_)
    exact ⟨hw, z_fm.refl _ _⟩
  | cons c V ih =>
    intro S F hw h6 h1
    rw [List.length_cons] at h6 h1
    refine z_aload_n dX6_whole_0 rfl rfl ?_
    refine z_getI dX6_whole_1 fl_X6_86_6 (hF.1 49 _ rfl) rfl ?_
    refine z_eqi (nI (V.length + 1)) hw.2.1 ?_
    refine z_if_le 52 dX6_whole_4 (by decide) (fun q => by first | exact absurd q (show ¬ nI (V.length + 1) ≤ 0 from nI_ge (b := V.length + 1) (a := 0) (by omega) (by omega)) | exact absurd (show ¬ nI (V.length + 1) ≤ 0 from nI_ge (b := V.length + 1) (a := 0) (by omega) (by omega)) q) (fun _ => ?_)
    refine z_aload_n dX6_whole_7 rfl rfl ?_
    refine z_getR 62 dX6_whole_8 fl_X6_80_6 (hF.1 49 _ rfl) rfl (hF.2.1 49 23 62 rfl) ?_
    refine z_aload_n dX6_whole_11 rfl rfl ?_
    refine z_getI dX6_whole_12 fl_X6_86_6 (hF.1 49 _ rfl) rfl ?_
    refine z_eqi (nI (V.length + 1)) hw.2.1 ?_
    refine z_iconst (v := 1) dX6_whole_15 rfl ?_
    refine z_isub dX6_whole_16 ?_
    refine z_eqi (nI V.length) (pk_m1' _) ?_
    refine z_iald V.length dX6_whole_17 (hF.1 62 _ rfl) rfl (by omega) (by decide) ?_
    refine z_eqi (c) hw.2.2.2.1.1 ?_
    refine z_bipush (v := 33) dX6_whole_18 rfl ?_
    refine z_icmp_ne 52 dX6_whole_20 (by decide) (fun c20 => ?_) (fun c20 => ?_)
    · refine z_vret dX6_whole_52 rfl (Nat.le_refl _) (Nat.le_refl _) (z_rpv_i ?_)
      have e1 : a_wo (c :: V) S = (c :: V, S) := by
        conv => lhs; unfold a_wo
        rw [if_neg c20]
      rw [e1]
      exact ⟨hw, z_fm.refl _ _⟩
    · refine z_aload_n dX6_whole_23 rfl rfl ?_
      refine z_bipush (v := (-33)) dX6_whole_24 rfl ?_
      refine z_vcall vl_X6_249_6 (c_X6_emits hF hw.1 (by omega)) dX6_whole_26 rfl rfl (hF.1 49 _ rfl) ⟨by decide, by decide⟩ (Nat.le_of_ble_eq_true rfl) (Nat.le_refl _) (Nat.le_refl _) (z_cV ?_) z_tV
      refine z_aload_n dX6_whole_29 rfl rfl ?_
      refine z_dup dX6_whole_30 rfl ?_
      refine z_getI dX6_whole_31 fl_X6_86_6 (hF.1 49 _ rfl) rfl ?_
      refine z_eqi (nI (V.length + 1)) hw.2.1 ?_
      refine z_iconst (v := 1) dX6_whole_34 rfl ?_
      refine z_isub dX6_whole_35 ?_
      refine z_eqi (nI V.length) (pk_m1' _) ?_
      refine z_putI dX6_whole_36 (pl_X6_86_6 rfl) (hF.1 49 _ rfl) (by decide) rfl ?_
      refine z_meq (z_ci h (z_u (z_u (z_u F 61 (s + S.length) (-33)) 49 24 (nI (s + S.length + 1))) 49 25 (nI V.length))) rfl ?_
      refine z_aload_n dX6_whole_39 rfl rfl ?_
      refine z_dup dX6_whole_40 rfl ?_
      refine z_getI dX6_whole_41 fl_X6_89_6 (hF.1 49 _ rfl) rfl ?_
      refine z_eqi (nI (a_op (c :: V))) hw.2.2.1 ?_
      refine z_iconst (v := 1) dX6_whole_44 rfl ?_
      refine z_isub dX6_whole_45 ?_
      refine z_eqi (nI (a_op V)) (a_op_c (Or.inl c20)) ?_
      refine z_putI dX6_whole_46 (pl_X6_89_6 rfl) (hF.1 49 _ rfl) (by decide) rfl ?_
      refine z_meq (z_ci h (z_u (z_u (z_u (z_u F 61 (s + S.length) (-33)) 49 24 (nI (s + S.length + 1))) 49 25 (nI V.length)) 49 26 (nI (a_op V)))) rfl ?_
      refine z_goto 0 dX6_whole_49 (by decide) ?_
      have e1 : a_wo (c :: V) S = a_wo V (S ++ [-33]) := by
        conv => lhs; unfold a_wo
        rw [if_pos c20]
      rw [e1]
      refine (ih (S ++ [-33]) (z_u (z_u (z_u (z_u F 61 (s + S.length) (-33)) 49 24 (nI (s + S.length + 1))) 49 25 (nI V.length)) 49 26 (nI (a_op V))) ⟨by rw [List.length_append]; rfl, rfl, rfl, hw.2.2.2.1.2, a_sg_u hw.2.2.2.2 rfl⟩ (by rw [List.length_append, List.length_cons, List.length_nil]; omega) (by omega)).mono ?_
      rintro o h' ⟨F', r1, r2, r3, r4⟩
      refine ⟨F', r1, r2, r3, ?_⟩
      exact ((((((z_fm.refl _ _).u (Or.inr (Or.inr ⟨rfl, Nat.le_refl _⟩))).u (Or.inl ⟨rfl, by decide⟩)).u (Or.inl ⟨rfl, by decide⟩)).u (Or.inl ⟨rfl, by decide⟩))).tr r4 (fun a j q => by rw [List.length_append, List.length_cons, List.length_nil] at q; unfold z_Rw at *; omega)
theorem lp_X6_settle {Γ : z_W} {h : z_H} {s : Nat} {b : Int32} (hF : z_F h) : ∀ (W S : List Int32) (F : Nat → Nat → Int32), z_pw s F W S → s + S.length + W.length ≤ 600 → W.length ≤ 101 → z_G Γ M_X6_settle (z_rm 2 0 0) (z_rpv h (fun F' => z_pw s F' (a_sl b (W) (S)).1 (a_sl b (W) (S)).2 ∧ z_fm (z_Rw (s + (S).length)) (F) F')) 0 0 0 [some (.ref 49), some (.int b)] [] (z_ci h (F)) := by
  intro W
  induction W with
  | nil =>
    intro S F hw h6 h1
    refine z_aload_n dX6_settle_0 rfl rfl ?_
    refine z_getI dX6_settle_1 fl_X6_86_6 (hF.1 49 _ rfl) rfl ?_
    refine z_eqi (0) hw.2.1 ?_
    refine z_if_le 72 dX6_settle_4 (by decide) (fun _ => ?_) (fun q => by first | exact absurd (Int32.le_refl _) q | exact absurd q (Int32.le_refl _))
    refine z_vret dX6_settle_72 rfl (Nat.le_refl _) (Nat.le_refl _) (z_rpv_i ?_)
    exact ⟨hw, z_fm.refl _ _⟩
  | cons c V ih =>
    intro S F hw h6 h1
    rw [List.length_cons] at h6 h1
    refine z_aload_n dX6_settle_0 rfl rfl ?_
    refine z_getI dX6_settle_1 fl_X6_86_6 (hF.1 49 _ rfl) rfl ?_
    refine z_eqi (nI (V.length + 1)) hw.2.1 ?_
    refine z_if_le 72 dX6_settle_4 (by decide) (fun q => by first | exact absurd q (show ¬ nI (V.length + 1) ≤ 0 from nI_ge (b := V.length + 1) (a := 0) (by omega) (by omega)) | exact absurd (show ¬ nI (V.length + 1) ≤ 0 from nI_ge (b := V.length + 1) (a := 0) (by omega) (by omega)) q) (fun _ => ?_)
    refine z_aload_n dX6_settle_7 rfl rfl ?_
    refine z_getR 62 dX6_settle_8 fl_X6_80_6 (hF.1 49 _ rfl) rfl (hF.2.1 49 23 62 rfl) ?_
    refine z_aload_n dX6_settle_11 rfl rfl ?_
    refine z_getI dX6_settle_12 fl_X6_86_6 (hF.1 49 _ rfl) rfl ?_
    refine z_eqi (nI (V.length + 1)) hw.2.1 ?_
    refine z_iconst (v := 1) dX6_settle_15 rfl ?_
    refine z_isub dX6_settle_16 ?_
    refine z_eqi (nI V.length) (pk_m1' _) ?_
    refine z_iald V.length dX6_settle_17 (hF.1 62 _ rfl) rfl (by omega) (by decide) ?_
    refine z_eqi (c) hw.2.2.2.1.1 ?_
    refine z_bipush (v := 38) dX6_settle_18 rfl ?_
    refine z_icmp_eq 45 dX6_settle_20 (by decide) (fun c20 => ?_) (fun c20 => ?_)
    · refine z_aload_n dX6_settle_45 rfl rfl ?_
      refine z_dup dX6_settle_46 rfl ?_
      refine z_getI dX6_settle_47 fl_X6_86_6 (hF.1 49 _ rfl) rfl ?_
      refine z_eqi (nI (V.length + 1)) hw.2.1 ?_
      refine z_iconst (v := 1) dX6_settle_50 rfl ?_
      refine z_isub dX6_settle_51 ?_
      refine z_eqi (nI V.length) (pk_m1' _) ?_
      refine z_putI dX6_settle_52 (pl_X6_86_6 rfl) (hF.1 49 _ rfl) (by decide) rfl ?_
      refine z_meq (z_ci h (z_u F 49 25 (nI V.length))) rfl ?_
      refine z_aload_n dX6_settle_55 rfl rfl ?_
      refine z_aload_n dX6_settle_56 rfl rfl ?_
      refine z_getR 62 dX6_settle_57 fl_X6_80_6 (hF.1 49 _ rfl) rfl (hF.2.1 49 23 62 rfl) ?_
      refine z_aload_n dX6_settle_60 rfl rfl ?_
      refine z_getI dX6_settle_61 fl_X6_86_6 (hF.1 49 _ rfl) rfl ?_
      refine z_eqi (nI V.length) rfl ?_
      refine z_iald V.length dX6_settle_64 (hF.1 62 _ rfl) rfl (by omega) (by decide) ?_
      refine z_eqi (c) hw.2.2.2.1.1 ?_
      refine z_ineg dX6_settle_65 ?_
      refine z_vcall vl_X6_249_6 (c_X6_emits hF hw.1 (by omega)) dX6_settle_66 rfl rfl (hF.1 49 _ rfl) ⟨by decide, by decide⟩ (Nat.le_of_ble_eq_true rfl) (Nat.le_refl _) (Nat.le_refl _) (z_cV ?_) z_tV
      refine z_goto 0 dX6_settle_69 (by decide) ?_
      have e1 : a_sl b (c :: V) S = a_sl b V (S ++ [-c]) := by
        conv => lhs; unfold a_sl
        rw [if_pos c20]
      rw [e1]
      have eo : F 49 26 = nI (a_op V) := by
        have := hw.2.2.1
        rw [c20, (a_op_38 (W := V))] at this
        exact this
      refine (ih (S ++ [-c]) (z_u (z_u (z_u F 49 25 (nI V.length)) 61 (s + S.length) (-c)) 49 24 (nI (s + S.length + 1))) ⟨by rw [List.length_append]; rfl, rfl, eo, hw.2.2.2.1.2, a_sg_u (F := z_u F 49 25 (nI V.length)) hw.2.2.2.2 rfl⟩ (by rw [List.length_append, List.length_cons, List.length_nil]; omega) (by omega)).mono ?_
      rintro o h' ⟨F', r1, r2, r3, r4⟩
      refine ⟨F', r1, r2, r3, ?_⟩
      exact (((((z_fm.refl _ _).u (Or.inl ⟨rfl, by decide⟩)).u (Or.inr (Or.inr ⟨rfl, Nat.le_refl _⟩))).u (Or.inl ⟨rfl, by decide⟩))).tr r4 (fun a j q => by rw [List.length_append, List.length_cons, List.length_nil] at q; unfold z_Rw at *; omega)
    · refine z_aload_n dX6_settle_23 rfl rfl ?_
      refine z_getR 62 dX6_settle_24 fl_X6_80_6 (hF.1 49 _ rfl) rfl (hF.2.1 49 23 62 rfl) ?_
      refine z_aload_n dX6_settle_27 rfl rfl ?_
      refine z_getI dX6_settle_28 fl_X6_86_6 (hF.1 49 _ rfl) rfl ?_
      refine z_eqi (nI (V.length + 1)) hw.2.1 ?_
      refine z_iconst (v := 1) dX6_settle_31 rfl ?_
      refine z_isub dX6_settle_32 ?_
      refine z_eqi (nI V.length) (pk_m1' _) ?_
      refine z_iald V.length dX6_settle_33 (hF.1 62 _ rfl) rfl (by omega) (by decide) ?_
      refine z_eqi (c) hw.2.2.2.1.1 ?_
      refine z_bipush (v := 124) dX6_settle_34 rfl ?_
      refine z_icmp_ne 72 dX6_settle_36 (by decide) (fun c36 => ?_) (fun c36 => ?_)
      · refine z_vret dX6_settle_72 rfl (Nat.le_refl _) (Nat.le_refl _) (z_rpv_i ?_)
        have e1 : a_sl b (c :: V) S = (c :: V, S) := by
          conv => lhs; unfold a_sl
          rw [if_neg c20, if_neg c36]
        rw [e1]
        exact ⟨hw, z_fm.refl _ _⟩
      · refine z_iload_n dX6_settle_39 rfl rfl ?_
        refine z_bipush (v := 38) dX6_settle_40 rfl ?_
        refine z_icmp_eq 72 dX6_settle_42 (by decide) (fun c42 => ?_) (fun c42 => ?_)
        · refine z_vret dX6_settle_72 rfl (Nat.le_refl _) (Nat.le_refl _) (z_rpv_i ?_)
          have e1 : a_sl b (c :: V) S = (c :: V, S) := by
            conv => lhs; unfold a_sl
            rw [if_neg c20, if_pos c36, if_pos c42]
          rw [e1]
          exact ⟨hw, z_fm.refl _ _⟩
        · refine z_aload_n dX6_settle_45 rfl rfl ?_
          refine z_dup dX6_settle_46 rfl ?_
          refine z_getI dX6_settle_47 fl_X6_86_6 (hF.1 49 _ rfl) rfl ?_
          refine z_eqi (nI (V.length + 1)) hw.2.1 ?_
          refine z_iconst (v := 1) dX6_settle_50 rfl ?_
          refine z_isub dX6_settle_51 ?_
          refine z_eqi (nI V.length) (pk_m1' _) ?_
          refine z_putI dX6_settle_52 (pl_X6_86_6 rfl) (hF.1 49 _ rfl) (by decide) rfl ?_
          refine z_meq (z_ci h (z_u F 49 25 (nI V.length))) rfl ?_
          refine z_aload_n dX6_settle_55 rfl rfl ?_
          refine z_aload_n dX6_settle_56 rfl rfl ?_
          refine z_getR 62 dX6_settle_57 fl_X6_80_6 (hF.1 49 _ rfl) rfl (hF.2.1 49 23 62 rfl) ?_
          refine z_aload_n dX6_settle_60 rfl rfl ?_
          refine z_getI dX6_settle_61 fl_X6_86_6 (hF.1 49 _ rfl) rfl ?_
          refine z_eqi (nI V.length) rfl ?_
          refine z_iald V.length dX6_settle_64 (hF.1 62 _ rfl) rfl (by omega) (by decide) ?_
          refine z_eqi (c) hw.2.2.2.1.1 ?_
          refine z_ineg dX6_settle_65 ?_
          refine z_vcall vl_X6_249_6 (c_X6_emits hF hw.1 (by omega)) dX6_settle_66 rfl rfl (hF.1 49 _ rfl) ⟨by decide, by decide⟩ (Nat.le_of_ble_eq_true rfl) (Nat.le_refl _) (Nat.le_refl _) (z_cV ?_) z_tV
          refine z_goto 0 dX6_settle_69 (by decide) ?_
          have e1 : a_sl b (c :: V) S = a_sl b V (S ++ [-c]) := by
            conv => lhs; unfold a_sl
            rw [if_neg c20, if_pos c36, if_neg c42]
          rw [e1]
          have eo : F 49 26 = nI (a_op V) := by
            have := hw.2.2.1
            rw [c36, (a_op_124 (W := V))] at this
            exact this
          refine (ih (S ++ [-c]) (z_u (z_u (z_u F 49 25 (nI V.length)) 61 (s + S.length) (-c)) 49 24 (nI (s + S.length + 1))) ⟨by rw [List.length_append]; rfl, rfl, eo, hw.2.2.2.1.2, a_sg_u (F := z_u F 49 25 (nI V.length)) hw.2.2.2.2 rfl⟩ (by rw [List.length_append, List.length_cons, List.length_nil]; omega) (by omega)).mono ?_
          rintro o h' ⟨F', r1, r2, r3, r4⟩
          refine ⟨F', r1, r2, r3, ?_⟩
          exact (((((z_fm.refl _ _).u (Or.inl ⟨rfl, by decide⟩)).u (Or.inr (Or.inr ⟨rfl, Nat.le_refl _⟩))).u (Or.inl ⟨rfl, by decide⟩))).tr r4 (fun a j q => by rw [List.length_append, List.length_cons, List.length_nil] at q; unfold z_Rw at *; omega)
theorem c_X6_whole {Γ : z_W} {h : z_H} {s : Nat} {F : Nat → Nat → Int32} {W S : List Int32} (hF : z_F h) (hw : z_pw s F W S) (h6 : s + S.length + W.length ≤ 600) (h1 : W.length ≤ 101) : z_C Γ M_X6_whole (z_rm 2 0 0) [.ref 49] (z_ci h F) (z_rpv h (fun F' => z_pw s F' (a_wo W S).1 (a_wo W S).2 ∧ z_fm (z_Rw (s + S.length)) F F')) := by
  refine z_C.of (by decide +kernel) rfl [some (.ref 49)] (Nat.le_of_ble_eq_true rfl) rfl ?_
  exact lp_X6_whole hF W S F hw h6 h1
theorem c_X6_settle {Γ : z_W} {h : z_H} {s : Nat} {F : Nat → Nat → Int32} {W S : List Int32} {b : Int32} (hF : z_F h) (hw : z_pw s F W S) (h6 : s + S.length + W.length ≤ 600) (h1 : W.length ≤ 101) : z_C Γ M_X6_settle (z_rm 2 0 0) [.ref 49, .int b] (z_ci h F) (z_rpv h (fun F' => z_pw s F' (a_sl b W S).1 (a_sl b W S).2 ∧ z_fm (z_Rw (s + S.length)) F F')) := by
  refine z_C.of (by decide +kernel) rfl [some (.ref 49), some (.int b)] (Nat.le_of_ble_eq_true rfl) rfl ?_
  exact lp_X6_settle hF W S F hw h6 h1
def m_X6_place (h : z_H) (c : Int32) : Int32 :=
  if c = 104 then
    2
  else
    if c = 107 then
      1
    else
      if c = 108 then
        0
      else
        if c = 109 then
          5
        else
          if c = 116 then
            3
          else
            if c = 118 then
              4
            else
              (-1)
theorem c_X6_place {Γ : z_W} {h : z_H} {c : Int32} (hF : z_F h)  : z_C Γ M_X6_place (z_rm 1 0 0) [.ref 49, .int c] h (z_ri (m_X6_place h c) h) := by
  refine z_C.of (by decide +kernel) rfl [some (.ref 49), some (.int c)] (Nat.le_of_ble_eq_true rfl) rfl ?_
  refine z_iload_n dX6_place_0 rfl rfl ?_
  by_cases e1_0 : c = 104
  · refine z_tableIn 104 80 dX6_place_1 e1_0 (by decide) (by decide) rfl (by decide) ?_
    refine z_iconst (v := 2) dX6_place_80 rfl ?_
    refine z_iret dX6_place_81 rfl rfl (Nat.le_refl _) (Nat.le_refl _) (z_ri_i ?_ ?_)
    · first | rfl | (unfold m_X6_place; rw [if_pos (show c = 104 from e1_0)]; first | done | rfl)
    · first | rfl | (unfold m_X6_place; rw [if_pos (show c = 104 from e1_0)]; first | done | rfl)
  by_cases e1_3 : c = 107
  · refine z_tableIn 107 78 dX6_place_1 e1_3 (by decide) (by decide) rfl (by decide) ?_
    refine z_iconst (v := 1) dX6_place_78 rfl ?_
    refine z_iret dX6_place_79 rfl rfl (Nat.le_refl _) (Nat.le_refl _) (z_ri_i ?_ ?_)
    · first | rfl | (unfold m_X6_place; rw [if_neg (show ¬ (c = 104) from e1_0), if_pos (show c = 107 from e1_3)]; first | done | rfl)
    · first | rfl | (unfold m_X6_place; rw [if_neg (show ¬ (c = 104) from e1_0), if_pos (show c = 107 from e1_3)]; first | done | rfl)
  by_cases e1_4 : c = 108
  · refine z_tableIn 108 76 dX6_place_1 e1_4 (by decide) (by decide) rfl (by decide) ?_
    refine z_iconst (v := 0) dX6_place_76 rfl ?_
    refine z_iret dX6_place_77 rfl rfl (Nat.le_refl _) (Nat.le_refl _) (z_ri_i ?_ ?_)
    · first | rfl | (unfold m_X6_place; rw [if_neg (show ¬ (c = 104) from e1_0), if_neg (show ¬ (c = 107) from e1_3), if_pos (show c = 108 from e1_4)]; first | done | rfl)
    · first | rfl | (unfold m_X6_place; rw [if_neg (show ¬ (c = 104) from e1_0), if_neg (show ¬ (c = 107) from e1_3), if_pos (show c = 108 from e1_4)]; first | done | rfl)
  by_cases e1_5 : c = 109
  · refine z_tableIn 109 86 dX6_place_1 e1_5 (by decide) (by decide) rfl (by decide) ?_
    refine z_iconst (v := 5) dX6_place_86 rfl ?_
    refine z_iret dX6_place_87 rfl rfl (Nat.le_refl _) (Nat.le_refl _) (z_ri_i ?_ ?_)
    · first | rfl | (unfold m_X6_place; rw [if_neg (show ¬ (c = 104) from e1_0), if_neg (show ¬ (c = 107) from e1_3), if_neg (show ¬ (c = 108) from e1_4), if_pos (show c = 109 from e1_5)]; first | done | rfl)
    · first | rfl | (unfold m_X6_place; rw [if_neg (show ¬ (c = 104) from e1_0), if_neg (show ¬ (c = 107) from e1_3), if_neg (show ¬ (c = 108) from e1_4), if_pos (show c = 109 from e1_5)]; first | done | rfl)
  by_cases e1_12 : c = 116
  · refine z_tableIn 116 82 dX6_place_1 e1_12 (by decide) (by decide) rfl (by decide) ?_
    refine z_iconst (v := 3) dX6_place_82 rfl ?_
    refine z_iret dX6_place_83 rfl rfl (Nat.le_refl _) (Nat.le_refl _) (z_ri_i ?_ ?_)
    · first | rfl | (unfold m_X6_place; rw [if_neg (show ¬ (c = 104) from e1_0), if_neg (show ¬ (c = 107) from e1_3), if_neg (show ¬ (c = 108) from e1_4), if_neg (show ¬ (c = 109) from e1_5), if_pos (show c = 116 from e1_12)]; first | done | rfl)
    · first | rfl | (unfold m_X6_place; rw [if_neg (show ¬ (c = 104) from e1_0), if_neg (show ¬ (c = 107) from e1_3), if_neg (show ¬ (c = 108) from e1_4), if_neg (show ¬ (c = 109) from e1_5), if_pos (show c = 116 from e1_12)]; first | done | rfl)
  by_cases e1_14 : c = 118
  · refine z_tableIn 118 84 dX6_place_1 e1_14 (by decide) (by decide) rfl (by decide) ?_
    refine z_iconst (v := 4) dX6_place_84 rfl ?_
    refine z_iret dX6_place_85 rfl rfl (Nat.le_refl _) (Nat.le_refl _) (z_ri_i ?_ ?_)
    · first | rfl | (unfold m_X6_place; rw [if_neg (show ¬ (c = 104) from e1_0), if_neg (show ¬ (c = 107) from e1_3), if_neg (show ¬ (c = 108) from e1_4), if_neg (show ¬ (c = 109) from e1_5), if_neg (show ¬ (c = 116) from e1_12), if_pos (show c = 118 from e1_14)]; first | done | rfl)
    · first | rfl | (unfold m_X6_place; rw [if_neg (show ¬ (c = 104) from e1_0), if_neg (show ¬ (c = 107) from e1_3), if_neg (show ¬ (c = 108) from e1_4), if_neg (show ¬ (c = 109) from e1_5), if_neg (show ¬ (c = 116) from e1_12), if_pos (show c = 118 from e1_14)]; first | done | rfl)
  refine z_tableD 88 dX6_place_1 (by decide) (fun i hi hn => match i, hi, hn with | 0, _, hn => (fun q => e1_0 (Int32.toInt_inj.mp (by rw [q]; rfl))) | 1, _, hn => absurd rfl hn | 2, _, hn => absurd rfl hn | 3, _, hn => (fun q => e1_3 (Int32.toInt_inj.mp (by rw [q]; rfl))) | 4, _, hn => (fun q => e1_4 (Int32.toInt_inj.mp (by rw [q]; rfl))) | 5, _, hn => (fun q => e1_5 (Int32.toInt_inj.mp (by rw [q]; rfl))) | 6, _, hn => absurd rfl hn | 7, _, hn => absurd rfl hn | 8, _, hn => absurd rfl hn | 9, _, hn => absurd rfl hn | 10, _, hn => absurd rfl hn | 11, _, hn => absurd rfl hn | 12, _, hn => (fun q => e1_12 (Int32.toInt_inj.mp (by rw [q]; rfl))) | 13, _, hn => absurd rfl hn | 14, _, hn => (fun q => e1_14 (Int32.toInt_inj.mp (by rw [q]; rfl))) | n + 15, hi, _ => absurd hi (by show ¬ (n + 15 < 15); omega)) (by decide) ?_
  refine z_iconst (v := (-1)) dX6_place_88 rfl ?_
  refine z_iret dX6_place_89 rfl rfl (Nat.le_refl _) (Nat.le_refl _) (z_ri_i ?_ ?_)
  · first | rfl | (unfold m_X6_place; rw [if_neg (show ¬ (c = 104) from e1_0), if_neg (show ¬ (c = 107) from e1_3), if_neg (show ¬ (c = 108) from e1_4), if_neg (show ¬ (c = 109) from e1_5), if_neg (show ¬ (c = 116) from e1_12), if_neg (show ¬ (c = 118) from e1_14)]; first | done | rfl)
  · first | rfl | (unfold m_X6_place; rw [if_neg (show ¬ (c = 104) from e1_0), if_neg (show ¬ (c = 107) from e1_3), if_neg (show ¬ (c = 108) from e1_4), if_neg (show ¬ (c = 109) from e1_5), if_neg (show ¬ (c = 116) from e1_12), if_neg (show ¬ (c = 118) from e1_14)]; first | done | rfl)
theorem m_place_pc (h : z_H) (c : Int32) : m_X6_place h c = a_pc c := by
  unfold m_X6_place a_pc
  repeat' split
  all_goals first | rfl | simp_all
