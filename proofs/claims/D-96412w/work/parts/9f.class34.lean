/-! THE CLASS's READER: number, word, told (printed by class34.py) -/
set_option maxRecDepth 20000
/-- a number is read, or not -/
def z_rN (r d : Nat) (h : z_H) : Nat ⊕ (Nat × Int32) → Outcome → z_H → Prop
  | .inl e => z_rT r e h
  | .inr (b, v) => fun o h' => o = .returned (some (.int v)) ∧ z_pg r h h' ∧ z_I h' r 2 = nI b ∧ z_I h' r 3 = nI d
/-- a word is read, or not -/
def z_rW (r d : Nat) (h : z_H) : Nat ⊕ Nat → Outcome → z_H → Prop
  | .inl e => z_rT r e h
  | .inr b => z_rB r b d h
theorem a_cr_lt {tx : Nat → Int32} {n p : Nat} (h : ¬ a_cr tx n p = -1) : p < n := by
  by_cases c : p < n
  · exact c
  · exact absurd (if_neg c) h
theorem z_in9 {x : Int32} (h : z_in x 48 57) : ¬ x = -1 := by
  intro q
  rw [q] at h
  exact absurd h.1 (by decide)
theorem c_X14_number {Γ : z_W} {h : z_H} {r n p d A : Nat} {tx : Nat → Int32} (hr : z_Rr h r tx n p d A) : z_C Γ M_X14_number (z_rm 4 1 7) [.ref r] h (z_rN r d h (a_nm tx n p)) := by
  obtain ⟨r1, r2, r3, r4, r5, r6, r7, r8, r9, r10, r11, r12, r13, r14⟩ := id hr
  have hF := r1
  refine z_C.of (by decide +kernel) rfl [some (.ref r), none, none] (Nat.le_of_ble_eq_true rfl) rfl ?_
  refine z_aload_n dX14_number_0 rfl rfl ?_
  refine z_vcall vl_X14_34_14 (c_X14_here hr) dX14_number_1 rfl rfl r4 ⟨by decide, by decide⟩ (Nat.le_of_ble_eq_true rfl) (Nat.le_of_ble_eq_true rfl) (Nat.le_of_ble_eq_true rfl) (z_cI ?_) z_tI
  refine z_bipush (v := 48) dX14_number_4 rfl ?_
  refine z_bipush (v := 57) dX14_number_6 rfl ?_
  refine z_scall sl_X14_54 (c_X0_in) dX14_number_8 rfl rfl ⟨by decide, by decide⟩ (Nat.le_of_ble_eq_true rfl) (Nat.le_of_ble_eq_true rfl) (Nat.le_of_ble_eq_true rfl) (z_cI ?_) z_tI
  refine z_bif_ne 19 dX14_number_11 (by decide) (fun c11 => ?_) (fun c11 => ?_)
  · have hp := a_cr_lt (z_in9 c11)
    have hr1 : z_Rr (z_sI h r 2 (nI (p + 1))) r tx n (p + 1) d A := hr.pg (z_pg.sI r h (Or.inl rfl) _) (if_pos ⟨rfl, rfl⟩) ((if_neg (fun q => absurd q.2 (by decide))).trans r10) hp r11
    have cr0 : ∀ v, z_I (z_sI h r 2 v) 22 p = a_cr tx n p := fun v => (if_neg (fun q => by omega)).trans ((r13 p).trans (if_pos hp).symm)
    refine z_iconst (v := 0) dX14_number_19 rfl ?_
    refine z_istore_n dX14_number_20 rfl (by decide) rfl ?_
    refine z_lsq [some (.ref r), some (.int 0), none] rfl ?_
    refine z_iconst (v := 0) dX14_number_21 rfl ?_
    refine z_istore_n dX14_number_22 rfl (by decide) rfl ?_
    refine z_lsq [some (.ref r), some (.int 0), some (.int 0)] rfl ?_
    refine z_iload_n dX14_number_23 rfl rfl ?_
    refine z_iconst (v := 2) dX14_number_24 rfl ?_
    refine z_icmp_ge 73 dX14_number_25 (by decide) (fun q => absurd q (by decide)) (fun _ => ?_)
    refine z_aload_n dX14_number_28 rfl rfl ?_
    refine z_vcall vl_X14_34_14 (c_X14_here hr) dX14_number_29 rfl rfl r4 ⟨by decide, by decide⟩ (Nat.le_of_ble_eq_true rfl) (Nat.le_of_ble_eq_true rfl) (Nat.le_of_ble_eq_true rfl) (z_cI ?_) z_tI
    refine z_bipush (v := 48) dX14_number_32 rfl ?_
    refine z_bipush (v := 57) dX14_number_34 rfl ?_
    refine z_scall sl_X14_54 (c_X0_in) dX14_number_36 rfl rfl ⟨by decide, by decide⟩ (Nat.le_of_ble_eq_true rfl) (Nat.le_of_ble_eq_true rfl) (Nat.le_of_ble_eq_true rfl) (z_cI ?_) z_tI
    refine z_bif_eq 73 dX14_number_39 (by decide) (fun q => by first | exact absurd q c11 | exact absurd c11 q) (fun _ => ?_)
    refine z_bipush (v := 10) dX14_number_42 rfl ?_
    refine z_iload_n dX14_number_44 rfl rfl ?_
    refine z_imul dX14_number_45 ?_
    refine z_aload_n dX14_number_46 rfl rfl ?_
    refine z_getR 22 dX14_number_47 fl_X14_18_14 r4 rfl r5 ?_
    refine z_aload_n dX14_number_50 rfl rfl ?_
    refine z_dup dX14_number_51 rfl ?_
    refine z_getI dX14_number_52 fl_X14_26_14 r4 rfl ?_
    refine z_eqi (nI p) r8 ?_
    refine z_dup_x1 dX14_number_55 rfl rfl ?_
    refine z_iconst (v := 1) dX14_number_56 rfl ?_
    refine z_iadd dX14_number_57 ?_
    refine z_eqi (nI (p + 1)) (nI_succ p).symm ?_
    refine z_putI dX14_number_58 (pl_X14_26_14 rfl) r4 (Nat.le_trans (by decide) r2) rfl ?_
    refine z_bald p dX14_number_61 (hF.1 22 _ rfl) rfl (by omega) (by decide) ?_
    refine z_eqi (a_cr tx n p) (cr0 _) ?_
    refine z_iadd dX14_number_62 ?_
    refine z_bipush (v := 48) dX14_number_63 rfl ?_
    refine z_isub dX14_number_65 ?_
    refine z_istore_n dX14_number_66 rfl (by decide) rfl ?_
    refine z_lsq [some (.ref r), some (.int (((10 * 0) + (a_cr tx n p)) - 48)), some (.int 0)] rfl ?_
    refine z_iinc (v := 1) dX14_number_67 rfl (by decide) (by decide) rfl ?_
    refine z_goto 23 dX14_number_70 (by decide) ?_
    refine z_iload_n dX14_number_23 rfl rfl ?_
    refine z_iconst (v := 2) dX14_number_24 rfl ?_
    refine z_icmp_ge 73 dX14_number_25 (by decide) (fun q => absurd q (by decide)) (fun _ => ?_)
    refine z_aload_n dX14_number_28 rfl rfl ?_
    refine z_vcall vl_X14_34_14 (c_X14_here hr1) dX14_number_29 rfl rfl r4 ⟨by decide, by decide⟩ (Nat.le_of_ble_eq_true rfl) (Nat.le_of_ble_eq_true rfl) (Nat.le_of_ble_eq_true rfl) (z_cI ?_) z_tI
    refine z_bipush (v := 48) dX14_number_32 rfl ?_
    refine z_bipush (v := 57) dX14_number_34 rfl ?_
    refine z_scall sl_X14_54 (c_X0_in) dX14_number_36 rfl rfl ⟨by decide, by decide⟩ (Nat.le_of_ble_eq_true rfl) (Nat.le_of_ble_eq_true rfl) (Nat.le_of_ble_eq_true rfl) (z_cI ?_) z_tI
    refine z_bif_eq 73 dX14_number_39 (by decide) (fun c39 => ?_) (fun c39 => ?_)
    · refine z_iload_n dX14_number_73 rfl rfl ?_
      refine z_iret dX14_number_74 rfl rfl (Nat.le_of_ble_eq_true rfl) (Nat.le_of_ble_eq_true rfl) ?_
      show z_rN r d h (a_nm tx n p) _ _
      unfold a_nm
      rw [if_pos c11, if_neg c39]
      exact ⟨rfl, z_pg.sI r h (Or.inl rfl) _, if_pos ⟨rfl, rfl⟩, (if_neg (fun q => absurd q.2 (by decide))).trans r10⟩
    · have hp1 := a_cr_lt (z_in9 c39)
      obtain ⟨-, -, s3, s4, s5, s6, -, s8, s9, s10, -, s12, s13, -⟩ := id hr1
      have cr1 : ∀ v, z_I (z_sI (z_sI h r 2 (nI (p + 1))) r 2 v) 22 (p + 1) = a_cr tx n (p + 1) := fun v => (if_neg (fun q => by omega)).trans ((s13 (p + 1)).trans (if_pos hp1).symm)
      refine z_bipush (v := 10) dX14_number_42 rfl ?_
      refine z_iload_n dX14_number_44 rfl rfl ?_
      refine z_imul dX14_number_45 ?_
      refine z_aload_n dX14_number_46 rfl rfl ?_
      refine z_getR 22 dX14_number_47 fl_X14_18_14 r4 rfl s5 ?_
      refine z_aload_n dX14_number_50 rfl rfl ?_
      refine z_dup dX14_number_51 rfl ?_
      refine z_getI dX14_number_52 fl_X14_26_14 r4 rfl ?_
      refine z_eqi (nI (p + 1)) s8 ?_
      refine z_dup_x1 dX14_number_55 rfl rfl ?_
      refine z_iconst (v := 1) dX14_number_56 rfl ?_
      refine z_iadd dX14_number_57 ?_
      refine z_eqi (nI (p + 1 + 1)) (nI_succ (p + 1)).symm ?_
      refine z_putI dX14_number_58 (pl_X14_26_14 rfl) r4 (Nat.le_trans (by decide) r2) rfl ?_
      refine z_bald (p + 1) dX14_number_61 (hF.1 22 _ rfl) rfl (by omega) (by decide) ?_
      refine z_eqi (a_cr tx n (p + 1)) (cr1 _) ?_
      refine z_iadd dX14_number_62 ?_
      refine z_bipush (v := 48) dX14_number_63 rfl ?_
      refine z_isub dX14_number_65 ?_
      refine z_istore_n dX14_number_66 rfl (by decide) rfl ?_
      refine z_lsq [some (.ref r), some (.int (((10 * (((10 * 0) + (a_cr tx n p)) - 48)) + (a_cr tx n (p + 1))) - 48)), some (.int 1)] rfl ?_
      refine z_iinc (v := 2) dX14_number_67 rfl (by decide) (by decide) rfl ?_
      refine z_goto 23 dX14_number_70 (by decide) ?_
      refine z_iload_n dX14_number_23 rfl rfl ?_
      refine z_iconst (v := 2) dX14_number_24 rfl ?_
      refine z_icmp_ge 73 dX14_number_25 (by decide) (fun _ => ?_) (fun q => absurd q (by decide))
      refine z_iload_n dX14_number_73 rfl rfl ?_
      refine z_iret dX14_number_74 rfl rfl (Nat.le_of_ble_eq_true rfl) (Nat.le_of_ble_eq_true rfl) ?_
      show z_rN r d h (a_nm tx n p) _ _
      unfold a_nm
      rw [if_pos c11, if_pos c39]
      exact ⟨rfl, (z_pg.sI r h (Or.inl rfl) _).trans (z_pg.sI r _ (Or.inl rfl) _), if_pos ⟨rfl, rfl⟩, (if_neg (fun q => absurd q.2 (by decide))).trans s10⟩
  · refine z_aload_n dX14_number_14 rfl rfl ?_
    refine z_vcall vl_X14_38_14 (c_X14_off hr) dX14_number_15 rfl rfl r4 ⟨by decide, by decide⟩ (Nat.le_of_ble_eq_true rfl) (Nat.le_of_ble_eq_true rfl) (Nat.le_of_ble_eq_true rfl) (z_cR ?_) z_tR
    refine z_athrow dX14_number_18 ?_
    exact z_thOut (by decide) (Nat.le_of_ble_eq_true rfl) (Nat.le_of_ble_eq_true rfl) (by show z_rN r d h (a_nm tx n p) _ _; unfold a_nm; rw [if_neg c11]; exact ⟨_, rfl, z_pg.of (z_gr.off h _), z_off_T h _, z_off_I h _⟩)
theorem z_rT.pg {r e : Nat} {h h1 : z_H} {o : Outcome} {h' : z_H} (hg : z_pg r h h1) (ht : z_rT r e h1 o h') : z_rT r e h o h' := by
  obtain ⟨y, a1, a2, a3⟩ := ht
  exact ⟨y, a1, hg.trans a2, a3⟩
theorem z_Sx.pg {r s v : Nat} {h h' : z_H} {ws : List Int32} (hg : z_pg r h h') (hs : s < 16) (hv : v < 16) (hn : 85 ≤ z_n h) (hr : 85 ≤ r) (hS : z_Sx h s v ws) : z_Sx h' s v ws := by
  obtain ⟨a1, a2, a3, a4, a5, a6⟩ := hS
  obtain ⟨g1, g2, g3, g4⟩ := hg.2 s (by omega)
  obtain ⟨k1, k2, k3, k4⟩ := hg.2 v (by omega)
  exact ⟨g1.trans a1, (g3 0).trans a2, (g4 1 (by omega)).trans a3, k1.trans a4, a5, fun k x hx => ⟨(k4 k (by omega)).trans (a6 k x hx).1, (a6 k x hx).2⟩⟩
theorem lp_X14_word {Γ : z_W} {h0 : z_H} {r n d A s v : Nat} {tx : Nat → Int32} {ws : List Int32} (hs : s < 16) (hv : v < 16) (hneg : ∀ x ∈ ws, ¬ x = -1) : ∀ (l : List Int32) (k p : Nat) (h : z_H), ws.drop k = l → k ≤ ws.length → z_Rr h r tx n p d A → z_Sx h s v ws → z_pg r h0 h → z_G Γ M_X14_word (z_rm 6 1 7) (z_rW r d h0 (a_wd tx n l p)) 0 0 2 [some (.ref r), some (.ref s), some (.int (nI k))] [] h := by
  intro l
  induction l with
  | nil =>
    intro k p h hk hkn hr hS hg
    obtain ⟨r1, r2, r3, r4, r5, r6, r7, r8, r9, r10, r11, r12, r13, r14⟩ := id hr
    have hk2 : ws.length ≤ k := List.drop_eq_nil_iff.mp hk
    refine z_iload_n dX14_word_2 rfl rfl ?_
    refine z_aload_n dX14_word_3 rfl rfl ?_
    refine z_vcall vl_X14_42_22 (c_J6_length hS) dX14_word_4 rfl rfl hS.1 ⟨by decide, by decide⟩ (Nat.le_of_ble_eq_true rfl) (Nat.le_of_ble_eq_true rfl) (Nat.le_of_ble_eq_true rfl) (z_cI ?_) z_tI
    refine z_icmp_ge 25 dX14_word_7 (by decide) (fun _ => ?_) (fun q => absurd (nI_le hk2 (by have := hS.2.2.2.2.1; omega)) q)
    refine z_vret dX14_word_25 rfl (Nat.le_of_ble_eq_true rfl) (Nat.le_of_ble_eq_true rfl) ?_
    exact ⟨rfl, hg, r8, r10⟩
  | cons x l ih =>
    intro k p h hk hkn hr hS hg
    obtain ⟨r1, r2, r3, r4, r5, r6, r7, r8, r9, r10, r11, r12, r13, r14⟩ := id hr
    have hx : ws[k]? = some x := by
      have := congrArg (fun z : List Int32 => z[0]?) hk
      simpa [List.getElem?_drop] using this
    have hk2 : k < ws.length := (List.getElem?_eq_some_iff.mp hx).1
    have hl := hS.2.2.2.2.1
    have hkl : ws.drop (k + 1) = l := by
      rw [← List.drop_drop, hk]
      rfl
    refine z_iload_n dX14_word_2 rfl rfl ?_
    refine z_aload_n dX14_word_3 rfl rfl ?_
    refine z_vcall vl_X14_42_22 (c_J6_length hS) dX14_word_4 rfl rfl hS.1 ⟨by decide, by decide⟩ (Nat.le_of_ble_eq_true rfl) (Nat.le_of_ble_eq_true rfl) (Nat.le_of_ble_eq_true rfl) (z_cI ?_) z_tI
    refine z_icmp_ge 25 dX14_word_7 (by decide) (fun q => absurd q (Int32.not_le.mpr (nI_lt hk2 (by omega)))) (fun _ => ?_)
    refine z_aload_n dX14_word_10 rfl rfl ?_
    refine z_aload_n dX14_word_11 rfl rfl ?_
    refine z_iload_n dX14_word_12 rfl rfl ?_
    refine z_vcall vl_X14_47_22 (c_J6_charAt hS hx) dX14_word_13 rfl rfl hS.1 ⟨by decide, by decide⟩ (Nat.le_of_ble_eq_true rfl) (Nat.le_of_ble_eq_true rfl) (Nat.le_of_ble_eq_true rfl) (z_cI ?_) z_tI
    by_cases hc : a_cr tx n p = x
    · have hp := a_cr_lt (by rw [hc]; exact hneg x (List.mem_of_getElem? hx))
      refine z_vcall vl_X14_51_14 (c_X14_must_y hr hc) dX14_word_16 rfl rfl r4 ⟨by decide, by decide⟩ (Nat.le_of_ble_eq_true rfl) (Nat.le_of_ble_eq_true rfl) (Nat.le_of_ble_eq_true rfl) (fun v' h' q => ?_) (fun y h' q => by cases q.1)
      obtain ⟨q1, q2, q3, q4⟩ := q
      cases q1
      refine z_iinc (v := nI (k + 1)) dX14_word_19 rfl (nI_succ _).symm (by decide) rfl ?_
      refine z_goto 2 dX14_word_22 (by decide) ?_
      refine z_wid 0 0 (Nat.le_of_ble_eq_true rfl) (Nat.le_of_ble_eq_true rfl) ?_
      rw [show a_wd tx n (x :: l) p = a_wd tx n l (p + 1) from if_pos hc]
      exact ih (k + 1) (p + 1) h' hkl hk2 (hr.pg q2 q3 q4 hp r11) (hS.pg q2 hs hv r1.2.2 r2) (hg.trans q2)
    · refine z_vcall vl_X14_51_14 (c_X14_must_n hr hc) dX14_word_16 rfl rfl r4 ⟨by decide, by decide⟩ (Nat.le_of_ble_eq_true rfl) (Nat.le_of_ble_eq_true rfl) (Nat.le_of_ble_eq_true rfl) (fun v' h' q => ?_) (fun y h' q => ?_)
      · obtain ⟨y, q1, -⟩ := q
        cases q1
      · refine z_thOut (by decide) (Nat.le_of_ble_eq_true rfl) (Nat.le_of_ble_eq_true rfl) ?_
        rw [show a_wd tx n (x :: l) p = .inl p from if_neg hc]
        exact z_rT.pg hg q
theorem c_X14_word {Γ : z_W} {h : z_H} {r n p d A : Nat} {tx : Nat → Int32} {s v : Nat} {ws : List Int32} (hr : z_Rr h r tx n p d A) (hs : s < 16) (hv : v < 16) (hneg : ∀ x ∈ ws, ¬ x = -1) (hS : z_Sx h s v ws) : z_C Γ M_X14_word (z_rm 6 1 7) [.ref r, .ref s] h (z_rW r d h (a_wd tx n ws p)) := by
  refine z_C.of (by decide +kernel) rfl [some (.ref r), some (.ref s), none] (Nat.le_of_ble_eq_true rfl) rfl ?_
  refine z_iconst (v := 0) dX14_word_0 rfl ?_
  refine z_istore_n dX14_word_1 rfl (by decide) rfl ?_
  exact lp_X14_word hs hv hneg ws 0 p h rfl (Nat.zero_le _) hr hS (z_pg.refl r h)
