/-! THE CLASS: taken, firstOther, judge (printed by class24.py) -/
set_option maxRecDepth 20000
theorem m_tk {h : z_H} {l : Int32} (hi : m_X6_isLift h l) (d : Nat) (hd : d ≤ 6) (k : Nat) (hk : k ≤ 6) (e : z_I h 50 (z_c l) = nI d) : m_X6_taken h l (nI k) = if z_tkd d k = true then nI d else -12 := by
  have hin : z_in (nI k) 0 6 := by
    match k, hk with
    | 0, _ => decide
    | 1, _ => decide
    | 2, _ => decide
    | 3, _ => decide
    | 4, _ => decide
    | 5, _ => decide
    | 6, _ => decide
    | k + 7, hk => omega
  unfold m_X6_taken
  rw [if_pos hin, if_pos hi, e]
  match d, hd, k, hk with
  | 0, _, 0, _ => decide
  | 0, _, 1, _ => decide
  | 0, _, 2, _ => decide
  | 0, _, 3, _ => decide
  | 0, _, 4, _ => decide
  | 0, _, 5, _ => decide
  | 0, _, 6, _ => decide
  | 1, _, 0, _ => decide
  | 1, _, 1, _ => decide
  | 1, _, 2, _ => decide
  | 1, _, 3, _ => decide
  | 1, _, 4, _ => decide
  | 1, _, 5, _ => decide
  | 1, _, 6, _ => decide
  | 2, _, 0, _ => decide
  | 2, _, 1, _ => decide
  | 2, _, 2, _ => decide
  | 2, _, 3, _ => decide
  | 2, _, 4, _ => decide
  | 2, _, 5, _ => decide
  | 2, _, 6, _ => decide
  | 3, _, 0, _ => decide
  | 3, _, 1, _ => decide
  | 3, _, 2, _ => decide
  | 3, _, 3, _ => decide
  | 3, _, 4, _ => decide
  | 3, _, 5, _ => decide
  | 3, _, 6, _ => decide
  | 4, _, 0, _ => decide
  | 4, _, 1, _ => decide
  | 4, _, 2, _ => decide
  | 4, _, 3, _ => decide
  | 4, _, 4, _ => decide
  | 4, _, 5, _ => decide
  | 4, _, 6, _ => decide
  | 5, _, 0, _ => decide
  | 5, _, 1, _ => decide
  | 5, _, 2, _ => decide
  | 5, _, 3, _ => decide
  | 5, _, 4, _ => decide
  | 5, _, 5, _ => decide
  | 5, _, 6, _ => decide
  | 6, _, 0, _ => decide
  | 6, _, 1, _ => decide
  | 6, _, 2, _ => decide
  | 6, _, 3, _ => decide
  | 6, _, 4, _ => decide
  | 6, _, 5, _ => decide
  | 6, _, 6, _ => decide
  | d + 7, hd, _, _ => omega
  | _, _, k + 7, hk => omega
theorem z_rG_i {r v : Int32} {h h' : z_H} (e : v = r) (g : z_gr h h') : z_rG r h (.returned (some (.int v))) h' := ⟨v, rfl, e, g⟩
theorem z_cG {Γ : z_W} {M : z_M} {rm : Room} {Q : Outcome → z_H → Prop} {cs ss pc : Nat} {ls : List (Option Value)} {rest : List Value} {h : z_H} {r : Int32} (kk : ∀ h', z_gr h h' → z_G Γ M rm Q cs ss pc ls (.int r :: rest) h') : ∀ v h', z_rG r h (.returned v) h' → z_G Γ M rm Q cs ss pc ls (v.toList ++ rest) h' := by
  rintro v h' ⟨x, q, rfl, g⟩
  cases q
  exact kk h' g
theorem z_tG {P : Nat → z_H → Prop} {h : z_H} {r : Int32} : ∀ x h', z_rG r h (.threw x) h' → P x h' := by
  rintro x h' ⟨_, q, -⟩
  cases q
theorem c_X0_taken {Γ : z_W} {h : z_H} {l k : Int32} (hF : z_F h) (hS3 : z_I h 16 3 = z_I h 49 0) (hm : z_cn (z_I h 49 0) 6) (hL : ∀ j, j < z_c (z_I h 49 0) → ∃ id k, z_R h 17 j = some id ∧ z_Lf h id j k) : z_C Γ M_X0_taken (z_rm 4 4 2020) [.ref 16, .int l, .int k] h (z_rG (m_X6_taken h l k) h) := by
  refine z_C.ofH (by decide +kernel) (by decide) [some (.ref 16), some (.int l), some (.int k), none] (Nat.le_of_ble_eq_true rfl) rfl ?_
  refine z_iload_n dX0_taken_0 rfl rfl ?_
  refine z_iconst (v := 0) dX0_taken_1 rfl ?_
  refine z_bipush (v := 6) dX0_taken_2 rfl ?_
  refine z_scall sl_X0_5 (c_X0_in) dX0_taken_4 rfl rfl ⟨by decide, by decide⟩ (Nat.le_of_ble_eq_true rfl) (Nat.le_of_ble_eq_true rfl) (Nat.le_of_ble_eq_true rfl) (z_cI ?_) z_tI
  refine z_bif_ne 13 dX0_taken_7 (by decide) (fun c7 => ?_) (fun c7 => ?_)
  · have hk := z_ixb (l := k) 6 (by decide) c7
    refine z_aload_n dX0_taken_13 rfl rfl ?_
    refine z_iload_n dX0_taken_14 rfl rfl ?_
    refine z_vcall vl_X0_193_0 (c_X0_isLiftP hF) dX0_taken_15 rfl rfl (hF.1 16 _ rfl) ⟨by decide, by decide⟩ (Nat.le_of_ble_eq_true rfl) (Nat.le_of_ble_eq_true rfl) (Nat.le_of_ble_eq_true rfl) (z_cI ?_) z_tI
    refine z_bif_eq 30 dX0_taken_18 (by decide) (fun c18 => ?_) (fun c18 => ?_)
    · refine z_null dX0_taken_30 ?_
      refine z_iload_n dX0_taken_31 rfl rfl ?_
      refine z_eqi (nI (z_c k)) hk.1 ?_
      refine z_scall sl_X0_371 (c_X0_takenFor_N (z_c k) hk.2) dX0_taken_32 rfl rfl ⟨by decide, by decide⟩ (Nat.le_of_ble_eq_true rfl) (Nat.le_of_ble_eq_true rfl) (Nat.le_of_ble_eq_true rfl) (fun v h' q => ?_) (fun x h' q => by cases q.1)
      obtain ⟨q1, q2⟩ := q
      cases q1
      rw [q2]
      refine z_ivNull (x := M_X7_kind) q526 q527 cl_X7_kind.1 q517 ⟨by decide +kernel, by decide +kernel⟩ (by decide +kernel) dX0_taken_35 ?_
      refine z_tnNpe (Nat.le_of_ble_eq_true rfl) (Nat.le_of_ble_eq_true rfl) (Nat.le_of_ble_eq_true rfl) ?_
      refine z_thCatch (z_Xo_N h) [] [(13, 38, 43, 332)] rfl (fun y hy => by cases hy) ⟨by decide, by decide⟩ (by decide) q1221 q1237 ?_
      refine z_astore_n dX0_taken_39 rfl (by decide) rfl ?_
      refine z_bipush (v := (-11)) dX0_taken_40 rfl ?_
      refine z_iret dX0_taken_42 rfl rfl (Nat.le_of_ble_eq_true rfl) (Nat.le_of_ble_eq_true rfl) (z_rG_i ?_ (z_gr.xN h))
      unfold m_X6_taken
      rw [if_pos (show z_in k 0 6 from c7), if_neg (show ¬ m_X6_isLift h l from fun q => c18 (show z_in l 0 (z_I h 16 3 - 1) by rw [hS3]; exact q))]
    · have c18 : m_X6_isLift h l := by have q : z_in l 0 (z_I h 16 3 - 1) := c18; rw [hS3] at q; exact q
      have hl := z_ix hm (by decide) c18
      have hl6 : l = nI (z_c l) ∧ z_c l < 6 := ⟨hl.1, by have := hl.2; have := hm.2; omega⟩
      obtain ⟨id, d, hid, hlf⟩ := hL _ hl.2
      obtain ⟨h85, hk6, hkd, hTL, hR26, hn1, hvL, hmL, h46⟩ := hlf
      refine z_aload_n dX0_taken_21 rfl rfl ?_
      refine z_getR 17 dX0_taken_22 fl_X0_17_0 (hF.1 16 _ rfl) rfl (hF.2.1 16 0 17 rfl) ?_
      refine z_iload_n dX0_taken_25 rfl rfl ?_
      refine z_aald (z_c l) id dX0_taken_26 (hF.1 17 _ rfl) (by simp [z_at]) hl6.1 hl6.2 (by decide) hid ?_
      refine z_goto 31 dX0_taken_27 (by decide) ?_
      refine z_iload_n dX0_taken_31 rfl rfl ?_
      refine z_eqi (nI (z_c k)) hk.1 ?_
      have C := c_X0_takenFor (Γ := Γ) (h := h) d hk6 (z_c k) hk.2 hTL
      have em := m_tk c18 d hk6 (z_c k) hk.2 hkd
      rw [← hk.1] at em
      cases hb : z_tkd d (z_c k) with
      | true =>
        rw [hb] at C em
        refine z_scall sl_X0_371 C dX0_taken_32 rfl rfl ⟨by decide, by decide⟩ (Nat.le_of_ble_eq_true rfl) (Nat.le_of_ble_eq_true rfl) (Nat.le_of_ble_eq_true rfl) (z_cR ?_) z_tR
        refine z_kind rfl hk6 hTL dX0_taken_35 (by decide) (Nat.le_of_ble_eq_true rfl) (Nat.le_of_ble_eq_true rfl) (Nat.le_of_ble_eq_true rfl) ?_
        refine z_iret dX0_taken_38 rfl rfl (Nat.le_of_ble_eq_true rfl) (Nat.le_of_ble_eq_true rfl) (z_rG_i ?_ (z_gr.refl h))
        rw [em]; rfl
      | false =>
        rw [hb] at C em
        refine z_scall sl_X0_371 C dX0_taken_32 rfl rfl ⟨by decide, by decide⟩ (Nat.le_of_ble_eq_true rfl) (Nat.le_of_ble_eq_true rfl) (Nat.le_of_ble_eq_true rfl) (fun v h' q => by cases q.1) (fun x h' q => ?_)
        obtain ⟨q1, rfl⟩ := q
        cases q1
        refine z_thCatch (z_Xo_M h 1 (by decide)) [(13, 38, 39, 318)] [] rfl (fun y hy => ?_) ⟨by decide, by decide⟩ (by decide) q1186 q1206 ?_
        · simp only [List.mem_cons, List.not_mem_nil, or_false] at hy
          subst hy
          exact Or.inr ⟨⟨by decide, by decide⟩, by decide, _, q1221, nca_cce_npe⟩
        refine z_astore_n dX0_taken_43 rfl (by decide) rfl ?_
        refine z_bipush (v := (-12)) dX0_taken_44 rfl ?_
        refine z_iret dX0_taken_46 rfl rfl (Nat.le_of_ble_eq_true rfl) (Nat.le_of_ble_eq_true rfl) (z_rG_i ?_ (z_gr.xM h 1))
        rw [em]; rfl
  · refine z_bipush (v := (-2)) dX0_taken_10 rfl ?_
    refine z_iret dX0_taken_12 rfl rfl (Nat.le_of_ble_eq_true rfl) (Nat.le_of_ble_eq_true rfl) (z_rG_i ?_ (z_gr.refl h))
    unfold m_X6_taken; rw [if_neg (show ¬ (z_in k 0 6) from c7)]
