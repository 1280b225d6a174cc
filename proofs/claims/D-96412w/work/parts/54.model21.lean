/-! THE REFERENCE: reading an expression (printed by model21.py) -/
set_option maxRecDepth 20000
abbrev z_Re (c s a k : Nat) : Prop := z_Rd a k ∨ z_Rw s a k ∨ (a = 60 ∧ k = c)
def z_qe (h : z_H) (c s s1 : Nat) (F : Nat → Nat → Int32) : Nat ⊕ (Nat × List Int32) → Outcome → z_H → Prop
  | .inl p => z_rp h 0 (fun F' => F' 49 14 = nI p ∧ z_fm (z_Re c s1) F F')
  | .inr (b, T) => z_rp h 1 (fun F' => F' 49 14 = nI b ∧ F' 49 24 = nI (s + T.length) ∧ a_sg (F' 61) s T ∧ F' 60 c = nI (s + T.length) ∧ z_fm (z_Re c s1) F F')
theorem a_wo_2 : ∀ (W S : List Int32), S.length ≤ (a_wo W S).2.length
  | [], S => Nat.le_refl _
  | c :: W, S => by
    unfold a_wo
    split
    · have := a_wo_2 W (S ++ [-33]); rw [List.length_append, List.length_cons, List.length_nil] at this; omega
    · exact Nat.le_refl _
theorem a_sl_2 {b : Int32} : ∀ (W S : List Int32), S.length ≤ (a_sl b W S).2.length
  | [], S => Nat.le_refl _
  | c :: W, S => by
    unfold a_sl
    split
    · have := a_sl_2 (b := b) W (S ++ [-c]); rw [List.length_append, List.length_cons, List.length_nil] at this; omega
    · split
      · split
        · exact Nat.le_refl _
        · have := a_sl_2 (b := b) W (S ++ [-c]); rw [List.length_append, List.length_cons, List.length_nil] at this; omega
      · exact Nat.le_refl _
/-- what may wait -/
def a_vd (W : List Int32) : Prop := ∀ c, c ∈ W → c = 33 ∨ c = 40 ∨ c = 38 ∨ c = 124
theorem a_vd_c {c : Int32} {W : List Int32} (h : a_vd W) (hc : c = 33 ∨ c = 40 ∨ c = 38 ∨ c = 124) : a_vd (c :: W) := by
  intro d hd
  rcases List.mem_cons.mp hd with rfl | hd
  · exact hc
  · exact h d hd
theorem a_vd_t {c : Int32} {W : List Int32} (h : a_vd (c :: W)) : a_vd W := fun d hd => h d (List.mem_cons_of_mem _ hd)
theorem a_wo_v : ∀ (W S : List Int32), a_vd W → a_vd (a_wo W S).1
  | [], S, h => h
  | c :: W, S, h => by
    unfold a_wo
    split
    · exact a_wo_v W _ (a_vd_t h)
    · exact h
theorem a_sl_v {b : Int32} : ∀ (W S : List Int32), a_vd W → a_vd (a_sl b W S).1
  | [], S, h => h
  | c :: W, S, h => by
    unfold a_sl
    split
    · exact a_sl_v W _ (a_vd_t h)
    · split
      · split
        · exact h
        · exact a_sl_v W _ (a_vd_t h)
      · exact h
theorem a_sl_t : ∀ (W S : List Int32) (c : Int32) (V : List Int32), (a_sl 124 W S).1 = c :: V → ¬ c = 38 ∧ ¬ c = 124
  | [], S, c, V, h => by cases h
  | d :: W, S, c, V, h => by
    unfold a_sl at h
    split at h
    · exact a_sl_t W _ c V h
    · split at h
      · rw [if_neg (by decide)] at h
        exact a_sl_t W _ c V h
      · rename_i h1 h2
        cases h
        exact ⟨h1, h2⟩
theorem a_op_le : ∀ W : List Int32, a_op W ≤ W.length
  | [] => Nat.le_refl _
  | c :: W => by
    have := a_op_le W
    unfold a_op
    rw [List.length_cons]
    split
    · omega
    · split <;> omega
theorem a_run_g {tx : Nat → Int32} {n g a : Nat} {c : Int32} {W V S T : List Int32} (h : ¬ a_cr tx n a = 38) (h2 : ¬ a_cr tx n a = 124) (hs : a_sl 124 W S = (c :: V, T)) : a_run tx n (g + 1) false a W S = if a_cr tx n a = 41 then a_run tx n g false (a + 1) (a_wo V T).1 (a_wo V T).2 else .inl a := by
  conv => lhs; unfold a_run
  rw [if_neg (fun q => q.elim h h2), hs]
theorem z_pt.fm {tx : Nat → Int32} {n : Nat} {F F' : Nat → Nat → Int32} {R : Nat → Nat → Prop} (h : z_pt tx n F) (k : z_fm R F F') (h1 : ¬ R 49 13) (h2 : ∀ j, ¬ R 55 j) : z_pt tx n F' := ⟨(k 49 13 h1).trans h.1, h.2.1, fun j => (k 55 j (h2 j)).trans (h.2.2 j)⟩
theorem a_lay_u {F : Nat → Nat → Int32} {W : List Int32} {c : Int32} {m : Nat} (h : a_lay (F 62) W) (hm : m = W.length) : a_lay (z_u F 62 m c 62) (c :: W) := by
  subst hm
  refine ⟨?_, a_lay_e W (fun j hj => ?_) h⟩
  · show (if 62 = 62 ∧ W.length = W.length then c else _) = c
    rw [if_pos ⟨rfl, rfl⟩]
  · show (if 62 = 62 ∧ j = W.length then c else F 62 j) = F 62 j
    rw [if_neg (fun q => by omega)]
theorem lp_X6_takesE {Γ : z_W} {h : z_H} {tx : Nat → Int32} {n c s s1 : Nat} {F0 : Nat → Nat → Int32} (hF : z_F h) (hc : c < 60) (hs5 : s ≤ 500) : ∀ (g : Nat) (a : Nat) (W S : List Int32) (F : Nat → Nat → Int32) (o : Option Value), z_pt tx n F → a ≤ n → F 49 14 = nI a → z_pw s F W S → S.length + W.length ≤ a → a_vd W → s1 ≤ s + S.length → z_fm (z_Re c s1) F0 F → n - a < g → z_G Γ M_X6_takesE (z_rm 5 0 0) (z_qe h c s s1 F0 (a_run tx n g true a W S)) 0 0 22 [some (.ref 49), some (.int (nI c)), some (.int 1), o] [] (z_ci h F) ∧ z_G Γ M_X6_takesE (z_rm 5 0 0) (z_qe h c s s1 F0 (a_run tx n g false a W S)) 0 0 22 [some (.ref 49), some (.int (nI c)), some (.int 0), o] [] (z_ci h F) := by
  intro g
  induction g with
  | zero => intro a W S F o h1 h2 h3 h4 h5 h6 h7 h8 h9; exact absurd h9 (by omega)
  | succ g ih =>
    intro a W S F o ht hn ha hw hl hv hs1 hfm hg
    have hn1 := ht.2.1
    have hop := a_op_le W
    have hB : ∀ {F' : Nat → Nat → Int32}, z_fm (z_Re c s1) F0 F' → z_fm (z_Re c s1) F0 F' := fun q => q
    refine ⟨?_, ?_⟩
    · refine z_aload_n dX6_takesE_22 rfl rfl ?_
      refine z_vcall vl_X6_238_6 (c_X6_peek hF ht hn ha) dX6_takesE_23 rfl rfl (hF.1 49 _ rfl) ⟨by decide, by decide⟩ (Nat.le_of_ble_eq_true rfl) (Nat.le_refl _) (Nat.le_refl _) (z_cI ?_) z_tI
      refine z_istore_n dX6_takesE_26 rfl (by decide) rfl ?_
      refine z_iload_n dX6_takesE_27 rfl rfl ?_
      refine z_if_eq 110 dX6_takesE_28 (by decide) (fun q => absurd q (by decide)) (fun _ => ?_)
      refine z_iload_n dX6_takesE_31 rfl rfl ?_
      refine z_bipush (v := 33) dX6_takesE_32 rfl ?_
      refine z_icmp_eq 43 dX6_takesE_34 (by decide) (fun c34 => ?_) (fun c34 => ?_)
      · refine z_aload_n dX6_takesE_43 rfl rfl ?_
        refine z_getI dX6_takesE_44 fl_X6_89_6 (hF.1 49 _ rfl) rfl ?_
        refine z_eqi (nI (a_op W)) hw.2.2.1 ?_
        refine z_iconst (v := 4) dX6_takesE_47 rfl ?_
        refine z_icmp_ne 53 dX6_takesE_48 (by decide) (fun c48 => ?_) (fun c48 => ?_)
        · refine z_aload_n dX6_takesE_53 rfl rfl ?_
          refine z_dup dX6_takesE_54 rfl ?_
          refine z_getI dX6_takesE_55 fl_X6_89_6 (hF.1 49 _ rfl) rfl ?_
          refine z_eqi (nI (a_op W)) hw.2.2.1 ?_
          refine z_iconst (v := 1) dX6_takesE_58 rfl ?_
          refine z_iadd dX6_takesE_59 ?_
          refine z_eqi (nI (a_op W + 1)) (nI_succ _).symm ?_
          refine z_putI dX6_takesE_60 (pl_X6_89_6 rfl) (hF.1 49 _ rfl) (by decide) rfl ?_
          refine z_meq (z_ci h (z_u F 49 26 (nI (a_op W + 1)))) rfl ?_
          refine z_aload_n dX6_takesE_63 rfl rfl ?_
          refine z_getR 62 dX6_takesE_64 fl_X6_80_6 (hF.1 49 _ rfl) rfl (hF.2.1 49 23 62 rfl) ?_
          refine z_aload_n dX6_takesE_67 rfl rfl ?_
          refine z_getI dX6_takesE_68 fl_X6_86_6 (hF.1 49 _ rfl) rfl ?_
          refine z_eqi (nI W.length) hw.2.1 ?_
          refine z_iload_n dX6_takesE_71 rfl rfl ?_
          refine z_iast W.length dX6_takesE_72 (hF.1 62 _ rfl) (by decide) rfl (by omega) (by decide) ?_
          refine z_meq (z_ci h (z_u (z_u F 49 26 (nI (a_op W + 1))) 62 W.length (a_cr tx n a))) rfl ?_
          refine z_aload_n dX6_takesE_73 rfl rfl ?_
          refine z_dup dX6_takesE_74 rfl ?_
          refine z_getI dX6_takesE_75 fl_X6_86_6 (hF.1 49 _ rfl) rfl ?_
          refine z_eqi (nI W.length) hw.2.1 ?_
          refine z_iconst (v := 1) dX6_takesE_78 rfl ?_
          refine z_iadd dX6_takesE_79 ?_
          refine z_eqi (nI (W.length + 1)) (nI_succ _).symm ?_
          refine z_putI dX6_takesE_80 (pl_X6_86_6 rfl) (hF.1 49 _ rfl) (by decide) rfl ?_
          refine z_meq (z_ci h (z_u (z_u (z_u F 49 26 (nI (a_op W + 1))) 62 W.length (a_cr tx n a)) 49 25 (nI (W.length + 1)))) rfl ?_
          refine z_aload_n dX6_takesE_83 rfl rfl ?_
          refine z_dup dX6_takesE_84 rfl ?_
          refine z_getI dX6_takesE_85 fl_X6_53_6 (hF.1 49 _ rfl) rfl ?_
          refine z_eqi (nI a) ha ?_
          refine z_iconst (v := 1) dX6_takesE_88 rfl ?_
          refine z_iadd dX6_takesE_89 ?_
          refine z_eqi (nI (a + 1)) (nI_succ _).symm ?_
          refine z_putI dX6_takesE_90 (pl_X6_53_6 rfl) (hF.1 49 _ rfl) (by decide) rfl ?_
          refine z_meq (z_ci h (z_u (z_u (z_u (z_u F 49 26 (nI (a_op W + 1))) 62 W.length (a_cr tx n a)) 49 25 (nI (W.length + 1))) 49 14 (nI (a + 1)))) rfl ?_
          refine z_goto 22 dX6_takesE_93 (by decide) ?_
          have hno : ¬ a_op W = 4 := fun e => c48 (by rw [e]; rfl)
          have han : a < n := a_cr_in c34 (by decide)
          rw [a_run_o c34 (Or.inl rfl) hno]
          exact (ih (a + 1) (33 :: W) S (z_u (z_u (z_u (z_u F 49 26 (nI (a_op W + 1))) 62 W.length (a_cr tx n a)) 49 25 (nI (W.length + 1))) 49 14 (nI (a + 1))) _ ht (by omega) rfl ⟨hw.1, rfl, by rw [a_op_33]; rfl, by rw [c34]; exact a_lay_u (F := z_u F 49 26 (nI (a_op W + 1))) hw.2.2.2.1 rfl, hw.2.2.2.2⟩ (by rw [List.length_cons]; omega) (a_vd_c hv (Or.inl rfl)) hs1 ((((hfm.u (Or.inr (Or.inl (Or.inl ⟨rfl, by decide⟩)))).u (Or.inr (Or.inl (Or.inr (Or.inl rfl))))).u (Or.inr (Or.inl (Or.inl ⟨rfl, by decide⟩)))).u (Or.inl ⟨rfl, by decide⟩)) (by omega)).1
        · have h4 : a_op W = 4 := (nI_eq (by omega) (by decide)).mp c48
          rw [a_run_4 c34 (Or.inl rfl) h4]
          refine z_iconst (v := 0) dX6_takesE_51 rfl ?_
          refine z_iret dX6_takesE_52 rfl rfl (Nat.le_refl _) (Nat.le_refl _) ⟨_, rfl, rfl, ?_⟩
          exact ⟨ha, hfm⟩
      · refine z_iload_n dX6_takesE_37 rfl rfl ?_
        refine z_bipush (v := 40) dX6_takesE_38 rfl ?_
        refine z_icmp_ne 96 dX6_takesE_40 (by decide) (fun c40 => ?_) (fun c40 => ?_)
        · refine z_aload_n dX6_takesE_96 rfl rfl ?_
          cases hts : a_ts tx n a with
          | inl p =>
            refine z_vcall vl_X6_263_6 (c_X6_takesTest_n hF ht hn ha hts) dX6_takesE_97 rfl rfl (hF.1 49 _ rfl) ⟨by decide, by decide⟩ (Nat.le_of_ble_eq_true rfl) (Nat.le_refl _) (Nat.le_refl _) (z_cJ (fun F97 q97 => ?_)) z_tJ
            rw [a_run_t c34 c40, hts]
            refine z_if_eq 108 dX6_takesE_100 (by decide) (fun _ => ?_) (fun q => absurd q (by decide))
            refine z_iconst (v := 0) dX6_takesE_108 rfl ?_
            refine z_iret dX6_takesE_109 rfl rfl (Nat.le_refl _) (Nat.le_refl _) ⟨_, rfl, rfl, ?_⟩
            exact ⟨q97.1, hfm.tr q97.2 (fun a j q => Or.inl q)⟩
          | inr r =>
            refine z_vcall vl_X6_263_6 (c_X6_takesTest_y hF ht hn ha hw (by have := a_ts_b hts; omega) (by omega) hts) dX6_takesE_97 rfl rfl (hF.1 49 _ rfl) ⟨by decide, by decide⟩ (Nat.le_of_ble_eq_true rfl) (Nat.le_refl _) (Nat.le_refl _) (z_cJ (fun F97 q97 => ?_)) z_tJ
            have hb := a_ts_b hts
            obtain ⟨-, -, v, -, hL⟩ := a_ts_y hts
            have hL : r.2.length = 1 := by rw [hL]; rfl
            refine z_if_eq 108 dX6_takesE_100 (by decide) (fun q => absurd q (by decide)) (fun _ => ?_)
            refine z_iconst (v := 0) dX6_takesE_103 rfl ?_
            refine z_istore_n dX6_takesE_104 rfl (by decide) rfl ?_
            refine z_goto 22 dX6_takesE_105 (by decide) ?_
            rw [a_run_t c34 c40, hts]
            exact (ih r.1 (a_wo W (S ++ r.2)).1 (a_wo W (S ++ r.2)).2 F97 _ (ht.fm q97.2.2 (by unfold z_Rw; omega) (fun j => by unfold z_Rw; omega)) hb.2 q97.1 q97.2.1 (by have := a_wo_len W (S ++ r.2); rw [List.length_append, hL] at this; omega) (a_wo_v _ _ hv) (by have := a_wo_2 W (S ++ r.2); rw [List.length_append] at this; omega) (hfm.tr q97.2.2 (fun a j q => by unfold z_Rw at *; omega)) (by omega)).2
        · refine z_aload_n dX6_takesE_43 rfl rfl ?_
          refine z_getI dX6_takesE_44 fl_X6_89_6 (hF.1 49 _ rfl) rfl ?_
          refine z_eqi (nI (a_op W)) hw.2.2.1 ?_
          refine z_iconst (v := 4) dX6_takesE_47 rfl ?_
          refine z_icmp_ne 53 dX6_takesE_48 (by decide) (fun c48 => ?_) (fun c48 => ?_)
          · refine z_aload_n dX6_takesE_53 rfl rfl ?_
            refine z_dup dX6_takesE_54 rfl ?_
            refine z_getI dX6_takesE_55 fl_X6_89_6 (hF.1 49 _ rfl) rfl ?_
            refine z_eqi (nI (a_op W)) hw.2.2.1 ?_
            refine z_iconst (v := 1) dX6_takesE_58 rfl ?_
            refine z_iadd dX6_takesE_59 ?_
            refine z_eqi (nI (a_op W + 1)) (nI_succ _).symm ?_
            refine z_putI dX6_takesE_60 (pl_X6_89_6 rfl) (hF.1 49 _ rfl) (by decide) rfl ?_
            refine z_meq (z_ci h (z_u F 49 26 (nI (a_op W + 1)))) rfl ?_
            refine z_aload_n dX6_takesE_63 rfl rfl ?_
            refine z_getR 62 dX6_takesE_64 fl_X6_80_6 (hF.1 49 _ rfl) rfl (hF.2.1 49 23 62 rfl) ?_
            refine z_aload_n dX6_takesE_67 rfl rfl ?_
            refine z_getI dX6_takesE_68 fl_X6_86_6 (hF.1 49 _ rfl) rfl ?_
            refine z_eqi (nI W.length) hw.2.1 ?_
            refine z_iload_n dX6_takesE_71 rfl rfl ?_
            refine z_iast W.length dX6_takesE_72 (hF.1 62 _ rfl) (by decide) rfl (by omega) (by decide) ?_
            refine z_meq (z_ci h (z_u (z_u F 49 26 (nI (a_op W + 1))) 62 W.length (a_cr tx n a))) rfl ?_
            refine z_aload_n dX6_takesE_73 rfl rfl ?_
            refine z_dup dX6_takesE_74 rfl ?_
            refine z_getI dX6_takesE_75 fl_X6_86_6 (hF.1 49 _ rfl) rfl ?_
            refine z_eqi (nI W.length) hw.2.1 ?_
            refine z_iconst (v := 1) dX6_takesE_78 rfl ?_
            refine z_iadd dX6_takesE_79 ?_
            refine z_eqi (nI (W.length + 1)) (nI_succ _).symm ?_
            refine z_putI dX6_takesE_80 (pl_X6_86_6 rfl) (hF.1 49 _ rfl) (by decide) rfl ?_
            refine z_meq (z_ci h (z_u (z_u (z_u F 49 26 (nI (a_op W + 1))) 62 W.length (a_cr tx n a)) 49 25 (nI (W.length + 1)))) rfl ?_
            refine z_aload_n dX6_takesE_83 rfl rfl ?_
            refine z_dup dX6_takesE_84 rfl ?_
            refine z_getI dX6_takesE_85 fl_X6_53_6 (hF.1 49 _ rfl) rfl ?_
            refine z_eqi (nI a) ha ?_
            refine z_iconst (v := 1) dX6_takesE_88 rfl ?_
            refine z_iadd dX6_takesE_89 ?_
            refine z_eqi (nI (a + 1)) (nI_succ _).symm ?_
            refine z_putI dX6_takesE_90 (pl_X6_53_6 rfl) (hF.1 49 _ rfl) (by decide) rfl ?_
            refine z_meq (z_ci h (z_u (z_u (z_u (z_u F 49 26 (nI (a_op W + 1))) 62 W.length (a_cr tx n a)) 49 25 (nI (W.length + 1))) 49 14 (nI (a + 1)))) rfl ?_
            refine z_goto 22 dX6_takesE_93 (by decide) ?_
            have hno : ¬ a_op W = 4 := fun e => c48 (by rw [e]; rfl)
            have han : a < n := a_cr_in c40 (by decide)
            rw [a_run_o c40 (Or.inr rfl) hno]
            exact (ih (a + 1) (40 :: W) S (z_u (z_u (z_u (z_u F 49 26 (nI (a_op W + 1))) 62 W.length (a_cr tx n a)) 49 25 (nI (W.length + 1))) 49 14 (nI (a + 1))) _ ht (by omega) rfl ⟨hw.1, rfl, by rw [a_op_40]; rfl, by rw [c40]; exact a_lay_u (F := z_u F 49 26 (nI (a_op W + 1))) hw.2.2.2.1 rfl, hw.2.2.2.2⟩ (by rw [List.length_cons]; omega) (a_vd_c hv (Or.inr (Or.inl rfl))) hs1 ((((hfm.u (Or.inr (Or.inl (Or.inl ⟨rfl, by decide⟩)))).u (Or.inr (Or.inl (Or.inr (Or.inl rfl))))).u (Or.inr (Or.inl (Or.inl ⟨rfl, by decide⟩)))).u (Or.inl ⟨rfl, by decide⟩)) (by omega)).1
          · have h4 : a_op W = 4 := (nI_eq (by omega) (by decide)).mp c48
            rw [a_run_4 c40 (Or.inr rfl) h4]
            refine z_iconst (v := 0) dX6_takesE_51 rfl ?_
            refine z_iret dX6_takesE_52 rfl rfl (Nat.le_refl _) (Nat.le_refl _) ⟨_, rfl, rfl, ?_⟩
            exact ⟨ha, hfm⟩
    · refine z_aload_n dX6_takesE_22 rfl rfl ?_
      refine z_vcall vl_X6_238_6 (c_X6_peek hF ht hn ha) dX6_takesE_23 rfl rfl (hF.1 49 _ rfl) ⟨by decide, by decide⟩ (Nat.le_of_ble_eq_true rfl) (Nat.le_refl _) (Nat.le_refl _) (z_cI ?_) z_tI
      refine z_istore_n dX6_takesE_26 rfl (by decide) rfl ?_
      refine z_iload_n dX6_takesE_27 rfl rfl ?_
      refine z_if_eq 110 dX6_takesE_28 (by decide) (fun _ => ?_) (fun q => absurd q (by decide))
      refine z_iload_n dX6_takesE_110 rfl rfl ?_
      refine z_bipush (v := 38) dX6_takesE_111 rfl ?_
      refine z_icmp_eq 122 dX6_takesE_113 (by decide) (fun c113 => ?_) (fun c113 => ?_)
      · refine z_aload_n dX6_takesE_122 rfl rfl ?_
        refine z_iload_n dX6_takesE_123 rfl rfl ?_
        refine z_vcall vl_X6_266_6 (c_X6_settle (b := (a_cr tx n a)) hF hw (by omega) (by omega)) dX6_takesE_124 rfl rfl (hF.1 49 _ rfl) ⟨by decide, by decide⟩ (Nat.le_of_ble_eq_true rfl) (Nat.le_refl _) (Nat.le_refl _) (z_cJV (fun F124 q124 => ?_)) z_tJV
        have hlen := a_sl_len (b := (a_cr tx n a)) W S
        refine z_aload_n dX6_takesE_127 rfl rfl ?_
        refine z_getR 62 dX6_takesE_128 fl_X6_80_6 (hF.1 49 _ rfl) rfl (hF.2.1 49 23 62 rfl) ?_
        refine z_aload_n dX6_takesE_131 rfl rfl ?_
        refine z_getI dX6_takesE_132 fl_X6_86_6 (hF.1 49 _ rfl) rfl ?_
        refine z_eqi (nI (a_sl (a_cr tx n a) W S).1.length) q124.1.2.1 ?_
        refine z_iload_n dX6_takesE_135 rfl rfl ?_
        refine z_iast ((a_sl (a_cr tx n a) W S).1.length) dX6_takesE_136 (hF.1 62 _ rfl) (by decide) rfl (by omega) (by decide) ?_
        refine z_meq (z_ci h (z_u F124 62 ((a_sl (a_cr tx n a) W S).1.length) (a_cr tx n a))) rfl ?_
        refine z_aload_n dX6_takesE_137 rfl rfl ?_
        refine z_dup dX6_takesE_138 rfl ?_
        refine z_getI dX6_takesE_139 fl_X6_86_6 (hF.1 49 _ rfl) rfl ?_
        refine z_eqi (nI (a_sl (a_cr tx n a) W S).1.length) q124.1.2.1 ?_
        refine z_iconst (v := 1) dX6_takesE_142 rfl ?_
        refine z_iadd dX6_takesE_143 ?_
        refine z_eqi (nI ((a_sl (a_cr tx n a) W S).1.length + 1)) (nI_succ _).symm ?_
        refine z_putI dX6_takesE_144 (pl_X6_86_6 rfl) (hF.1 49 _ rfl) (by decide) rfl ?_
        refine z_meq (z_ci h (z_u (z_u F124 62 ((a_sl (a_cr tx n a) W S).1.length) (a_cr tx n a)) 49 25 (nI ((a_sl (a_cr tx n a) W S).1.length + 1)))) rfl ?_
        refine z_iconst (v := 1) dX6_takesE_147 rfl ?_
        refine z_istore_n dX6_takesE_148 rfl (by decide) rfl ?_
        refine z_aload_n dX6_takesE_149 rfl rfl ?_
        refine z_dup dX6_takesE_150 rfl ?_
        refine z_getI dX6_takesE_151 fl_X6_53_6 (hF.1 49 _ rfl) rfl ?_
        refine z_eqi (nI a) ((q124.2 49 14 (by unfold z_Rw; omega)).trans ha) ?_
        refine z_iconst (v := 1) dX6_takesE_154 rfl ?_
        refine z_iadd dX6_takesE_155 ?_
        refine z_eqi (nI (a + 1)) (nI_succ _).symm ?_
        refine z_putI dX6_takesE_156 (pl_X6_53_6 rfl) (hF.1 49 _ rfl) (by decide) rfl ?_
        refine z_meq (z_ci h (z_u (z_u (z_u F124 62 ((a_sl (a_cr tx n a) W S).1.length) (a_cr tx n a)) 49 25 (nI ((a_sl (a_cr tx n a) W S).1.length + 1))) 49 14 (nI (a + 1)))) rfl ?_
        refine z_goto 22 dX6_takesE_159 (by decide) ?_
        have han : a < n := a_cr_in c113 (by decide)
        rw [a_run_b c113 (Or.inl rfl)]
        rw [c113] at q124 ⊢
        have q1 := q124.1
        have q2 := q124.2
        have hpt : z_pt tx n F124 := ht.fm q2 (by unfold z_Rw; omega) (fun j => by unfold z_Rw; omega)
        exact (ih (a + 1) (38 :: (a_sl 38 W S).1) (a_sl 38 W S).2 (z_u (z_u (z_u F124 62 ((a_sl 38 W S).1.length) 38) 49 25 (nI ((a_sl 38 W S).1.length + 1))) 49 14 (nI (a + 1))) _ hpt (by omega) rfl ⟨q1.1, rfl, by rw [a_op_38]; exact q1.2.2.1, a_lay_u (F := F124) q1.2.2.2.1 rfl, q1.2.2.2.2⟩ (by have := a_sl_len (b := 38) W S; rw [List.length_cons]; omega) (a_vd_c (a_sl_v _ _ hv) (Or.inr (Or.inr (Or.inl rfl)))) (by have := a_sl_2 (b := 38) W S; omega) ((((hfm.tr q2 (fun a j q => by unfold z_Rw at *; omega)).u (Or.inr (Or.inl (Or.inr (Or.inl rfl))))).u (Or.inr (Or.inl (Or.inl ⟨rfl, by decide⟩)))).u (Or.inl ⟨rfl, by decide⟩)) (by omega)).1
      · refine z_iload_n dX6_takesE_116 rfl rfl ?_
        refine z_bipush (v := 124) dX6_takesE_117 rfl ?_
        refine z_icmp_ne 162 dX6_takesE_119 (by decide) (fun c119 => ?_) (fun c119 => ?_)
        · refine z_aload_n dX6_takesE_162 rfl rfl ?_
          refine z_bipush (v := 124) dX6_takesE_163 rfl ?_
          refine z_vcall vl_X6_266_6 (c_X6_settle (b := 124) hF hw (by omega) (by omega)) dX6_takesE_165 rfl rfl (hF.1 49 _ rfl) ⟨by decide, by decide⟩ (Nat.le_of_ble_eq_true rfl) (Nat.le_refl _) (Nat.le_refl _) (z_cJV (fun F165 q165 => ?_)) z_tJV
          have hw5 := q165.1
          have hlen := a_sl_len (b := 124) W S
          have hlen2 := a_sl_2 (b := 124) W S
          have hvs := a_sl_v (b := 124) W S hv
          have htop := a_sl_t W S
          generalize hsl : a_sl 124 W S = z at hw5 hlen hlen2 hvs htop
          obtain ⟨R, T⟩ := z
          simp only at hw5 hlen hlen2 hvs htop
          refine z_aload_n dX6_takesE_168 rfl rfl ?_
          refine z_getR 60 dX6_takesE_169 fl_X6_74_6 (hF.1 49 _ rfl) rfl (hF.2.1 49 21 60 rfl) ?_
          refine z_iload_n dX6_takesE_172 rfl rfl ?_
          refine z_aload_n dX6_takesE_173 rfl rfl ?_
          refine z_getI dX6_takesE_174 fl_X6_83_6 (hF.1 49 _ rfl) rfl ?_
          refine z_eqi (nI (s + T.length)) hw5.1 ?_
          refine z_iast c dX6_takesE_177 (hF.1 60 _ rfl) (by decide) rfl (by omega) (by decide) ?_
          refine z_meq (z_ci h (z_u F165 60 c (nI (s + T.length)))) rfl ?_
          refine z_aload_n dX6_takesE_178 rfl rfl ?_
          refine z_getI dX6_takesE_179 fl_X6_86_6 (hF.1 49 _ rfl) rfl ?_
          refine z_eqi (nI R.length) hw5.2.1 ?_
          refine z_if_ne 187 dX6_takesE_182 (by decide) (fun c182 => ?_) (fun c182 => ?_)
          · refine z_iload_n dX6_takesE_187 rfl rfl ?_
            refine z_bipush (v := 41) dX6_takesE_188 rfl ?_
            refine z_icmp_eq 195 dX6_takesE_190 (by decide) (fun c190 => ?_) (fun c190 => ?_)
            · obtain ⟨d, V, hR⟩ : ∃ d V, R = d :: V := by
                      cases R with
                      | nil => exact absurd rfl c182
                      | cons d V => exact ⟨d, V, rfl⟩
              subst hR
              have hd : d = 33 ∨ d = 40 := by
                      have h1 := hvs d List.mem_cons_self
                      have h2 := htop d V rfl
                      rcases h1 with q | q | q | q
                      · exact Or.inl q
                      · exact Or.inr q
                      · exact absurd q h2.1
                      · exact absurd q h2.2
              rw [List.length_cons] at hlen
              refine z_aload_n dX6_takesE_195 rfl rfl ?_
              refine z_dup dX6_takesE_196 rfl ?_
              refine z_getI dX6_takesE_197 fl_X6_86_6 (hF.1 49 _ rfl) rfl ?_
              refine z_eqi (nI (V.length + 1)) hw5.2.1 ?_
              refine z_iconst (v := 1) dX6_takesE_200 rfl ?_
              refine z_isub dX6_takesE_201 ?_
              refine z_eqi (nI V.length) (pk_m1' _) ?_
              refine z_putI dX6_takesE_202 (pl_X6_86_6 rfl) (hF.1 49 _ rfl) (by decide) rfl ?_
              refine z_meq (z_ci h (z_u (z_u F165 60 c (nI (s + T.length))) 49 25 (nI V.length))) rfl ?_
              refine z_aload_n dX6_takesE_205 rfl rfl ?_
              refine z_dup dX6_takesE_206 rfl ?_
              refine z_getI dX6_takesE_207 fl_X6_89_6 (hF.1 49 _ rfl) rfl ?_
              refine z_eqi (nI (a_op (d :: V))) hw5.2.2.1 ?_
              refine z_iconst (v := 1) dX6_takesE_210 rfl ?_
              refine z_isub dX6_takesE_211 ?_
              refine z_eqi (nI (a_op V)) (a_op_c hd) ?_
              refine z_putI dX6_takesE_212 (pl_X6_89_6 rfl) (hF.1 49 _ rfl) (by decide) rfl ?_
              refine z_meq (z_ci h (z_u (z_u (z_u F165 60 c (nI (s + T.length))) 49 25 (nI V.length)) 49 26 (nI (a_op V)))) rfl ?_
              refine z_aload_n dX6_takesE_215 rfl rfl ?_
              refine z_dup dX6_takesE_216 rfl ?_
              refine z_getI dX6_takesE_217 fl_X6_53_6 (hF.1 49 _ rfl) rfl ?_
              refine z_eqi (nI a) ((q165.2 49 14 (by unfold z_Rw; omega)).trans ha) ?_
              refine z_iconst (v := 1) dX6_takesE_220 rfl ?_
              refine z_iadd dX6_takesE_221 ?_
              refine z_eqi (nI (a + 1)) (nI_succ _).symm ?_
              refine z_putI dX6_takesE_222 (pl_X6_53_6 rfl) (hF.1 49 _ rfl) (by decide) rfl ?_
              refine z_meq (z_ci h (z_u (z_u (z_u (z_u F165 60 c (nI (s + T.length))) 49 25 (nI V.length)) 49 26 (nI (a_op V))) 49 14 (nI (a + 1)))) rfl ?_
              refine z_aload_n dX6_takesE_225 rfl rfl ?_
              refine z_vcall vl_X6_260_6 (c_X6_whole (s := s) (W := V) (S := T) hF ⟨hw5.1, rfl, rfl, hw5.2.2.2.1.2, hw5.2.2.2.2⟩ (by omega) (by omega)) dX6_takesE_226 rfl rfl (hF.1 49 _ rfl) ⟨by decide, by decide⟩ (Nat.le_of_ble_eq_true rfl) (Nat.le_refl _) (Nat.le_refl _) (z_cJV (fun F226 q226 => ?_)) z_tJV
              refine z_goto 22 dX6_takesE_229 (by decide) ?_
              rw [a_run_g c113 c119 hsl, if_pos c190]
              have hpt : z_pt tx n F165 := ht.fm q165.2 (by unfold z_Rw; omega) (fun j => by unfold z_Rw; omega)
              have hpt2 : z_pt tx n F226 := z_pt.fm (F := (z_u (z_u (z_u (z_u F165 60 c (nI (s + T.length))) 49 25 (nI V.length)) 49 26 (nI (a_op V))) 49 14 (nI (a + 1)))) hpt q226.2 (by unfold z_Rw; omega) (fun j => by unfold z_Rw; omega)
              exact (ih (a + 1) (a_wo V T).1 (a_wo V T).2 F226 _ hpt2 (by have := a_cr_in c190 (by decide); omega) (q226.2 49 14 (by unfold z_Rw; omega)) q226.1 (by have := a_wo_len V T; omega) (a_wo_v _ _ (a_vd_t hvs)) (by have := a_wo_2 V T; omega) ((((((hfm.tr q165.2 (fun a j q => by unfold z_Rw at *; omega)).u (Or.inr (Or.inr ⟨rfl, rfl⟩))).u (Or.inr (Or.inl (Or.inl ⟨rfl, by decide⟩)))).u (Or.inr (Or.inl (Or.inl ⟨rfl, by decide⟩)))).u (Or.inl ⟨rfl, by decide⟩)).tr q226.2 (fun a j q => by unfold z_Rw at *; omega)) (by have := a_cr_in c190 (by decide); omega)).2
            · refine z_iconst (v := 0) dX6_takesE_193 rfl ?_
              refine z_iret dX6_takesE_194 rfl rfl (Nat.le_refl _) (Nat.le_refl _) ?_
              obtain ⟨d, V, hR⟩ : ∃ d V, R = d :: V := by
                cases R with
                | nil => exact absurd rfl c182
                | cons d V => exact ⟨d, V, rfl⟩
              rw [hR] at hsl
              rw [a_run_g c113 c119 hsl, if_neg c190]
              exact ⟨_, rfl, rfl, (q165.2 49 14 (by unfold z_Rw; omega)).trans ha, (hfm.tr q165.2 (fun a j q => by unfold z_Rw at *; omega)).u (Or.inr (Or.inr ⟨rfl, rfl⟩))⟩
          · refine z_iconst (v := 1) dX6_takesE_185 rfl ?_
            refine z_iret dX6_takesE_186 rfl rfl (Nat.le_refl _) (Nat.le_refl _) ?_
            have hR : R = [] := List.eq_nil_of_length_eq_zero ((nI_eq (b := 0) (by omega) (by decide)).mp c182)
            rw [hR] at hsl
            rw [a_run_e c113 c119 hsl]
            exact ⟨_, rfl, rfl, (q165.2 49 14 (by unfold z_Rw; omega)).trans ha, hw5.1, hw5.2.2.2.2, by show (if 60 = 60 ∧ c = c then _ else _) = _; rw [if_pos ⟨rfl, rfl⟩], (hfm.tr q165.2 (fun a j q => by unfold z_Rw at *; omega)).u (Or.inr (Or.inr ⟨rfl, rfl⟩))⟩
        · refine z_aload_n dX6_takesE_122 rfl rfl ?_
          refine z_iload_n dX6_takesE_123 rfl rfl ?_
          refine z_vcall vl_X6_266_6 (c_X6_settle (b := (a_cr tx n a)) hF hw (by omega) (by omega)) dX6_takesE_124 rfl rfl (hF.1 49 _ rfl) ⟨by decide, by decide⟩ (Nat.le_of_ble_eq_true rfl) (Nat.le_refl _) (Nat.le_refl _) (z_cJV (fun F124 q124 => ?_)) z_tJV
          have hlen := a_sl_len (b := (a_cr tx n a)) W S
          refine z_aload_n dX6_takesE_127 rfl rfl ?_
          refine z_getR 62 dX6_takesE_128 fl_X6_80_6 (hF.1 49 _ rfl) rfl (hF.2.1 49 23 62 rfl) ?_
          refine z_aload_n dX6_takesE_131 rfl rfl ?_
          refine z_getI dX6_takesE_132 fl_X6_86_6 (hF.1 49 _ rfl) rfl ?_
          refine z_eqi (nI (a_sl (a_cr tx n a) W S).1.length) q124.1.2.1 ?_
          refine z_iload_n dX6_takesE_135 rfl rfl ?_
          refine z_iast ((a_sl (a_cr tx n a) W S).1.length) dX6_takesE_136 (hF.1 62 _ rfl) (by decide) rfl (by omega) (by decide) ?_
          refine z_meq (z_ci h (z_u F124 62 ((a_sl (a_cr tx n a) W S).1.length) (a_cr tx n a))) rfl ?_
          refine z_aload_n dX6_takesE_137 rfl rfl ?_
          refine z_dup dX6_takesE_138 rfl ?_
          refine z_getI dX6_takesE_139 fl_X6_86_6 (hF.1 49 _ rfl) rfl ?_
          refine z_eqi (nI (a_sl (a_cr tx n a) W S).1.length) q124.1.2.1 ?_
          refine z_iconst (v := 1) dX6_takesE_142 rfl ?_
          refine z_iadd dX6_takesE_143 ?_
          refine z_eqi (nI ((a_sl (a_cr tx n a) W S).1.length + 1)) (nI_succ _).symm ?_
          refine z_putI dX6_takesE_144 (pl_X6_86_6 rfl) (hF.1 49 _ rfl) (by decide) rfl ?_
          refine z_meq (z_ci h (z_u (z_u F124 62 ((a_sl (a_cr tx n a) W S).1.length) (a_cr tx n a)) 49 25 (nI ((a_sl (a_cr tx n a) W S).1.length + 1)))) rfl ?_
          refine z_iconst (v := 1) dX6_takesE_147 rfl ?_
          refine z_istore_n dX6_takesE_148 rfl (by decide) rfl ?_
          refine z_aload_n dX6_takesE_149 rfl rfl ?_
          refine z_dup dX6_takesE_150 rfl ?_
          refine z_getI dX6_takesE_151 fl_X6_53_6 (hF.1 49 _ rfl) rfl ?_
          refine z_eqi (nI a) ((q124.2 49 14 (by unfold z_Rw; omega)).trans ha) ?_
          refine z_iconst (v := 1) dX6_takesE_154 rfl ?_
          refine z_iadd dX6_takesE_155 ?_
          refine z_eqi (nI (a + 1)) (nI_succ _).symm ?_
          refine z_putI dX6_takesE_156 (pl_X6_53_6 rfl) (hF.1 49 _ rfl) (by decide) rfl ?_
          refine z_meq (z_ci h (z_u (z_u (z_u F124 62 ((a_sl (a_cr tx n a) W S).1.length) (a_cr tx n a)) 49 25 (nI ((a_sl (a_cr tx n a) W S).1.length + 1))) 49 14 (nI (a + 1)))) rfl ?_
          refine z_goto 22 dX6_takesE_159 (by decide) ?_
          have han : a < n := a_cr_in c119 (by decide)
          rw [a_run_b c119 (Or.inr rfl)]
          rw [c119] at q124 ⊢
          have q1 := q124.1
          have q2 := q124.2
          have hpt : z_pt tx n F124 := ht.fm q2 (by unfold z_Rw; omega) (fun j => by unfold z_Rw; omega)
          exact (ih (a + 1) (124 :: (a_sl 124 W S).1) (a_sl 124 W S).2 (z_u (z_u (z_u F124 62 ((a_sl 124 W S).1.length) 124) 49 25 (nI ((a_sl 124 W S).1.length + 1))) 49 14 (nI (a + 1))) _ hpt (by omega) rfl ⟨q1.1, rfl, by rw [a_op_124]; exact q1.2.2.1, a_lay_u (F := F124) q1.2.2.2.1 rfl, q1.2.2.2.2⟩ (by have := a_sl_len (b := 124) W S; rw [List.length_cons]; omega) (a_vd_c (a_sl_v _ _ hv) (Or.inr (Or.inr (Or.inr rfl)))) (by have := a_sl_2 (b := 124) W S; omega) ((((hfm.tr q2 (fun a j q => by unfold z_Rw at *; omega)).u (Or.inr (Or.inl (Or.inr (Or.inl rfl))))).u (Or.inr (Or.inl (Or.inl ⟨rfl, by decide⟩)))).u (Or.inl ⟨rfl, by decide⟩)) (by omega)).1
