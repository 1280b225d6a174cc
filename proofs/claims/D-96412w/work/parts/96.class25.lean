/-! THE CLASS: tapes; firstOther, judge (printed by class25.py) -/
set_option maxRecDepth 20000
/-- the five sorts of rows -/
def z_so : Nat → FieldType
  | 0 => .byte | 1 => .short | 2 => .int | 3 => .long | _ => .boolean
/-- an item as a long -/
def z_it (h : z_H) (s b i : Nat) : Int64 := if s = 3 then z_L h b i else (z_I h b i).toInt64
/-- the row of a tape: sort, length, id; or none -/
def z_Tr1 (h : z_H) (t : Nat) (s n b : Nat) : Prop := s ≤ 4 ∧ n ≤ 60 ∧ z_I h 81 t = nI s ∧ z_I h 82 t = nI n ∧ z_R h (43 + t) 0 = some b ∧ 85 ≤ b ∧ z_T h b = some (.inr (z_so s, n)) ∧ ((s = 4 → ∀ i, i < n → z_I h b i = 0 ∨ z_I h b i = 1) ∧ (s ≠ 3 → ∀ i, i < n → fits (z_so s) (.int (z_I h b i)) = true)) ∧ ∀ i, i < n → z_L h 83 (60 * t + i) = z_it h s b i
def z_Tp1 (h : z_H) (t : Nat) : Prop := (z_I h 81 t = -1 ∧ z_I h 82 t = 0 ∧ z_R h (43 + t) 0 = none) ∨ ∃ s n b, z_Tr1 h t s n b
/-- the class's tapes agree with the reference's; no two have the same row -/
def z_TP (h : z_H) : Prop := (∀ t, t < 6 → z_Tp1 h t) ∧ ∀ t u b, t < 6 → u < 6 → z_R h (43 + t) 0 = some b → z_R h (43 + u) 0 = some b → t = u
theorem z_t33 {h : z_H} (hF : z_F h) (t : Nat) (ht : t ≤ 5) : z_R h 33 t = some (43 + t) ∧ z_T h (43 + t) = some (.inl 5) := by
  match t, ht with
  | 0, _ => exact ⟨hF.2.1 33 0 43 rfl, hF.1 43 _ rfl⟩
  | 1, _ => exact ⟨hF.2.1 33 1 44 rfl, hF.1 44 _ rfl⟩
  | 2, _ => exact ⟨hF.2.1 33 2 45 rfl, hF.1 45 _ rfl⟩
  | 3, _ => exact ⟨hF.2.1 33 3 46 rfl, hF.1 46 _ rfl⟩
  | 4, _ => exact ⟨hF.2.1 33 4 47 rfl, hF.1 47 _ rfl⟩
  | 5, _ => exact ⟨hF.2.1 33 5 48 rfl, hF.1 48 _ rfl⟩
  | t + 6, ht => omega
theorem z_TP.tp {h : z_H} (hT : z_TP h) : z_tp h := by
  intro t ht
  rcases hT.1 t ht with ⟨e1, e2, -⟩ | ⟨s, n, b, k1, k2, e1, e2, -⟩
  · rw [e1, e2]
    exact ⟨by decide, z_cn_of (n := 0) (by decide) (by decide)⟩
  · rw [e1, e2]
    refine ⟨?_, z_cn_of k2 (by decide)⟩
    match s, k1 with
    | 0, _ => decide
    | 1, _ => decide
    | 2, _ => decide
    | 3, _ => decide
    | 4, _ => decide
    | s + 5, k1 => omega
/-- the place that is looked at, as a long -/
theorem z_pl {i : Int32} {l : Nat} (hl : l < 6) : (i.toInt64 + (nI l).toInt64).toInt = i.toInt + l := by
  have h1 := Int32.toInt_lt i
  have h2 := Int32.le_toInt i
  have e : (nI l).toInt = (l : Int) := nI_toInt (by omega)
  rw [Int64.toInt_add, Int32.toInt_toInt64, Int32.toInt_toInt64, e]
  exact Int.bmod_eq_of_le (by omega) (by omega)
theorem z_plc {i : Int32} {l n : Nat} (hl : l < 6) (hn : n ≤ 60) : (0 ≤ lg_cmp (i.toInt64 + (nI l).toInt64) (nI n).toInt64) ↔ (n : Int) ≤ i.toInt + l := by
  have e : (nI n).toInt = (n : Int) := nI_toInt (by omega)
  rw [lg_cmp_ge, Int64.le_iff_toInt_le, z_pl hl, Int32.toInt_toInt64, e]
theorem z_pl0 {i : Int32} {l : Nat} (hl : l < 6) : (0 ≤ lg_cmp (i.toInt64 + (nI l).toInt64) 0) ↔ 0 ≤ i.toInt + l := by
  rw [lg_cmp_ge, Int64.le_iff_toInt_le, z_pl hl]
  rfl
theorem z_plx {i : Int32} {l n : Nat} (hl : l < 6) (hn : n ≤ 60) (h0 : 0 ≤ i.toInt) (h1 : i.toInt + l < n) : (i.toInt64 + (nI l).toInt64).toInt32 = nI (z_c i + l) ∧ z_c i + l < n := by
  have e0 : i = nI (z_c i) := z_nc i (Int32.le_iff_toInt_le.mpr h0)
  have e1 : i.toInt = (z_c i : Int) := by
    have q := i.toNatClampNeg_lt
    conv => lhs; rw [e0]
    exact nI_toInt (by unfold z_c; omega)
  refine ⟨?_, by omega⟩
  rw [Int64.toInt32_add, Int32.toInt32_toInt64, Int32.toInt32_toInt64, ← nI_add, ← e0]
theorem z_jdc {i : Int32} {l n : Nat} (hl : l < 6) (hn : n ≤ 60) : (i ≤ nI n - nI l - 1) ↔ i.toInt + l < n := by
  have e1 : (nI l).toInt = (l : Int) := nI_toInt (by omega)
  have e2 : (nI n).toInt = (n : Int) := nI_toInt (by omega)
  have e3 : (nI n - nI l).toInt = (n : Int) - l := by rw [z_ts (by omega) (by omega), e1, e2]
  have e4 : (nI n - nI l - 1).toInt = (n : Int) - l - 1 := by rw [z_ts (by rw [e3, show (1 : Int32).toInt = 1 from rfl]; omega) (by rw [e3, show (1 : Int32).toInt = 1 from rfl]; omega), e3]; rfl
  rw [Int32.le_iff_toInt_le, e4]
  omega
theorem z_c100 (l : Nat) : nI l + 100 = 100 + nI l := Int32.add_comm _ _
theorem c_X0_firstOther_N {Γ : z_W} {h : z_H} {t i : Int32} (hF : z_F h) (hS3 : z_I h 16 3 = z_I h 49 0) (hm : z_cn (z_I h 49 0) 6) (hL : ∀ j, j < z_c (z_I h 49 0) → ∃ id k, z_R h 17 j = some id ∧ z_Lf h id j k) (hs : z_I h 81 (z_c t) < 0) : z_C Γ M_X0_firstOther (z_rm 3 1 16) [.ref 16, .null, .int i] h (z_rG (a_jd h (z_L h 83) t i (z_c (z_I h 49 0)) 0) h) := by
  refine z_C.ofH (by decide +kernel) (by decide) [some (.ref 16), some (.null), some (.int i), none, none, none] (Nat.le_of_ble_eq_true rfl) rfl ?_
  refine z_iconst (v := 0) dX0_firstOther_0 rfl ?_
  refine z_istore_n dX0_firstOther_1 rfl (by decide) rfl ?_
  refine z_iload_n dX0_firstOther_2 rfl rfl ?_
  refine z_aload_n dX0_firstOther_3 rfl rfl ?_
  refine z_getI dX0_firstOther_4 fl_X0_116_0 (hF.1 16 _ rfl) rfl ?_
  refine z_eqi (z_I h 49 0) hS3 ?_
  refine z_icmp_ge 68 dX0_firstOther_7 (by decide) (fun c7 => ?_) (fun c7 => ?_)
  · have e0 : z_c (z_I h 49 0) = 0 := by rw [hm.1, Int32.le_iff_toInt_le, nI_toInt (by have := hm.2; omega), z_i0] at c7; omega
    refine z_bipush (v := (-5)) dX0_firstOther_68 rfl ?_
    refine z_iret dX0_firstOther_70 rfl rfl (Nat.le_of_ble_eq_true rfl) (Nat.le_of_ble_eq_true rfl) (z_rG_i ?_ ?_)
    · rw [e0]; rfl
    · exact z_gr.refl h
  · have e0 : ∃ r, z_c (z_I h 49 0) = r + 1 := by refine ⟨z_c (z_I h 49 0) - 1, ?_⟩; rw [hm.1, Int32.le_iff_toInt_le, nI_toInt (by have := hm.2; omega), z_i0] at c7; omega
    refine z_iload_n dX0_firstOther_10 rfl rfl ?_
    refine z_i2l dX0_firstOther_11 ?_
    refine z_iload_n dX0_firstOther_12 rfl rfl ?_
    refine z_i2l dX0_firstOther_13 ?_
    refine z_ladd dX0_firstOther_14 ?_
    refine z_lstore dX0_firstOther_15 (by decide) rfl ?_
    refine z_lload dX0_firstOther_17 rfl ?_
    refine z_aload_nN dX0_firstOther_19 rfl rfl ?_
    refine z_alenN dX0_firstOther_20 ?_
    refine z_tnNpe (Nat.le_of_ble_eq_true rfl) (Nat.le_of_ble_eq_true rfl) (Nat.le_of_ble_eq_true rfl) ?_
    refine z_thCatch (z_Xo_N h) [] [(62, 70, 71, 318), (2, 61, 78, 213), (62, 70, 78, 213)] rfl (fun y hy => by cases hy) ⟨by decide, by decide⟩ (by decide) q1221 q1237 ?_
    refine z_astore dX0_firstOther_71 (by decide) rfl ?_
    refine z_iload_n dX0_firstOther_73 rfl rfl ?_
    refine z_bipush (v := 100) dX0_firstOther_74 rfl ?_
    refine z_iadd dX0_firstOther_76 ?_
    refine z_iret dX0_firstOther_77 rfl rfl (Nat.le_of_ble_eq_true rfl) (Nat.le_of_ble_eq_true rfl) (z_rG_i ?_ (z_gr.xN h))
    obtain ⟨r, e0⟩ := e0
    rw [e0, a_jd, if_pos hs]
    rfl
theorem z_jdX {h : z_H} {t i : Int32} {l n r : Nat} (hb1 : z_I h 81 (z_c t) = nI 0) (hb2 : z_I h 82 (z_c t) = nI n ∧ n ≤ 60) (hl6 : l < 6) (hh : l = 0 ∨ 0 ≤ i.toInt) (hx : i.toInt + l < 0 ∨ (n : Int) ≤ i.toInt + l) : a_jd h (z_L h 83) t i (r + 1) l = 100 + nI l := by
  rw [a_jd, hb1, hb2.1, if_neg (by decide)]
  by_cases c : i < 0
  · rw [if_pos c]
  · rw [if_neg c, if_neg]
    rw [z_jdc hl6 hb2.2]
    rw [Int32.lt_iff_toInt_lt, z_i0] at c
    omega
theorem z_jdY {h : z_H} {t i : Int32} {l n r : Nat} (hb1 : z_I h 81 (z_c t) = nI 0) (hb2 : z_I h 82 (z_c t) = nI n ∧ n ≤ 60) (hl6 : l < 6) (h0 : 0 ≤ i.toInt) (hx : i.toInt + l < n) {x : Int32} (hg : z_L h 83 (60 * z_c t + (z_c i + l)) = x.toInt64) : a_jd h (z_L h 83) t i (r + 1) l = if x = z_I h 52 l then a_jd h (z_L h 83) t i r (l + 1) else nI l := by
  have ec : (lg_cmp (z_L h 83 (60 * z_c t + z_c i + l)) (z_I h 52 l).toInt64 = 0) ↔ x = z_I h 52 l := by
    rw [Nat.add_assoc, hg, lg_cmp_eq]
    constructor
    · intro q
      have := congrArg Int64.toInt32 q
      rwa [Int32.toInt32_toInt64, Int32.toInt32_toInt64] at this
    · intro q; rw [q]
  rw [a_jd, hb1, hb2.1, if_neg (by decide), if_neg (by rw [Int32.lt_iff_toInt_lt, z_i0]; omega), if_pos ((z_jdc hl6 hb2.2).mpr hx)]
  by_cases c : x = z_I h 52 l
  · rw [if_pos c, if_pos (ec.mpr c)]
  · rw [if_neg c, if_neg (fun q => c (ec.mp q))]
theorem lp_X0_firstOther {Γ : z_W} {h : z_H} {t i : Int32} {n b : Nat} (hF : z_F h) (hS3 : z_I h 16 3 = z_I h 49 0) (hm : z_cn (z_I h 49 0) 6) (hL : ∀ j, j < z_c (z_I h 49 0) → ∃ id k, z_R h 17 j = some id ∧ z_Lf h id j k) (hb1 : z_I h 81 (z_c t) = nI 0) (hb2 : z_I h 82 (z_c t) = nI n ∧ n ≤ 60) (hbT : z_T h b = some (.inr (.byte, n))) (hbi : ∀ j, j < n → z_L h 83 (60 * z_c t + j) = (z_I h b j).toInt64) : ∀ (r l : Nat) (p : Option Value), l + r = z_c (z_I h 49 0) → (l = 0 ∨ 0 ≤ i.toInt) → z_G Γ M_X0_firstOther (z_rm 3 1 16) (z_rG (a_jd h (z_L h 83) t i r l) h) 0 0 2 [some (.ref 16), some (.ref b), some (.int i), some (.int (nI l)), p, none] [] h := by
  have h6 := hm.2
  intro r
  induction r with
  | zero =>
    intro l p hi0 hh
    refine z_iload_n dX0_firstOther_2 rfl rfl ?_
    refine z_aload_n dX0_firstOther_3 rfl rfl ?_
    refine z_getI dX0_firstOther_4 fl_X0_116_0 (hF.1 16 _ rfl) rfl ?_
    refine z_eqi (z_I h 49 0) hS3 ?_
    refine z_icmp_ge 68 dX0_firstOther_7 (by decide) (fun _ => ?_) (fun q => by first | exact absurd (z_lif hm (by omega)) q | exact absurd q (z_lif hm (by omega)))
    refine z_bipush (v := (-5)) dX0_firstOther_68 rfl ?_
    refine z_iret dX0_firstOther_70 rfl rfl (Nat.le_of_ble_eq_true rfl) (Nat.le_of_ble_eq_true rfl) (z_rG_i ?_ ?_)
    · rfl
    · exact z_gr.refl h
  | succ r ih =>
    intro l p hi0 hh
    have hl6 : l < 6 := by omega
    obtain ⟨id, k, hid, hlf⟩ := hL l (by omega)
    obtain ⟨h85, hk6, hkd, hTL, -, hn1, hvL, hmL, h46⟩ := hlf
    refine z_iload_n dX0_firstOther_2 rfl rfl ?_
    refine z_aload_n dX0_firstOther_3 rfl rfl ?_
    refine z_getI dX0_firstOther_4 fl_X0_116_0 (hF.1 16 _ rfl) rfl ?_
    refine z_eqi (z_I h 49 0) hS3 ?_
    refine z_icmp_ge 68 dX0_firstOther_7 (by decide) (fun q => by first | exact absurd q (z_lin hm (by omega)) | exact absurd (z_lin hm (by omega)) q) (fun _ => ?_)
    refine z_iload_n dX0_firstOther_10 rfl rfl ?_
    refine z_i2l dX0_firstOther_11 ?_
    refine z_iload_n dX0_firstOther_12 rfl rfl ?_
    refine z_i2l dX0_firstOther_13 ?_
    refine z_ladd dX0_firstOther_14 ?_
    refine z_lstore dX0_firstOther_15 (by decide) rfl ?_
    refine z_lload dX0_firstOther_17 rfl ?_
    refine z_aload_n dX0_firstOther_19 rfl rfl ?_
    refine z_alen dX0_firstOther_20 hbT (by simp [z_at]) ?_
    refine z_i2l dX0_firstOther_21 ?_
    refine z_lcmp dX0_firstOther_22 ?_
    refine z_if_ge 33 dX0_firstOther_23 (by decide) (fun c23 => ?_) (fun c23 => ?_)
    · rw [z_plc hl6 hb2.2] at c23
      refine z_newOff dX0_firstOther_33 q649 (Nat.le_of_ble_eq_true rfl) (Nat.le_of_ble_eq_true rfl) ?_
      refine z_dup dX0_firstOther_36 rfl ?_
      refine z_bipush (v := (-13)) dX0_firstOther_37 rfl ?_
      refine z_icall il_X0_315 (c_X15_init hF.2.2) dX0_firstOther_39 rfl rfl ⟨by decide, by decide⟩ (Nat.le_of_ble_eq_true rfl) (Nat.le_of_ble_eq_true rfl) (Nat.le_of_ble_eq_true rfl) (z_cV ?_) z_tV
      refine z_athrow dX0_firstOther_42 ?_
      refine z_thCatch (z_Xo_off h (-13)) [(2, 61, 71, 318), (62, 70, 71, 318)] [(62, 70, 78, 213)] rfl (fun y hy => ?_) ⟨by decide, by decide⟩ (by decide) q649 q751 ?_
      · simp only [List.mem_cons, List.not_mem_nil, or_false] at hy
        rcases hy with rfl | rfl
        · exact Or.inr ⟨⟨by decide, by decide⟩, by decide, _, q1221, nca_off_npe⟩
        · exact Or.inl (by decide)
      refine z_astore dX0_firstOther_78 (by decide) rfl ?_
      refine z_iload_n dX0_firstOther_80 rfl rfl ?_
      refine z_bipush (v := 100) dX0_firstOther_81 rfl ?_
      refine z_iadd dX0_firstOther_83 ?_
      refine z_iret dX0_firstOther_84 rfl rfl (Nat.le_of_ble_eq_true rfl) (Nat.le_of_ble_eq_true rfl) (z_rG_i ?_ (z_gr.off h _))
      rw [z_c100]
      exact (z_jdX hb1 hb2 hl6 hh (by omega)).symm
    · rw [z_plc hl6 hb2.2] at c23
      refine z_lload dX0_firstOther_26 rfl ?_
      refine z_lconst (v := 0) dX0_firstOther_28 rfl ?_
      refine z_lcmp dX0_firstOther_29 ?_
      refine z_if_ge 43 dX0_firstOther_30 (by decide) (fun c30 => ?_) (fun c30 => ?_)
      · rw [z_pl0 hl6] at c30
        have h0 : 0 ≤ i.toInt := by rcases hh with q | q <;> omega
        have hx := z_plx hl6 hb2.2 h0 (by omega)
        refine z_aload_n dX0_firstOther_43 rfl rfl ?_
        refine z_lload dX0_firstOther_44 rfl ?_
        refine z_l2i dX0_firstOther_46 ?_
        refine z_bald (z_c i + l) dX0_firstOther_47 hbT hx.1 hx.2 (by have := hb2.2; omega) ?_
        refine z_aload_n dX0_firstOther_48 rfl rfl ?_
        refine z_getR 17 dX0_firstOther_49 fl_X0_17_0 (hF.1 16 _ rfl) rfl (hF.2.1 16 0 17 rfl) ?_
        refine z_iload_n dX0_firstOther_52 rfl rfl ?_
        refine z_aald l id dX0_firstOther_53 (hF.1 17 _ rfl) (by simp [z_at]) rfl (by omega) (by decide) hid ?_
        refine z_getm rfl hk6 hTL dX0_firstOther_54 <| z_eqi (z_I h 52 l) (by rw [hmL]) ?_
        refine z_icmp_eq 62 dX0_firstOther_57 (by decide) (fun c57 => ?_) (fun c57 => ?_)
        · refine z_iinc (v := nI (l + 1)) dX0_firstOther_62 rfl (nI_succ _).symm (by decide) rfl ?_
          refine z_goto 2 dX0_firstOther_65 (by decide) ?_
          have em := z_jdY (r := r) hb1 hb2 hl6 h0 (by omega) (hbi _ hx.2)
          rw [if_pos c57] at em
          rw [em]
          exact ih (l + 1) _ (by omega) (Or.inr h0)
        · refine z_iload_n dX0_firstOther_60 rfl rfl ?_
          refine z_iret dX0_firstOther_61 rfl rfl (Nat.le_of_ble_eq_true rfl) (Nat.le_of_ble_eq_true rfl) (z_rG_i ?_ ?_)
          · have em := z_jdY (r := r) hb1 hb2 hl6 h0 (by omega) (hbi _ hx.2)
            rw [if_neg c57] at em
            exact em.symm
          · exact z_gr.refl h
      · rw [z_pl0 hl6] at c30
        refine z_newOff dX0_firstOther_33 q649 (Nat.le_of_ble_eq_true rfl) (Nat.le_of_ble_eq_true rfl) ?_
        refine z_dup dX0_firstOther_36 rfl ?_
        refine z_bipush (v := (-13)) dX0_firstOther_37 rfl ?_
        refine z_icall il_X0_315 (c_X15_init hF.2.2) dX0_firstOther_39 rfl rfl ⟨by decide, by decide⟩ (Nat.le_of_ble_eq_true rfl) (Nat.le_of_ble_eq_true rfl) (Nat.le_of_ble_eq_true rfl) (z_cV ?_) z_tV
        refine z_athrow dX0_firstOther_42 ?_
        refine z_thCatch (z_Xo_off h (-13)) [(2, 61, 71, 318), (62, 70, 71, 318)] [(62, 70, 78, 213)] rfl (fun y hy => ?_) ⟨by decide, by decide⟩ (by decide) q649 q751 ?_
        · simp only [List.mem_cons, List.not_mem_nil, or_false] at hy
          rcases hy with rfl | rfl
          · exact Or.inr ⟨⟨by decide, by decide⟩, by decide, _, q1221, nca_off_npe⟩
          · exact Or.inl (by decide)
        refine z_astore dX0_firstOther_78 (by decide) rfl ?_
        refine z_iload_n dX0_firstOther_80 rfl rfl ?_
        refine z_bipush (v := 100) dX0_firstOther_81 rfl ?_
        refine z_iadd dX0_firstOther_83 ?_
        refine z_iret dX0_firstOther_84 rfl rfl (Nat.le_of_ble_eq_true rfl) (Nat.le_of_ble_eq_true rfl) (z_rG_i ?_ (z_gr.off h _))
        rw [z_c100]
        exact (z_jdX hb1 hb2 hl6 hh (by omega)).symm
theorem c_X0_firstOther {Γ : z_W} {h : z_H} {t i : Int32} {n b : Nat} (hF : z_F h) (hS3 : z_I h 16 3 = z_I h 49 0) (hm : z_cn (z_I h 49 0) 6) (hL : ∀ j, j < z_c (z_I h 49 0) → ∃ id k, z_R h 17 j = some id ∧ z_Lf h id j k) (hb1 : z_I h 81 (z_c t) = nI 0) (hb2 : z_I h 82 (z_c t) = nI n ∧ n ≤ 60) (hbT : z_T h b = some (.inr (.byte, n))) (hbi : ∀ j, j < n → z_L h 83 (60 * z_c t + j) = (z_I h b j).toInt64) : z_C Γ M_X0_firstOther (z_rm 3 1 16) [.ref 16, .ref b, .int i] h (z_rG (a_jd h (z_L h 83) t i (z_c (z_I h 49 0)) 0) h) := by
  refine z_C.ofH (by decide +kernel) (by decide) [some (.ref 16), some (.ref b), some (.int i), none, none, none] (Nat.le_of_ble_eq_true rfl) rfl ?_
  refine z_iconst (v := 0) dX0_firstOther_0 rfl ?_
  refine z_istore_n dX0_firstOther_1 rfl (by decide) rfl ?_
  exact lp_X0_firstOther hF hS3 hm hL hb1 hb2 hbT hbi _ 0 none (Nat.zero_add _) (Or.inl rfl)
theorem c_X0_judge {Γ : z_W} {h : z_H} {t i : Int32} (hF : z_F h) (hS3 : z_I h 16 3 = z_I h 49 0) (hm : z_cn (z_I h 49 0) 6) (hL : ∀ j, j < z_c (z_I h 49 0) → ∃ id k, z_R h 17 j = some id ∧ z_Lf h id j k) (hTP : z_TP h) : z_C Γ M_X0_judge (z_rm 4 4 2040) [.ref 16, .int t, .int i] h (z_rG (m_X6_judge h (z_L h 83) t i) h) := by
  refine z_C.ofH (by decide +kernel) (by decide) [some (.ref 16), some (.int t), some (.int i), none] (Nat.le_of_ble_eq_true rfl) rfl ?_
  refine z_iload_n dX0_judge_0 rfl rfl ?_
  refine z_scall sl_X0_320 (c_X0_isTape) dX0_judge_1 rfl rfl ⟨by decide, by decide⟩ (Nat.le_of_ble_eq_true rfl) (Nat.le_of_ble_eq_true rfl) (Nat.le_of_ble_eq_true rfl) (z_cI ?_) z_tI
  refine z_bif_ne 9 dX0_judge_4 (by decide) (fun c4 => ?_) (fun c4 => ?_)
  · have ht := z_ixb (l := t) 5 (by decide) c4
    rcases hTP.1 (z_c t) (by have := ht.2; omega) with ⟨e1, e2, e3⟩ | ⟨s, n, b, k1, k2, k3, k4, k5, k6, k7, k9, k8⟩
    · unfold m_X6_judge
      rw [if_pos c4, if_pos (show z_I h 81 (z_c t) ≤ 0 by rw [e1]; decide)]
      refine z_aload_n dX0_judge_9 rfl rfl ?_
      refine z_aload_n dX0_judge_10 rfl rfl ?_
      refine z_getR 33 dX0_judge_11 fl_X0_84_0 (hF.1 16 _ rfl) rfl (hF.2.1 16 21 33 rfl) ?_
      refine z_iload_n dX0_judge_14 rfl rfl ?_
      refine z_aald (z_c t) (43 + z_c t) dX0_judge_15 (hF.1 33 _ rfl) (by simp [z_at]) ht.1 (by have := ht.2; omega) (by decide) (z_t33 hF _ ht.2).1 ?_
      refine z_getN dX0_judge_16 fl_X0_323_5 (z_t33 hF _ ht.2).2 rfl e3 ?_
      refine z_castN dX0_judge_19 ?_
      refine z_iload_n dX0_judge_22 rfl rfl ?_
      refine z_vcall vl_X0_328_0 (c_X0_firstOther_N hF hS3 hm hL (by rw [e1]; decide)) dX0_judge_23 rfl rfl (hF.1 16 _ rfl) ⟨by decide, by decide⟩ (Nat.le_of_ble_eq_true rfl) (Nat.le_of_ble_eq_true rfl) (Nat.le_of_ble_eq_true rfl) (z_cG (fun h' g => ?_)) z_tG
      refine z_iret dX0_judge_26 rfl rfl (Nat.le_of_ble_eq_true rfl) (Nat.le_of_ble_eq_true rfl) (z_rG_i ?_ g)
      rfl
    · unfold m_X6_judge
      rw [if_pos c4]
      match s, k1, k3, k7, k8 with
      | 0, _, k3, k7, k8 =>
        have hbT : z_T h b = some (.inr (.byte, n)) := k7
        rw [if_pos (show z_I h 81 (z_c t) ≤ 0 by rw [k3]; decide)]
        refine z_aload_n dX0_judge_9 rfl rfl ?_
        refine z_aload_n dX0_judge_10 rfl rfl ?_
        refine z_getR 33 dX0_judge_11 fl_X0_84_0 (hF.1 16 _ rfl) rfl (hF.2.1 16 21 33 rfl) ?_
        refine z_iload_n dX0_judge_14 rfl rfl ?_
        refine z_aald (z_c t) (43 + z_c t) dX0_judge_15 (hF.1 33 _ rfl) (by simp [z_at]) ht.1 (by have := ht.2; omega) (by decide) (z_t33 hF _ ht.2).1 ?_
        refine z_getR b dX0_judge_16 fl_X0_323_5 (z_t33 hF _ ht.2).2 rfl k5 ?_
        refine z_castE q1216 (z_rcB hbT) dX0_judge_19 ?_
        refine z_iload_n dX0_judge_22 rfl rfl ?_
        refine z_vcall vl_X0_328_0 (c_X0_firstOther (n := n) hF hS3 hm hL k3 ⟨k4, k2⟩ hbT (fun j hj => k8 j hj)) dX0_judge_23 rfl rfl (hF.1 16 _ rfl) ⟨by decide, by decide⟩ (Nat.le_of_ble_eq_true rfl) (Nat.le_of_ble_eq_true rfl) (Nat.le_of_ble_eq_true rfl) (z_cG (fun h' g => ?_)) z_tG
        refine z_iret dX0_judge_26 rfl rfl (Nat.le_of_ble_eq_true rfl) (Nat.le_of_ble_eq_true rfl) (z_rG_i ?_ g)
        rfl
      | 1, _, k3, k7, k8 =>
        rw [if_neg (show ¬ z_I h 81 (z_c t) ≤ 0 by rw [k3]; decide)]
        refine z_aload_n dX0_judge_9 rfl rfl ?_
        refine z_aload_n dX0_judge_10 rfl rfl ?_
        refine z_getR 33 dX0_judge_11 fl_X0_84_0 (hF.1 16 _ rfl) rfl (hF.2.1 16 21 33 rfl) ?_
        refine z_iload_n dX0_judge_14 rfl rfl ?_
        refine z_aald (z_c t) (43 + z_c t) dX0_judge_15 (hF.1 33 _ rfl) (by simp [z_at]) ht.1 (by have := ht.2; omega) (by decide) (z_t33 hF _ ht.2).1 ?_
        refine z_getR b dX0_judge_16 fl_X0_323_5 (z_t33 hF _ ht.2).2 rfl k5 ?_
        refine z_castF q1216 nca_SB (z_rcS k7) (by decide +kernel) (by decide +kernel) (by decide +kernel) (by decide +kernel) dX0_judge_19 (fun text w1 w2 => ?_)
        refine z_tnMsg (n := 1) (by decide) mw_cce (by decide) w1 w2 (Nat.le_of_ble_eq_true rfl) (Nat.le_of_ble_eq_true rfl) (Nat.le_of_ble_eq_true rfl) ?_
        refine z_thCatch (z_Xo_M h 1 (by decide)) [] [] rfl (fun y hy => by cases hy) ⟨by decide, by decide⟩ (by decide) q1186 q1206 ?_
        refine z_astore_n dX0_judge_27 rfl (by decide) rfl ?_
        refine z_bipush (v := (-12)) dX0_judge_28 rfl ?_
        exact z_iret dX0_judge_30 rfl rfl (Nat.le_of_ble_eq_true rfl) (Nat.le_of_ble_eq_true rfl) (z_rG_i rfl (z_gr.xM h 1))
      | 2, _, k3, k7, k8 =>
        rw [if_neg (show ¬ z_I h 81 (z_c t) ≤ 0 by rw [k3]; decide)]
        refine z_aload_n dX0_judge_9 rfl rfl ?_
        refine z_aload_n dX0_judge_10 rfl rfl ?_
        refine z_getR 33 dX0_judge_11 fl_X0_84_0 (hF.1 16 _ rfl) rfl (hF.2.1 16 21 33 rfl) ?_
        refine z_iload_n dX0_judge_14 rfl rfl ?_
        refine z_aald (z_c t) (43 + z_c t) dX0_judge_15 (hF.1 33 _ rfl) (by simp [z_at]) ht.1 (by have := ht.2; omega) (by decide) (z_t33 hF _ ht.2).1 ?_
        refine z_getR b dX0_judge_16 fl_X0_323_5 (z_t33 hF _ ht.2).2 rfl k5 ?_
        refine z_castF q1216 nca_IB (z_rcI k7) (by decide +kernel) (by decide +kernel) (by decide +kernel) (by decide +kernel) dX0_judge_19 (fun text w1 w2 => ?_)
        refine z_tnMsg (n := 1) (by decide) mw_cce (by decide) w1 w2 (Nat.le_of_ble_eq_true rfl) (Nat.le_of_ble_eq_true rfl) (Nat.le_of_ble_eq_true rfl) ?_
        refine z_thCatch (z_Xo_M h 1 (by decide)) [] [] rfl (fun y hy => by cases hy) ⟨by decide, by decide⟩ (by decide) q1186 q1206 ?_
        refine z_astore_n dX0_judge_27 rfl (by decide) rfl ?_
        refine z_bipush (v := (-12)) dX0_judge_28 rfl ?_
        exact z_iret dX0_judge_30 rfl rfl (Nat.le_of_ble_eq_true rfl) (Nat.le_of_ble_eq_true rfl) (z_rG_i rfl (z_gr.xM h 1))
      | 3, _, k3, k7, k8 =>
        rw [if_neg (show ¬ z_I h 81 (z_c t) ≤ 0 by rw [k3]; decide)]
        refine z_aload_n dX0_judge_9 rfl rfl ?_
        refine z_aload_n dX0_judge_10 rfl rfl ?_
        refine z_getR 33 dX0_judge_11 fl_X0_84_0 (hF.1 16 _ rfl) rfl (hF.2.1 16 21 33 rfl) ?_
        refine z_iload_n dX0_judge_14 rfl rfl ?_
        refine z_aald (z_c t) (43 + z_c t) dX0_judge_15 (hF.1 33 _ rfl) (by simp [z_at]) ht.1 (by have := ht.2; omega) (by decide) (z_t33 hF _ ht.2).1 ?_
        refine z_getR b dX0_judge_16 fl_X0_323_5 (z_t33 hF _ ht.2).2 rfl k5 ?_
        refine z_castF q1216 nca_JB (z_rcJ k7) (by decide +kernel) (by decide +kernel) (by decide +kernel) (by decide +kernel) dX0_judge_19 (fun text w1 w2 => ?_)
        refine z_tnMsg (n := 1) (by decide) mw_cce (by decide) w1 w2 (Nat.le_of_ble_eq_true rfl) (Nat.le_of_ble_eq_true rfl) (Nat.le_of_ble_eq_true rfl) ?_
        refine z_thCatch (z_Xo_M h 1 (by decide)) [] [] rfl (fun y hy => by cases hy) ⟨by decide, by decide⟩ (by decide) q1186 q1206 ?_
        refine z_astore_n dX0_judge_27 rfl (by decide) rfl ?_
        refine z_bipush (v := (-12)) dX0_judge_28 rfl ?_
        exact z_iret dX0_judge_30 rfl rfl (Nat.le_of_ble_eq_true rfl) (Nat.le_of_ble_eq_true rfl) (z_rG_i rfl (z_gr.xM h 1))
      | 4, _, k3, k7, k8 =>
        rw [if_neg (show ¬ z_I h 81 (z_c t) ≤ 0 by rw [k3]; decide)]
        refine z_aload_n dX0_judge_9 rfl rfl ?_
        refine z_aload_n dX0_judge_10 rfl rfl ?_
        refine z_getR 33 dX0_judge_11 fl_X0_84_0 (hF.1 16 _ rfl) rfl (hF.2.1 16 21 33 rfl) ?_
        refine z_iload_n dX0_judge_14 rfl rfl ?_
        refine z_aald (z_c t) (43 + z_c t) dX0_judge_15 (hF.1 33 _ rfl) (by simp [z_at]) ht.1 (by have := ht.2; omega) (by decide) (z_t33 hF _ ht.2).1 ?_
        refine z_getR b dX0_judge_16 fl_X0_323_5 (z_t33 hF _ ht.2).2 rfl k5 ?_
        refine z_castF q1216 nca_ZB (z_rcZ k7) (by decide +kernel) (by decide +kernel) (by decide +kernel) (by decide +kernel) dX0_judge_19 (fun text w1 w2 => ?_)
        refine z_tnMsg (n := 1) (by decide) mw_cce (by decide) w1 w2 (Nat.le_of_ble_eq_true rfl) (Nat.le_of_ble_eq_true rfl) (Nat.le_of_ble_eq_true rfl) ?_
        refine z_thCatch (z_Xo_M h 1 (by decide)) [] [] rfl (fun y hy => by cases hy) ⟨by decide, by decide⟩ (by decide) q1186 q1206 ?_
        refine z_astore_n dX0_judge_27 rfl (by decide) rfl ?_
        refine z_bipush (v := (-12)) dX0_judge_28 rfl ?_
        exact z_iret dX0_judge_30 rfl rfl (Nat.le_of_ble_eq_true rfl) (Nat.le_of_ble_eq_true rfl) (z_rG_i rfl (z_gr.xM h 1))
      | s + 5, k1, _, _, _ => omega
  · refine z_iconst (v := (-1)) dX0_judge_7 rfl ?_
    refine z_iret dX0_judge_8 rfl rfl (Nat.le_of_ble_eq_true rfl) (Nat.le_of_ble_eq_true rfl) (z_rG_i ?_ ?_)
    · unfold m_X6_judge; rw [if_neg c4]
    · exact z_gr.refl h
