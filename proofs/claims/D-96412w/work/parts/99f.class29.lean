/-! THE CLASS: shift (printed by class29.py) -/
set_option maxRecDepth 20000
/-- what 'shift' leaves -/
def z_shQ (h : z_H) (t i o j n : Int32) (r : Int32) (h' : z_H) : Prop := r = m_X6_shift h t i o j n ∧ ((r < 0 ∧ z_gr h h') ∨ (0 ≤ r ∧ z_in t 0 5 ∧ z_in o 0 5 ∧ ∃ s n0 n1 b0 b1, z_Tr1 h (z_c t) s n0 b0 ∧ z_Tr1 h (z_c o) s n1 b1 ∧ i = nI (z_c i) ∧ j = nI (z_c j) ∧ n = nI (z_c n) ∧ z_c i + z_c n ≤ n0 ∧ z_c j + z_c n ≤ n1 ∧ h' = z_cp h b0 b1 (z_c i) (z_c j) (z_c n)))
theorem z_so_at (s : Nat) : z_so s ∈ z_at := by
  unfold z_so
  split <;> simp [z_at]
theorem z_so_ne {s u : Nat} (hs : s ≤ 4) (hu : u ≤ 4) (hne : s ≠ u) : ((refKind (z_so s) != refKind (z_so u)) || (!refKind (z_so s) && z_so s != z_so u)) = true := by
  match s, u, hs, hu, hne with
  | 0, 0, _, _, hne => exact absurd rfl hne
  | 0, 1, _, _, hne => decide
  | 0, 2, _, _, hne => decide
  | 0, 3, _, _, hne => decide
  | 0, 4, _, _, hne => decide
  | 1, 0, _, _, hne => decide
  | 1, 1, _, _, hne => exact absurd rfl hne
  | 1, 2, _, _, hne => decide
  | 1, 3, _, _, hne => decide
  | 1, 4, _, _, hne => decide
  | 2, 0, _, _, hne => decide
  | 2, 1, _, _, hne => decide
  | 2, 2, _, _, hne => exact absurd rfl hne
  | 2, 3, _, _, hne => decide
  | 2, 4, _, _, hne => decide
  | 3, 0, _, _, hne => decide
  | 3, 1, _, _, hne => decide
  | 3, 2, _, _, hne => decide
  | 3, 3, _, _, hne => exact absurd rfl hne
  | 3, 4, _, _, hne => decide
  | 4, 0, _, _, hne => decide
  | 4, 1, _, _, hne => decide
  | 4, 2, _, _, hne => decide
  | 4, 3, _, _, hne => decide
  | 4, 4, _, _, hne => exact absurd rfl hne
  | s + 5, _, hs, _, _ => omega
  | _, u + 5, _, hu, _ => omega
theorem z_so_v {h : z_H} {s b n sp k : Nat} (hs : s ≤ 4) (hf : s ≠ 3 → ∀ i, i < n → fits (z_so s) (.int (z_I h b i)) = true) (hk : sp + k ≤ n) : z_cpv h (z_so s) b sp k := by
  refine Or.inl ?_
  match s, hs, hf with
  | 0, _, hf => exact ⟨rfl, fun i hi => Or.inr ⟨rfl, hf (by decide) _ (by omega)⟩⟩
  | 1, _, hf => exact ⟨rfl, fun i hi => Or.inr ⟨rfl, hf (by decide) _ (by omega)⟩⟩
  | 2, _, hf => exact ⟨rfl, fun i hi => Or.inr ⟨rfl, hf (by decide) _ (by omega)⟩⟩
  | 3, _, hf => exact ⟨rfl, fun i hi => Or.inl rfl⟩
  | 4, _, hf => exact ⟨rfl, fun i hi => Or.inr ⟨rfl, hf (by decide) _ (by omega)⟩⟩
  | s + 5, hs, _ => omega
theorem z_nIs {x : Int32} {s : Nat} (hs : s ≤ 4) (e : x = nI s) : ¬ x < 0 := Int32.not_lt.mpr (z_s0 hs e)
theorem z_nIe {s u : Nat} (hs : s ≤ 4) (hu : u ≤ 4) : nI s = nI u ↔ s = u := by
  constructor
  · intro q
    have := congrArg Int32.toInt q
    rw [nI_toInt (by omega), nI_toInt (by omega)] at this
    omega
  · intro q; rw [q]
/-- how far it reaches, in ints and in numbers -/
theorem z_shb {n0 : Nat} {i n : Int32} (h0 : n0 ≤ 60) (hn : ¬ n < 0) : ((nI n0 - n) < i ↔ i.toInt + n.toInt > n0) ∧ (i ≤ nI n0 - n ↔ ¬ (i.toInt + n.toInt > n0)) := by
  have e : (nI n0).toInt = (n0 : Int) := nI_toInt (by omega)
  have q3 := Int32.toInt_lt n
  rw [Int32.lt_iff_toInt_lt, z_i0] at hn
  have e2 : (nI n0 - n).toInt = (n0 : Int) - n.toInt := by rw [z_ts (by omega) (by omega), e]
  rw [Int32.lt_iff_toInt_lt, Int32.le_iff_toInt_le, e2]
  omega
theorem c_X0_shift {Γ : z_W} {h : z_H} {t i o j n : Int32} (hF : z_F h) (hTP : z_TP h) : z_C Γ M_X0_shift (z_rm 5 4 2040) [.ref 16, .int t, .int i, .int o, .int j, .int n] h (z_rI (z_shQ h t i o j n)) := by
  refine z_C.ofH (by decide +kernel) (by decide) [some (.ref 16), some (.int t), some (.int i), some (.int o), some (.int j), some (.int n), none] (Nat.le_of_ble_eq_true rfl) rfl ?_
  refine z_iload_n dX0_shift_0 rfl rfl ?_
  refine z_scall sl_X0_320 (c_X0_isTape) dX0_shift_1 rfl rfl ⟨by decide, by decide⟩ (Nat.le_of_ble_eq_true rfl) (Nat.le_of_ble_eq_true rfl) (Nat.le_of_ble_eq_true rfl) (z_cI ?_) z_tI
  refine z_bif_eq 14 dX0_shift_4 (by decide) (fun c4 => ?_) (fun c4 => ?_)
  · refine z_iconst (v := (-1)) dX0_shift_14 rfl ?_
    refine z_iret dX0_shift_15 rfl rfl (Nat.le_of_ble_eq_true rfl) (Nat.le_of_ble_eq_true rfl) (z_rI_i ?_)
    refine ⟨?_, Or.inl ⟨by decide, z_gr.refl h⟩⟩
    unfold m_X6_shift; rw [if_neg (show ¬ (m_X0_isTape h t) from c4)]
  · have ht := z_ixb (l := t) 5 (by decide) c4
    refine z_iload_n dX0_shift_7 rfl rfl ?_
    refine z_scall sl_X0_320 (c_X0_isTape) dX0_shift_8 rfl rfl ⟨by decide, by decide⟩ (Nat.le_of_ble_eq_true rfl) (Nat.le_of_ble_eq_true rfl) (Nat.le_of_ble_eq_true rfl) (z_cI ?_) z_tI
    refine z_bif_ne 16 dX0_shift_11 (by decide) (fun c11 => ?_) (fun c11 => ?_)
    · have ho := z_ixb (l := o) 5 (by decide) c11
      rcases hTP.1 (z_c t) (by have := ht.2; omega) with ⟨e1, e2, e3⟩ | ⟨s, n0, b0, hk⟩
      · rcases hTP.1 (z_c o) (by have := ho.2; omega) with ⟨f1, f2, f3⟩ | ⟨u, n1, b1, hu⟩
        · skip
          refine z_aload_n dX0_shift_16 rfl rfl ?_
          refine z_getR 33 dX0_shift_17 fl_X0_84_0 (hF.1 16 _ rfl) rfl (hF.2.1 16 21 33 rfl) ?_
          refine z_iload_n dX0_shift_20 rfl rfl ?_
          refine z_aald (z_c t) (43 + z_c t) dX0_shift_21 (hF.1 33 _ rfl) (by simp [z_at]) ht.1 (by have := ht.2; omega) (by decide) (z_t33 hF _ ht.2).1 ?_
          refine z_getN dX0_shift_22 fl_X0_323_5 (z_t33 hF _ ht.2).2 rfl e3 ?_
          refine z_iload_n dX0_shift_25 rfl rfl ?_
          refine z_aload_n dX0_shift_26 rfl rfl ?_
          refine z_getR 33 dX0_shift_27 fl_X0_84_0 (hF.1 16 _ rfl) rfl (hF.2.1 16 21 33 rfl) ?_
          refine z_iload_n dX0_shift_30 rfl rfl ?_
          refine z_aald (z_c o) (43 + z_c o) dX0_shift_31 (hF.1 33 _ rfl) (by simp [z_at]) ho.1 (by have := ho.2; omega) (by decide) (z_t33 hF _ ho.2).1 ?_
          refine z_getN dX0_shift_32 fl_X0_323_5 (z_t33 hF _ ho.2).2 rfl f3 ?_
          refine z_iload dX0_shift_35 rfl ?_
          refine z_iload dX0_shift_37 rfl ?_
          refine z_acN1 dX0_shift_39 q1245 (Nat.le_of_ble_eq_true rfl) (Or.inl rfl) (fun nf w1 w2 w3 => ?_)
          refine z_toNpe w1 w2 w3 (Nat.le_of_ble_eq_true rfl) (Nat.le_of_ble_eq_true rfl) (Nat.le_of_ble_eq_true rfl) ?_
          refine z_thCatch (z_Xo_N h) [] [(16, 44, 50, 394), (16, 44, 55, 396)] rfl (fun y hy => by cases hy) ⟨by decide, by decide⟩ (by decide) q1221 q1237 ?_
          refine z_astore dX0_shift_45 (by decide) rfl ?_
          refine z_bipush (v := (-11)) dX0_shift_47 rfl ?_
          refine z_iret dX0_shift_49 rfl rfl (Nat.le_of_ble_eq_true rfl) (Nat.le_of_ble_eq_true rfl) (z_rI_i ⟨?_, Or.inl ⟨by decide, z_gr.xN h⟩⟩)
          unfold m_X6_shift
          rw [if_pos c4, if_pos c11, if_pos (show z_I h 81 (z_c t) < 0 by rw [e1]; decide)]
        · obtain ⟨u1, u2, u3, u4, u5, u6, u7, u9, u8⟩ := id hu
          refine z_aload_n dX0_shift_16 rfl rfl ?_
          refine z_getR 33 dX0_shift_17 fl_X0_84_0 (hF.1 16 _ rfl) rfl (hF.2.1 16 21 33 rfl) ?_
          refine z_iload_n dX0_shift_20 rfl rfl ?_
          refine z_aald (z_c t) (43 + z_c t) dX0_shift_21 (hF.1 33 _ rfl) (by simp [z_at]) ht.1 (by have := ht.2; omega) (by decide) (z_t33 hF _ ht.2).1 ?_
          refine z_getN dX0_shift_22 fl_X0_323_5 (z_t33 hF _ ht.2).2 rfl e3 ?_
          refine z_iload_n dX0_shift_25 rfl rfl ?_
          refine z_aload_n dX0_shift_26 rfl rfl ?_
          refine z_getR 33 dX0_shift_27 fl_X0_84_0 (hF.1 16 _ rfl) rfl (hF.2.1 16 21 33 rfl) ?_
          refine z_iload_n dX0_shift_30 rfl rfl ?_
          refine z_aald (z_c o) (43 + z_c o) dX0_shift_31 (hF.1 33 _ rfl) (by simp [z_at]) ho.1 (by have := ho.2; omega) (by decide) (z_t33 hF _ ho.2).1 ?_
          refine z_getR b1 dX0_shift_32 fl_X0_323_5 (z_t33 hF _ ho.2).2 rfl u5 ?_
          refine z_iload dX0_shift_35 rfl ?_
          refine z_iload dX0_shift_37 rfl ?_
          refine z_acN1 dX0_shift_39 q1245 (Nat.le_of_ble_eq_true rfl) (Or.inr ⟨_, rfl⟩) (fun nf w1 w2 w3 => ?_)
          refine z_toNpe w1 w2 w3 (Nat.le_of_ble_eq_true rfl) (Nat.le_of_ble_eq_true rfl) (Nat.le_of_ble_eq_true rfl) ?_
          refine z_thCatch (z_Xo_N h) [] [(16, 44, 50, 394), (16, 44, 55, 396)] rfl (fun y hy => by cases hy) ⟨by decide, by decide⟩ (by decide) q1221 q1237 ?_
          refine z_astore dX0_shift_45 (by decide) rfl ?_
          refine z_bipush (v := (-11)) dX0_shift_47 rfl ?_
          refine z_iret dX0_shift_49 rfl rfl (Nat.le_of_ble_eq_true rfl) (Nat.le_of_ble_eq_true rfl) (z_rI_i ⟨?_, Or.inl ⟨by decide, z_gr.xN h⟩⟩)
          unfold m_X6_shift
          rw [if_pos c4, if_pos c11, if_pos (show z_I h 81 (z_c t) < 0 by rw [e1]; decide)]
      · obtain ⟨k1, k2, k3, k4, k5, k6, k7, k9, k8⟩ := id hk
        rcases hTP.1 (z_c o) (by have := ho.2; omega) with ⟨f1, f2, f3⟩ | ⟨u, n1, b1, hu⟩
        · skip
          refine z_aload_n dX0_shift_16 rfl rfl ?_
          refine z_getR 33 dX0_shift_17 fl_X0_84_0 (hF.1 16 _ rfl) rfl (hF.2.1 16 21 33 rfl) ?_
          refine z_iload_n dX0_shift_20 rfl rfl ?_
          refine z_aald (z_c t) (43 + z_c t) dX0_shift_21 (hF.1 33 _ rfl) (by simp [z_at]) ht.1 (by have := ht.2; omega) (by decide) (z_t33 hF _ ht.2).1 ?_
          refine z_getR b0 dX0_shift_22 fl_X0_323_5 (z_t33 hF _ ht.2).2 rfl k5 ?_
          refine z_iload_n dX0_shift_25 rfl rfl ?_
          refine z_aload_n dX0_shift_26 rfl rfl ?_
          refine z_getR 33 dX0_shift_27 fl_X0_84_0 (hF.1 16 _ rfl) rfl (hF.2.1 16 21 33 rfl) ?_
          refine z_iload_n dX0_shift_30 rfl rfl ?_
          refine z_aald (z_c o) (43 + z_c o) dX0_shift_31 (hF.1 33 _ rfl) (by simp [z_at]) ho.1 (by have := ho.2; omega) (by decide) (z_t33 hF _ ho.2).1 ?_
          refine z_getN dX0_shift_32 fl_X0_323_5 (z_t33 hF _ ho.2).2 rfl f3 ?_
          refine z_iload dX0_shift_35 rfl ?_
          refine z_iload dX0_shift_37 rfl ?_
          refine z_acN2 dX0_shift_39 q1245 (Nat.le_of_ble_eq_true rfl) (fun nf w1 w2 w3 => ?_)
          refine z_toNpe w1 w2 w3 (Nat.le_of_ble_eq_true rfl) (Nat.le_of_ble_eq_true rfl) (Nat.le_of_ble_eq_true rfl) ?_
          refine z_thCatch (z_Xo_N h) [] [(16, 44, 50, 394), (16, 44, 55, 396)] rfl (fun y hy => by cases hy) ⟨by decide, by decide⟩ (by decide) q1221 q1237 ?_
          refine z_astore dX0_shift_45 (by decide) rfl ?_
          refine z_bipush (v := (-11)) dX0_shift_47 rfl ?_
          refine z_iret dX0_shift_49 rfl rfl (Nat.le_of_ble_eq_true rfl) (Nat.le_of_ble_eq_true rfl) (z_rI_i ⟨?_, Or.inl ⟨by decide, z_gr.xN h⟩⟩)
          unfold m_X6_shift
          rw [if_pos c4, if_pos c11, if_neg (z_nIs k1 k3), if_neg (show ¬ 0 ≤ z_I h 81 (z_c o) by rw [f1]; decide)]
        · obtain ⟨u1, u2, u3, u4, u5, u6, u7, u9, u8⟩ := id hu
          by_cases hsu : s = u
          · subst hsu
            have e0 : m_X6_shift h t i o j n = if n < 0 then -13 else if i < 0 then -13 else if j < 0 then -13 else if nI n0 - n < i then -13 else if j ≤ nI n1 - n then n else -13 := by
              unfold m_X6_shift
              rw [if_pos c4, if_pos c11, if_neg (z_nIs k1 k3), if_pos (z_s0 u1 u3), if_pos (show z_I h 81 (z_c t) = z_I h 81 (z_c o) by rw [k3, u3]), k4, u4]
            by_cases hbad : i < 0 ∨ j < 0 ∨ n < 0 ∨ i.toInt + n.toInt > n0 ∨ j.toInt + n.toInt > n1
            · have em : (-13 : Int32) = m_X6_shift h t i o j n := by
                rw [e0]
                by_cases g1 : n < 0
                · rw [if_pos g1]
                by_cases g2 : i < 0
                · rw [if_neg g1, if_pos g2]
                by_cases g3 : j < 0
                · rw [if_neg g1, if_neg g2, if_pos g3]
                by_cases g4 : nI n0 - n < i
                · rw [if_neg g1, if_neg g2, if_neg g3, if_pos g4]
                rw [if_neg g1, if_neg g2, if_neg g3, if_neg g4, if_neg]
                rw [(z_shb (i := j) u2 g1).2]
                rw [(z_shb (i := i) k2 g1).1] at g4
                rcases hbad with q | q | q | q | q
                · exact absurd q g2
                · exact absurd q g3
                · exact absurd q g1
                · exact absurd q g4
                · exact fun w => w q
              refine z_aload_n dX0_shift_16 rfl rfl ?_
              refine z_getR 33 dX0_shift_17 fl_X0_84_0 (hF.1 16 _ rfl) rfl (hF.2.1 16 21 33 rfl) ?_
              refine z_iload_n dX0_shift_20 rfl rfl ?_
              refine z_aald (z_c t) (43 + z_c t) dX0_shift_21 (hF.1 33 _ rfl) (by simp [z_at]) ht.1 (by have := ht.2; omega) (by decide) (z_t33 hF _ ht.2).1 ?_
              refine z_getR b0 dX0_shift_22 fl_X0_323_5 (z_t33 hF _ ht.2).2 rfl k5 ?_
              refine z_iload_n dX0_shift_25 rfl rfl ?_
              refine z_aload_n dX0_shift_26 rfl rfl ?_
              refine z_getR 33 dX0_shift_27 fl_X0_84_0 (hF.1 16 _ rfl) rfl (hF.2.1 16 21 33 rfl) ?_
              refine z_iload_n dX0_shift_30 rfl rfl ?_
              refine z_aald (z_c o) (43 + z_c o) dX0_shift_31 (hF.1 33 _ rfl) (by simp [z_at]) ho.1 (by have := ho.2; omega) (by decide) (z_t33 hF _ ho.2).1 ?_
              refine z_getR b1 dX0_shift_32 fl_X0_323_5 (z_t33 hF _ ho.2).2 rfl u5 ?_
              refine z_iload dX0_shift_35 rfl ?_
              refine z_iload dX0_shift_37 rfl ?_
              refine z_acB dX0_shift_39 q1245 (Nat.le_of_ble_eq_true rfl) k7 u7 (z_so_at s) (by omega) (by omega) hbad (fun text nf hok w1 w2 w3 => ?_)
              refine z_toMsg (n := 4) w1 w2 w3 (by decide) mw_aio (by decide) hok.1 hok.2 (Nat.le_of_ble_eq_true rfl) (Nat.le_of_ble_eq_true rfl) (Nat.le_of_ble_eq_true rfl) ?_
              refine z_thCatch (z_Xo_M h 4 (by decide)) [(16, 44, 45, 318), (16, 44, 50, 394)] [] rfl (fun y hy => ?_) ⟨by decide, by decide⟩ (by decide) q1419 q2053 ?_
              · simp only [List.mem_cons, List.not_mem_nil, or_false] at hy
                rcases hy with rfl | rfl
                · exact Or.inr ⟨⟨by decide, by decide⟩, by decide, _, q1221, nca_aio_npe⟩
                · exact Or.inr ⟨⟨by decide, by decide⟩, by decide, _, q1405, nca_aio_ase⟩
              refine z_astore dX0_shift_55 (by decide) rfl ?_
              refine z_bipush (v := (-13)) dX0_shift_57 rfl ?_
              exact z_iret dX0_shift_59 rfl rfl (Nat.le_of_ble_eq_true rfl) (Nat.le_of_ble_eq_true rfl) (z_rI_i ⟨em, Or.inl ⟨by decide, z_gr.xM h 4⟩⟩)
            · have g1 : ¬ i < 0 := fun q => hbad (Or.inl q)
              have g2 : ¬ j < 0 := fun q => hbad (Or.inr (Or.inl q))
              have g3 : ¬ n < 0 := fun q => hbad (Or.inr (Or.inr (Or.inl q)))
              have g4 : ¬ i.toInt + n.toInt > n0 := fun q => hbad (Or.inr (Or.inr (Or.inr (Or.inl q))))
              have g5 : ¬ j.toInt + n.toInt > n1 := fun q => hbad (Or.inr (Or.inr (Or.inr (Or.inr q))))
              have em : n = m_X6_shift h t i o j n := by
                rw [e0, if_neg g3, if_neg g1, if_neg g2, if_neg (fun q => g4 ((z_shb (i := i) k2 g3).1.mp q)), if_pos ((z_shb (i := j) u2 g3).2.mpr g5)]
              have cv : ∀ x : Int32, ¬ x < 0 → nI (z_c x) = x ∧ x.toInt = (z_c x : Int) := fun x hx => by
                have w := z_nc x (Int32.not_lt.mp hx)
                refine ⟨w.symm, ?_⟩
                have q := x.toNatClampNeg_lt
                conv => lhs; rw [w]
                exact nI_toInt (by unfold z_c; omega)
              obtain ⟨ei, ei2⟩ := cv i g1
              obtain ⟨ej, ej2⟩ := cv j g2
              obtain ⟨en, en2⟩ := cv n g3
              have hb0 : z_c i + z_c n ≤ n0 := by omega
              have hb1 : z_c j + z_c n ≤ n1 := by omega
              refine z_aload_n dX0_shift_16 rfl rfl ?_
              refine z_getR 33 dX0_shift_17 fl_X0_84_0 (hF.1 16 _ rfl) rfl (hF.2.1 16 21 33 rfl) ?_
              refine z_iload_n dX0_shift_20 rfl rfl ?_
              refine z_aald (z_c t) (43 + z_c t) dX0_shift_21 (hF.1 33 _ rfl) (by simp [z_at]) ht.1 (by have := ht.2; omega) (by decide) (z_t33 hF _ ht.2).1 ?_
              refine z_getR b0 dX0_shift_22 fl_X0_323_5 (z_t33 hF _ ht.2).2 rfl k5 ?_
              refine z_iload_n dX0_shift_25 rfl rfl ?_
              refine z_aload_n dX0_shift_26 rfl rfl ?_
              refine z_getR 33 dX0_shift_27 fl_X0_84_0 (hF.1 16 _ rfl) rfl (hF.2.1 16 21 33 rfl) ?_
              refine z_iload_n dX0_shift_30 rfl rfl ?_
              refine z_aald (z_c o) (43 + z_c o) dX0_shift_31 (hF.1 33 _ rfl) (by simp [z_at]) ho.1 (by have := ho.2; omega) (by decide) (z_t33 hF _ ho.2).1 ?_
              refine z_getR b1 dX0_shift_32 fl_X0_323_5 (z_t33 hF _ ho.2).2 rfl u5 ?_
              refine z_iload dX0_shift_35 rfl ?_
              refine z_iload dX0_shift_37 rfl ?_
              refine z_acopy dX0_shift_39 q1245 k7 u7 (z_so_at s) (Nat.le_trans (by decide) u6) en.symm ej.symm ei.symm hb0 hb1 ⟨by omega, by omega⟩ (z_so_v k1 k9.2 hb0) (Nat.le_of_ble_eq_true rfl) ?_
              refine z_iload dX0_shift_42 rfl ?_
              exact z_iret dX0_shift_44 rfl rfl (Nat.le_of_ble_eq_true rfl) (Nat.le_of_ble_eq_true rfl) (z_rI_i ⟨em, Or.inr ⟨Int32.not_lt.mp g3, c4, c11, s, n0, n1, b0, b1, hk, hu, ei.symm, ej.symm, en.symm, hb0, hb1, rfl⟩⟩)
          · skip
            refine z_aload_n dX0_shift_16 rfl rfl ?_
            refine z_getR 33 dX0_shift_17 fl_X0_84_0 (hF.1 16 _ rfl) rfl (hF.2.1 16 21 33 rfl) ?_
            refine z_iload_n dX0_shift_20 rfl rfl ?_
            refine z_aald (z_c t) (43 + z_c t) dX0_shift_21 (hF.1 33 _ rfl) (by simp [z_at]) ht.1 (by have := ht.2; omega) (by decide) (z_t33 hF _ ht.2).1 ?_
            refine z_getR b0 dX0_shift_22 fl_X0_323_5 (z_t33 hF _ ht.2).2 rfl k5 ?_
            refine z_iload_n dX0_shift_25 rfl rfl ?_
            refine z_aload_n dX0_shift_26 rfl rfl ?_
            refine z_getR 33 dX0_shift_27 fl_X0_84_0 (hF.1 16 _ rfl) rfl (hF.2.1 16 21 33 rfl) ?_
            refine z_iload_n dX0_shift_30 rfl rfl ?_
            refine z_aald (z_c o) (43 + z_c o) dX0_shift_31 (hF.1 33 _ rfl) (by simp [z_at]) ho.1 (by have := ho.2; omega) (by decide) (z_t33 hF _ ho.2).1 ?_
            refine z_getR b1 dX0_shift_32 fl_X0_323_5 (z_t33 hF _ ho.2).2 rfl u5 ?_
            refine z_iload dX0_shift_35 rfl ?_
            refine z_iload dX0_shift_37 rfl ?_
            refine z_acT dX0_shift_39 q1245 (Nat.le_of_ble_eq_true rfl) k7 u7 (z_so_at s) (z_so_at u) (z_so_ne k1 u1 hsu) (fun text nf hok w1 w2 w3 => ?_)
            refine z_toMsg (n := 3) w1 w2 w3 (by decide) mw_ase (by decide) hok.1 hok.2 (Nat.le_of_ble_eq_true rfl) (Nat.le_of_ble_eq_true rfl) (Nat.le_of_ble_eq_true rfl) ?_
            refine z_thCatch (z_Xo_M h 3 (by decide)) [(16, 44, 45, 318)] [(16, 44, 55, 396)] rfl (fun y hy => ?_) ⟨by decide, by decide⟩ (by decide) q1405 q1417 ?_
            · simp only [List.mem_cons, List.not_mem_nil, or_false] at hy
              subst hy
              exact Or.inr ⟨⟨by decide, by decide⟩, by decide, _, q1221, nca_ase_npe⟩
            refine z_astore dX0_shift_50 (by decide) rfl ?_
            refine z_bipush (v := (-12)) dX0_shift_52 rfl ?_
            refine z_iret dX0_shift_54 rfl rfl (Nat.le_of_ble_eq_true rfl) (Nat.le_of_ble_eq_true rfl) (z_rI_i ⟨?_, Or.inl ⟨by decide, z_gr.xM h 3⟩⟩)
            unfold m_X6_shift
            rw [if_pos c4, if_pos c11, if_neg (z_nIs k1 k3), if_pos (z_s0 u1 u3), if_neg (show ¬ z_I h 81 (z_c t) = z_I h 81 (z_c o) by rw [k3, u3, z_nIe k1 u1]; exact hsu)]
    · refine z_iconst (v := (-1)) dX0_shift_14 rfl ?_
      refine z_iret dX0_shift_15 rfl rfl (Nat.le_of_ble_eq_true rfl) (Nat.le_of_ble_eq_true rfl) (z_rI_i ?_)
      refine ⟨?_, Or.inl ⟨by decide, z_gr.refl h⟩⟩
      unfold m_X6_shift; rw [if_pos (show m_X0_isTape h t from c4), if_neg (show ¬ (m_X0_isTape h o) from c11)]
