/-! STRING LITERALS: length, charAt (printed by class32.py) -/
set_option maxRecDepth 20000
/-- a literal: its bytes -/
def z_Sx (h : z_H) (s v : Nat) (ws : List Int32) : Prop := z_T h s = some (.inl 22) ∧ z_R h s 0 = some v ∧ z_I h s 1 = 0 ∧ z_T h v = some (.inr (.byte, ws.length)) ∧ ws.length < 100 ∧ ∀ k x, ws[k]? = some x → z_I h v k = x ∧ ((x &&& 255).toUInt32 % 65536).toInt32 = x ∧ (x.toUInt32 % 65536).toInt32 = x
theorem c_J5_checkIndex' {Γ : z_W} {h : z_H} {i n : Nat} {v : Value} (hv : v = .null ∨ v = .ref 11) (hi : i < n) (hn : n < 2 ^ 31) : z_C Γ M_J5_checkIndex (z_rm 1 0 0) [.int (nI i), .int (nI n), v] h (z_ri (nI i) h) := by
  refine z_C.ofF (by decide +kernel) rfl [some (.int (nI i)), some (.int (nI n)), some v] (by rcases hv with rfl | rfl <;> exact Nat.le_of_ble_eq_true rfl) (by rcases hv with rfl | rfl <;> rfl) ?_
  refine z_iload_n dJ5_checkIndex_0 rfl rfl ?_
  refine z_if_lt 9 dJ5_checkIndex_1 (by decide) (fun q => absurd q (Int32.not_lt.mpr (nI_le (a := 0) (Nat.zero_le i) (by omega)))) (fun _ => ?_)
  refine z_iload_n dJ5_checkIndex_4 rfl rfl ?_
  refine z_iload_n dJ5_checkIndex_5 rfl rfl ?_
  refine z_icmp_lt 16 dJ5_checkIndex_6 (by decide) (fun _ => ?_) (fun q => absurd (nI_lt hi hn) q)
  refine z_iload_n dJ5_checkIndex_16 rfl rfl ?_
  exact z_iret dJ5_checkIndex_17 rfl rfl (Nat.le_refl _) (Nat.le_refl _) (z_ri_i rfl rfl)
theorem c_J6_checkIndex {Γ : z_W} {h : z_H} {i n : Nat} (hi : i < n) (hn : n < 2 ^ 31) : z_C Γ M_J6_checkIndex (z_rm 2 0 0) [.int (nI i), .int (nI n)] h (z_rv h) := by
  refine z_C.ofF (by decide +kernel) rfl [some (.int (nI i)), some (.int (nI n))] (Nat.le_of_ble_eq_true rfl) rfl ?_
  refine z_iload_n dJ6_checkIndex_0 rfl rfl ?_
  refine z_iload_n dJ6_checkIndex_1 rfl rfl ?_
  refine z_getsF dJ6_checkIndex_2 q719 (fun v hv => ?_)
  refine z_scall sl_J6_1059 (c_J5_checkIndex' hv hi hn) dJ6_checkIndex_5 rfl rfl ⟨by decide, by decide⟩ (Nat.le_of_ble_eq_true rfl) (Nat.le_refl _) (Nat.le_refl _) (z_cI ?_) z_tI
  refine z_pop dJ6_checkIndex_8 rfl ?_
  exact z_vret dJ6_checkIndex_9 rfl (Nat.le_refl _) (Nat.le_refl _) (z_rv_i rfl)
theorem c_J7_charAt {Γ : z_W} {h : z_H} {v k : Nat} {ws : List Int32} {x : Int32} (hT : z_T h v = some (.inr (.byte, ws.length))) (hl : ws.length < 100) (hx : ws[k]? = some x) (he : z_I h v k = x ∧ ((x &&& 255).toUInt32 % 65536).toInt32 = x ∧ (x.toUInt32 % 65536).toInt32 = x) : z_C Γ M_J7_charAt (z_rm 3 0 0) [.ref v, .int (nI k)] h (z_ri x h) := by
  have hk : k < ws.length := (List.getElem?_eq_some_iff.mp hx).1
  refine z_C.ofF (by decide +kernel) rfl [some (.ref v), some (.int (nI k))] (Nat.le_of_ble_eq_true rfl) rfl ?_
  refine z_iload_n dJ7_charAt_0 rfl rfl ?_
  refine z_aload_n dJ7_charAt_1 rfl rfl ?_
  refine z_alen dJ7_charAt_2 hT (by simp [z_at]) ?_
  refine z_scall sl_J7_9 (c_J6_checkIndex hk (by omega)) dJ7_charAt_3 rfl rfl ⟨by decide, by decide⟩ (Nat.le_of_ble_eq_true rfl) (Nat.le_refl _) (Nat.le_refl _) (z_cV ?_) z_tV
  refine z_aload_n dJ7_charAt_6 rfl rfl ?_
  refine z_iload_n dJ7_charAt_7 rfl rfl ?_
  refine z_bald k dJ7_charAt_8 hT rfl hk (by omega) ?_
  refine z_eqi x he.1 ?_
  refine z_sipush (v := 255) dJ7_charAt_9 rfl ?_
  refine z_iand dJ7_charAt_12 ?_
  refine z_i2c (v := x) dJ7_charAt_13 he.2.1 ?_
  refine z_iret dJ7_charAt_14 rfl ?_ (Nat.le_refl _) (Nat.le_refl _) (z_ri_i rfl rfl)
  exact congrArg Value.int he.2.2
theorem c_J6_coder {Γ : z_W} {h : z_H} {s v : Nat} {ws : List Int32} (hS : z_Sx h s v ws) : z_C Γ M_J6_coder (z_rm 1 0 0) [.ref s] h (z_ri 0 h) := by
  refine z_C.ofF (by decide +kernel) rfl [some (.ref s)] (Nat.le_of_ble_eq_true rfl) rfl ?_
  refine z_gets dJ6_coder_0 q703 z_svC ?_
  refine z_if_eq 13 dJ6_coder_3 (by decide) (fun q => absurd q (by decide)) (fun _ => ?_)
  refine z_aload_n dJ6_coder_6 rfl rfl ?_
  refine z_getI dJ6_coder_7 fl_J6_15_22 hS.1 rfl ?_
  refine z_eqi 0 hS.2.2.1 ?_
  refine z_goto 14 dJ6_coder_10 (by decide) ?_
  exact z_iret dJ6_coder_14 rfl rfl (Nat.le_refl _) (Nat.le_refl _) (z_ri_i rfl rfl)
theorem c_J6_isLatin1 {Γ : z_W} {h : z_H} {s v : Nat} {ws : List Int32} (hS : z_Sx h s v ws) : z_C Γ M_J6_isLatin1 (z_rm 1 0 0) [.ref s] h (z_ri 1 h) := by
  refine z_C.ofF (by decide +kernel) rfl [some (.ref s)] (Nat.le_of_ble_eq_true rfl) rfl ?_
  refine z_gets dJ6_isLatin1_0 q703 z_svC ?_
  refine z_if_eq 17 dJ6_isLatin1_3 (by decide) (fun q => absurd q (by decide)) (fun _ => ?_)
  refine z_aload_n dJ6_isLatin1_6 rfl rfl ?_
  refine z_getI dJ6_isLatin1_7 fl_J6_15_22 hS.1 rfl ?_
  refine z_eqi 0 hS.2.2.1 ?_
  refine z_if_ne 17 dJ6_isLatin1_10 (by decide) (fun q => absurd rfl q) (fun _ => ?_)
  refine z_iconst (v := 1) dJ6_isLatin1_13 rfl ?_
  refine z_goto 18 dJ6_isLatin1_14 (by decide) ?_
  exact z_iret dJ6_isLatin1_18 rfl rfl (Nat.le_refl _) (Nat.le_refl _) (z_ri_i rfl rfl)
theorem c_J6_length {Γ : z_W} {h : z_H} {s v : Nat} {ws : List Int32} (hS : z_Sx h s v ws) : z_C Γ M_J6_length (z_rm 2 0 0) [.ref s] h (z_ri (nI ws.length) h) := by
  refine z_C.ofF (by decide +kernel) rfl [some (.ref s)] (Nat.le_of_ble_eq_true rfl) rfl ?_
  refine z_aload_n dJ6_length_0 rfl rfl ?_
  refine z_getR v dJ6_length_1 fl_J6_9_22 hS.1 rfl hS.2.1 ?_
  refine z_alen dJ6_length_4 hS.2.2.2.1 (by simp [z_at]) ?_
  refine z_aload_n dJ6_length_5 rfl rfl ?_
  refine z_vcall vl_J6_335_22 (c_J6_coder hS) dJ6_length_6 rfl rfl hS.1 ⟨by decide, by decide⟩ (Nat.le_of_ble_eq_true rfl) (Nat.le_refl _) (Nat.le_refl _) (z_cI ?_) z_tI
  refine z_ishr dJ6_length_9 ?_
  refine z_iret dJ6_length_10 rfl rfl (Nat.le_refl _) (Nat.le_refl _) (z_ri_i ?_ rfl)
  show nI ws.length >>> (0 : Int32) = nI ws.length
  exact Int32.shiftRight_zero
theorem c_J6_charAt {Γ : z_W} {h : z_H} {s v k : Nat} {ws : List Int32} {x : Int32} (hS : z_Sx h s v ws) (hx : ws[k]? = some x) : z_C Γ M_J6_charAt (z_rm 4 0 0) [.ref s, .int (nI k)] h (z_ri x h) := by
  refine z_C.ofF (by decide +kernel) rfl [some (.ref s), some (.int (nI k))] (Nat.le_of_ble_eq_true rfl) rfl ?_
  refine z_aload_n dJ6_charAt_0 rfl rfl ?_
  refine z_vcall vl_J6_492_22 (c_J6_isLatin1 hS) dJ6_charAt_1 rfl rfl hS.1 ⟨by decide, by decide⟩ (Nat.le_of_ble_eq_true rfl) (Nat.le_refl _) (Nat.le_refl _) (z_cI ?_) z_tI
  refine z_if_eq 16 dJ6_charAt_4 (by decide) (fun q => absurd q (by decide)) (fun _ => ?_)
  refine z_aload_n dJ6_charAt_7 rfl rfl ?_
  refine z_getR v dJ6_charAt_8 fl_J6_9_22 hS.1 rfl hS.2.1 ?_
  refine z_iload_n dJ6_charAt_11 rfl rfl ?_
  refine z_scall sl_J6_495 (c_J7_charAt hS.2.2.2.1 hS.2.2.2.2.1 hx (hS.2.2.2.2.2 k x hx)) dJ6_charAt_12 rfl rfl ⟨by decide, by decide⟩ (Nat.le_of_ble_eq_true rfl) (Nat.le_refl _) (Nat.le_refl _) (z_cI ?_) z_tI
  refine z_iret dJ6_charAt_15 rfl ?_ (Nat.le_refl _) (Nat.le_refl _) (z_ri_i rfl rfl)
  exact congrArg Value.int (hS.2.2.2.2.2 k x hx).2.2
