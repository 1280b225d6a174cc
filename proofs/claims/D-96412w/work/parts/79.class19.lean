/-! THE CLASS: lift (printed by class19.py) -/
set_option maxRecDepth 20000
theorem z_In_lo {h : z_H} (hF : z_F h) {t : Nat ⊕ (FieldType × Nat)} {a k : Nat} (ha : a < 85) : z_I (z_new h t) a k = z_I h a k := by
  rw [z_In, if_neg (by have := hF.2.2; omega)]
theorem z_Rn_lo {h : z_H} (hF : z_F h) {t : Nat ⊕ (FieldType × Nat)} {a k : Nat} (ha : a < 85) : z_R (z_new h t) a k = z_R h a k := by
  rw [z_Rn, if_neg (by have := hF.2.2; omega)]
/-- a lift's fields are set -/
def a_li (h : z_H) (L : Nat) (n v m : Int32) : z_H := z_sI (z_sI (z_sI (z_sR h L 0 (some 26)) L 1 n) L 2 v) L 3 m
/-- a new lift -/
def a_nl (h : z_H) (k : Nat) (v m : Int32) : z_H := if k = 6 then z_sR (a_li (z_new h (.inl 13)) (z_n h) (z_I h 16 3) v m) (z_n h) 4 (some 19) else a_li (z_new h (.inl (7 + k))) (z_n h) (z_I h 16 3) v m
theorem c_X7_init_7 {Γ : z_W} {h : z_H} {L : Nat} {n v m : Int32} (hT : z_T h L = some (.inl 7)) (hL : z_o ≤ L) : z_C Γ M_X7_init (z_rm 1 0 0) [.ref L, .ref 26, .int n, .int v, .int m] h (z_rv (a_li h L n v m)) := by
  refine z_C.of (by decide +kernel) rfl [some (.ref L), some (.ref 26), some (.int n), some (.int v), some (.int m)] (Nat.le_of_ble_eq_true rfl) rfl ?_
  refine z_aload_n dX7_init_0 rfl rfl ?_
  refine z_objInit dX7_init_1 q413 q135 q136 (Nat.le_of_ble_eq_true rfl) ⟨by decide, by decide⟩ ?_
  refine z_aload_n dX7_init_4 rfl rfl ?_
  refine z_aload_n dX7_init_5 rfl rfl ?_
  refine z_putR dX7_init_6 pf_X7_init_7_7 hT hL rfl ?_
  refine z_aload_n dX7_init_9 rfl rfl ?_
  refine z_iload_n dX7_init_10 rfl rfl ?_
  refine z_putI dX7_init_11 pf_X7_init_13_7 hT hL rfl ?_
  refine z_aload_n dX7_init_14 rfl rfl ?_
  refine z_iload_n dX7_init_15 rfl rfl ?_
  refine z_putI dX7_init_16 pf_X7_init_17_7 hT hL rfl ?_
  refine z_aload_n dX7_init_19 rfl rfl ?_
  refine z_iload dX7_init_20 rfl ?_
  refine z_putI dX7_init_22 pf_X7_init_20_7 hT hL rfl ?_
  refine z_vret dX7_init_25 rfl (Nat.le_refl _) (Nat.le_refl _) (z_rv_i ?_)
  rfl
theorem c_X7_init_8 {Γ : z_W} {h : z_H} {L : Nat} {n v m : Int32} (hT : z_T h L = some (.inl 8)) (hL : z_o ≤ L) : z_C Γ M_X7_init (z_rm 1 0 0) [.ref L, .ref 26, .int n, .int v, .int m] h (z_rv (a_li h L n v m)) := by
  refine z_C.of (by decide +kernel) rfl [some (.ref L), some (.ref 26), some (.int n), some (.int v), some (.int m)] (Nat.le_of_ble_eq_true rfl) rfl ?_
  refine z_aload_n dX7_init_0 rfl rfl ?_
  refine z_objInit dX7_init_1 q413 q135 q136 (Nat.le_of_ble_eq_true rfl) ⟨by decide, by decide⟩ ?_
  refine z_aload_n dX7_init_4 rfl rfl ?_
  refine z_aload_n dX7_init_5 rfl rfl ?_
  refine z_putR dX7_init_6 pf_X7_init_7_8 hT hL rfl ?_
  refine z_aload_n dX7_init_9 rfl rfl ?_
  refine z_iload_n dX7_init_10 rfl rfl ?_
  refine z_putI dX7_init_11 pf_X7_init_13_8 hT hL rfl ?_
  refine z_aload_n dX7_init_14 rfl rfl ?_
  refine z_iload_n dX7_init_15 rfl rfl ?_
  refine z_putI dX7_init_16 pf_X7_init_17_8 hT hL rfl ?_
  refine z_aload_n dX7_init_19 rfl rfl ?_
  refine z_iload dX7_init_20 rfl ?_
  refine z_putI dX7_init_22 pf_X7_init_20_8 hT hL rfl ?_
  refine z_vret dX7_init_25 rfl (Nat.le_refl _) (Nat.le_refl _) (z_rv_i ?_)
  rfl
theorem c_X7_init_9 {Γ : z_W} {h : z_H} {L : Nat} {n v m : Int32} (hT : z_T h L = some (.inl 9)) (hL : z_o ≤ L) : z_C Γ M_X7_init (z_rm 1 0 0) [.ref L, .ref 26, .int n, .int v, .int m] h (z_rv (a_li h L n v m)) := by
  refine z_C.of (by decide +kernel) rfl [some (.ref L), some (.ref 26), some (.int n), some (.int v), some (.int m)] (Nat.le_of_ble_eq_true rfl) rfl ?_
  refine z_aload_n dX7_init_0 rfl rfl ?_
  refine z_objInit dX7_init_1 q413 q135 q136 (Nat.le_of_ble_eq_true rfl) ⟨by decide, by decide⟩ ?_
  refine z_aload_n dX7_init_4 rfl rfl ?_
  refine z_aload_n dX7_init_5 rfl rfl ?_
  refine z_putR dX7_init_6 pf_X7_init_7_9 hT hL rfl ?_
  refine z_aload_n dX7_init_9 rfl rfl ?_
  refine z_iload_n dX7_init_10 rfl rfl ?_
  refine z_putI dX7_init_11 pf_X7_init_13_9 hT hL rfl ?_
  refine z_aload_n dX7_init_14 rfl rfl ?_
  refine z_iload_n dX7_init_15 rfl rfl ?_
  refine z_putI dX7_init_16 pf_X7_init_17_9 hT hL rfl ?_
  refine z_aload_n dX7_init_19 rfl rfl ?_
  refine z_iload dX7_init_20 rfl ?_
  refine z_putI dX7_init_22 pf_X7_init_20_9 hT hL rfl ?_
  refine z_vret dX7_init_25 rfl (Nat.le_refl _) (Nat.le_refl _) (z_rv_i ?_)
  rfl
theorem c_X7_init_10 {Γ : z_W} {h : z_H} {L : Nat} {n v m : Int32} (hT : z_T h L = some (.inl 10)) (hL : z_o ≤ L) : z_C Γ M_X7_init (z_rm 1 0 0) [.ref L, .ref 26, .int n, .int v, .int m] h (z_rv (a_li h L n v m)) := by
  refine z_C.of (by decide +kernel) rfl [some (.ref L), some (.ref 26), some (.int n), some (.int v), some (.int m)] (Nat.le_of_ble_eq_true rfl) rfl ?_
  refine z_aload_n dX7_init_0 rfl rfl ?_
  refine z_objInit dX7_init_1 q413 q135 q136 (Nat.le_of_ble_eq_true rfl) ⟨by decide, by decide⟩ ?_
  refine z_aload_n dX7_init_4 rfl rfl ?_
  refine z_aload_n dX7_init_5 rfl rfl ?_
  refine z_putR dX7_init_6 pf_X7_init_7_10 hT hL rfl ?_
  refine z_aload_n dX7_init_9 rfl rfl ?_
  refine z_iload_n dX7_init_10 rfl rfl ?_
  refine z_putI dX7_init_11 pf_X7_init_13_10 hT hL rfl ?_
  refine z_aload_n dX7_init_14 rfl rfl ?_
  refine z_iload_n dX7_init_15 rfl rfl ?_
  refine z_putI dX7_init_16 pf_X7_init_17_10 hT hL rfl ?_
  refine z_aload_n dX7_init_19 rfl rfl ?_
  refine z_iload dX7_init_20 rfl ?_
  refine z_putI dX7_init_22 pf_X7_init_20_10 hT hL rfl ?_
  refine z_vret dX7_init_25 rfl (Nat.le_refl _) (Nat.le_refl _) (z_rv_i ?_)
  rfl
theorem c_X7_init_11 {Γ : z_W} {h : z_H} {L : Nat} {n v m : Int32} (hT : z_T h L = some (.inl 11)) (hL : z_o ≤ L) : z_C Γ M_X7_init (z_rm 1 0 0) [.ref L, .ref 26, .int n, .int v, .int m] h (z_rv (a_li h L n v m)) := by
  refine z_C.of (by decide +kernel) rfl [some (.ref L), some (.ref 26), some (.int n), some (.int v), some (.int m)] (Nat.le_of_ble_eq_true rfl) rfl ?_
  refine z_aload_n dX7_init_0 rfl rfl ?_
  refine z_objInit dX7_init_1 q413 q135 q136 (Nat.le_of_ble_eq_true rfl) ⟨by decide, by decide⟩ ?_
  refine z_aload_n dX7_init_4 rfl rfl ?_
  refine z_aload_n dX7_init_5 rfl rfl ?_
  refine z_putR dX7_init_6 pf_X7_init_7_11 hT hL rfl ?_
  refine z_aload_n dX7_init_9 rfl rfl ?_
  refine z_iload_n dX7_init_10 rfl rfl ?_
  refine z_putI dX7_init_11 pf_X7_init_13_11 hT hL rfl ?_
  refine z_aload_n dX7_init_14 rfl rfl ?_
  refine z_iload_n dX7_init_15 rfl rfl ?_
  refine z_putI dX7_init_16 pf_X7_init_17_11 hT hL rfl ?_
  refine z_aload_n dX7_init_19 rfl rfl ?_
  refine z_iload dX7_init_20 rfl ?_
  refine z_putI dX7_init_22 pf_X7_init_20_11 hT hL rfl ?_
  refine z_vret dX7_init_25 rfl (Nat.le_refl _) (Nat.le_refl _) (z_rv_i ?_)
  rfl
theorem c_X7_init_12 {Γ : z_W} {h : z_H} {L : Nat} {n v m : Int32} (hT : z_T h L = some (.inl 12)) (hL : z_o ≤ L) : z_C Γ M_X7_init (z_rm 1 0 0) [.ref L, .ref 26, .int n, .int v, .int m] h (z_rv (a_li h L n v m)) := by
  refine z_C.of (by decide +kernel) rfl [some (.ref L), some (.ref 26), some (.int n), some (.int v), some (.int m)] (Nat.le_of_ble_eq_true rfl) rfl ?_
  refine z_aload_n dX7_init_0 rfl rfl ?_
  refine z_objInit dX7_init_1 q413 q135 q136 (Nat.le_of_ble_eq_true rfl) ⟨by decide, by decide⟩ ?_
  refine z_aload_n dX7_init_4 rfl rfl ?_
  refine z_aload_n dX7_init_5 rfl rfl ?_
  refine z_putR dX7_init_6 pf_X7_init_7_12 hT hL rfl ?_
  refine z_aload_n dX7_init_9 rfl rfl ?_
  refine z_iload_n dX7_init_10 rfl rfl ?_
  refine z_putI dX7_init_11 pf_X7_init_13_12 hT hL rfl ?_
  refine z_aload_n dX7_init_14 rfl rfl ?_
  refine z_iload_n dX7_init_15 rfl rfl ?_
  refine z_putI dX7_init_16 pf_X7_init_17_12 hT hL rfl ?_
  refine z_aload_n dX7_init_19 rfl rfl ?_
  refine z_iload dX7_init_20 rfl ?_
  refine z_putI dX7_init_22 pf_X7_init_20_12 hT hL rfl ?_
  refine z_vret dX7_init_25 rfl (Nat.le_refl _) (Nat.le_refl _) (z_rv_i ?_)
  rfl
theorem c_X7_init_13 {Γ : z_W} {h : z_H} {L : Nat} {n v m : Int32} (hT : z_T h L = some (.inl 13)) (hL : z_o ≤ L) : z_C Γ M_X7_init (z_rm 1 0 0) [.ref L, .ref 26, .int n, .int v, .int m] h (z_rv (a_li h L n v m)) := by
  refine z_C.of (by decide +kernel) rfl [some (.ref L), some (.ref 26), some (.int n), some (.int v), some (.int m)] (Nat.le_of_ble_eq_true rfl) rfl ?_
  refine z_aload_n dX7_init_0 rfl rfl ?_
  refine z_objInit dX7_init_1 q413 q135 q136 (Nat.le_of_ble_eq_true rfl) ⟨by decide, by decide⟩ ?_
  refine z_aload_n dX7_init_4 rfl rfl ?_
  refine z_aload_n dX7_init_5 rfl rfl ?_
  refine z_putR dX7_init_6 pf_X7_init_7_13 hT hL rfl ?_
  refine z_aload_n dX7_init_9 rfl rfl ?_
  refine z_iload_n dX7_init_10 rfl rfl ?_
  refine z_putI dX7_init_11 pf_X7_init_13_13 hT hL rfl ?_
  refine z_aload_n dX7_init_14 rfl rfl ?_
  refine z_iload_n dX7_init_15 rfl rfl ?_
  refine z_putI dX7_init_16 pf_X7_init_17_13 hT hL rfl ?_
  refine z_aload_n dX7_init_19 rfl rfl ?_
  refine z_iload dX7_init_20 rfl ?_
  refine z_putI dX7_init_22 pf_X7_init_20_13 hT hL rfl ?_
  refine z_vret dX7_init_25 rfl (Nat.le_refl _) (Nat.le_refl _) (z_rv_i ?_)
  rfl
theorem c_X8_init_8 {Γ : z_W} {h : z_H} {L : Nat} {n v m : Int32} (hT : z_T h L = some (.inl 8)) (hL : z_o ≤ L) : z_C Γ M_X8_init (z_rm 2 0 0) [.ref L, .ref 26, .int n, .int v, .int m] h (z_rv (a_li h L n v m)) := by
  refine z_C.of (by decide +kernel) rfl [some (.ref L), some (.ref 26), some (.int n), some (.int v), some (.int m)] (Nat.le_of_ble_eq_true rfl) rfl ?_
  refine z_aload_n dX8_init_0 rfl rfl ?_
  refine z_aload_n dX8_init_1 rfl rfl ?_
  refine z_iload_n dX8_init_2 rfl rfl ?_
  refine z_iload_n dX8_init_3 rfl rfl ?_
  refine z_iload dX8_init_4 rfl ?_
  refine z_icall il_X8_3 (c_X7_init_8 hT hL) dX8_init_6 rfl rfl ⟨by decide, by decide⟩ (Nat.le_of_ble_eq_true rfl) (Nat.le_refl _) (Nat.le_refl _) (z_cV ?_) z_tV
  refine z_vret dX8_init_9 rfl (Nat.le_refl _) (Nat.le_refl _) (z_rv_i ?_)
  rfl
theorem c_X8_init_11 {Γ : z_W} {h : z_H} {L : Nat} {n v m : Int32} (hT : z_T h L = some (.inl 11)) (hL : z_o ≤ L) : z_C Γ M_X8_init (z_rm 2 0 0) [.ref L, .ref 26, .int n, .int v, .int m] h (z_rv (a_li h L n v m)) := by
  refine z_C.of (by decide +kernel) rfl [some (.ref L), some (.ref 26), some (.int n), some (.int v), some (.int m)] (Nat.le_of_ble_eq_true rfl) rfl ?_
  refine z_aload_n dX8_init_0 rfl rfl ?_
  refine z_aload_n dX8_init_1 rfl rfl ?_
  refine z_iload_n dX8_init_2 rfl rfl ?_
  refine z_iload_n dX8_init_3 rfl rfl ?_
  refine z_iload dX8_init_4 rfl ?_
  refine z_icall il_X8_3 (c_X7_init_11 hT hL) dX8_init_6 rfl rfl ⟨by decide, by decide⟩ (Nat.le_of_ble_eq_true rfl) (Nat.le_refl _) (Nat.le_refl _) (z_cV ?_) z_tV
  refine z_vret dX8_init_9 rfl (Nat.le_refl _) (Nat.le_refl _) (z_rv_i ?_)
  rfl
theorem c_X9_init_9 {Γ : z_W} {h : z_H} {L : Nat} {n v m : Int32} (hT : z_T h L = some (.inl 9)) (hL : z_o ≤ L) : z_C Γ M_X9_init (z_rm 2 0 0) [.ref L, .ref 26, .int n, .int v, .int m] h (z_rv (a_li h L n v m)) := by
  refine z_C.of (by decide +kernel) rfl [some (.ref L), some (.ref 26), some (.int n), some (.int v), some (.int m)] (Nat.le_of_ble_eq_true rfl) rfl ?_
  refine z_aload_n dX9_init_0 rfl rfl ?_
  refine z_aload_n dX9_init_1 rfl rfl ?_
  refine z_iload_n dX9_init_2 rfl rfl ?_
  refine z_iload_n dX9_init_3 rfl rfl ?_
  refine z_iload dX9_init_4 rfl ?_
  refine z_icall il_X9_3 (c_X7_init_9 hT hL) dX9_init_6 rfl rfl ⟨by decide, by decide⟩ (Nat.le_of_ble_eq_true rfl) (Nat.le_refl _) (Nat.le_refl _) (z_cV ?_) z_tV
  refine z_vret dX9_init_9 rfl (Nat.le_refl _) (Nat.le_refl _) (z_rv_i ?_)
  rfl
theorem c_X9_init_12 {Γ : z_W} {h : z_H} {L : Nat} {n v m : Int32} (hT : z_T h L = some (.inl 12)) (hL : z_o ≤ L) : z_C Γ M_X9_init (z_rm 2 0 0) [.ref L, .ref 26, .int n, .int v, .int m] h (z_rv (a_li h L n v m)) := by
  refine z_C.of (by decide +kernel) rfl [some (.ref L), some (.ref 26), some (.int n), some (.int v), some (.int m)] (Nat.le_of_ble_eq_true rfl) rfl ?_
  refine z_aload_n dX9_init_0 rfl rfl ?_
  refine z_aload_n dX9_init_1 rfl rfl ?_
  refine z_iload_n dX9_init_2 rfl rfl ?_
  refine z_iload_n dX9_init_3 rfl rfl ?_
  refine z_iload dX9_init_4 rfl ?_
  refine z_icall il_X9_3 (c_X7_init_12 hT hL) dX9_init_6 rfl rfl ⟨by decide, by decide⟩ (Nat.le_of_ble_eq_true rfl) (Nat.le_refl _) (Nat.le_refl _) (z_cV ?_) z_tV
  refine z_vret dX9_init_9 rfl (Nat.le_refl _) (Nat.le_refl _) (z_rv_i ?_)
  rfl
theorem c_X10_init_10 {Γ : z_W} {h : z_H} {L : Nat} {n v m : Int32} (hT : z_T h L = some (.inl 10)) (hL : z_o ≤ L) : z_C Γ M_X10_init (z_rm 2 0 0) [.ref L, .ref 26, .int n, .int v, .int m] h (z_rv (a_li h L n v m)) := by
  refine z_C.of (by decide +kernel) rfl [some (.ref L), some (.ref 26), some (.int n), some (.int v), some (.int m)] (Nat.le_of_ble_eq_true rfl) rfl ?_
  refine z_aload_n dX10_init_0 rfl rfl ?_
  refine z_aload_n dX10_init_1 rfl rfl ?_
  refine z_iload_n dX10_init_2 rfl rfl ?_
  refine z_iload_n dX10_init_3 rfl rfl ?_
  refine z_iload dX10_init_4 rfl ?_
  refine z_icall il_X10_3 (c_X7_init_10 hT hL) dX10_init_6 rfl rfl ⟨by decide, by decide⟩ (Nat.le_of_ble_eq_true rfl) (Nat.le_refl _) (Nat.le_refl _) (z_cV ?_) z_tV
  refine z_vret dX10_init_9 rfl (Nat.le_refl _) (Nat.le_refl _) (z_rv_i ?_)
  rfl
theorem c_X10_init_13 {Γ : z_W} {h : z_H} {L : Nat} {n v m : Int32} (hT : z_T h L = some (.inl 13)) (hL : z_o ≤ L) : z_C Γ M_X10_init (z_rm 2 0 0) [.ref L, .ref 26, .int n, .int v, .int m] h (z_rv (a_li h L n v m)) := by
  refine z_C.of (by decide +kernel) rfl [some (.ref L), some (.ref 26), some (.int n), some (.int v), some (.int m)] (Nat.le_of_ble_eq_true rfl) rfl ?_
  refine z_aload_n dX10_init_0 rfl rfl ?_
  refine z_aload_n dX10_init_1 rfl rfl ?_
  refine z_iload_n dX10_init_2 rfl rfl ?_
  refine z_iload_n dX10_init_3 rfl rfl ?_
  refine z_iload dX10_init_4 rfl ?_
  refine z_icall il_X10_3 (c_X7_init_13 hT hL) dX10_init_6 rfl rfl ⟨by decide, by decide⟩ (Nat.le_of_ble_eq_true rfl) (Nat.le_refl _) (Nat.le_refl _) (z_cV ?_) z_tV
  refine z_vret dX10_init_9 rfl (Nat.le_refl _) (Nat.le_refl _) (z_rv_i ?_)
  rfl
theorem c_X11_init_11 {Γ : z_W} {h : z_H} {L : Nat} {n v m : Int32} (hT : z_T h L = some (.inl 11)) (hL : z_o ≤ L) : z_C Γ M_X11_init (z_rm 3 0 0) [.ref L, .ref 26, .int n, .int v, .int m] h (z_rv (a_li h L n v m)) := by
  refine z_C.of (by decide +kernel) rfl [some (.ref L), some (.ref 26), some (.int n), some (.int v), some (.int m)] (Nat.le_of_ble_eq_true rfl) rfl ?_
  refine z_aload_n dX11_init_0 rfl rfl ?_
  refine z_aload_n dX11_init_1 rfl rfl ?_
  refine z_iload_n dX11_init_2 rfl rfl ?_
  refine z_iload_n dX11_init_3 rfl rfl ?_
  refine z_iload dX11_init_4 rfl ?_
  refine z_icall il_X11_3 (c_X8_init_11 hT hL) dX11_init_6 rfl rfl ⟨by decide, by decide⟩ (Nat.le_of_ble_eq_true rfl) (Nat.le_refl _) (Nat.le_refl _) (z_cV ?_) z_tV
  refine z_vret dX11_init_9 rfl (Nat.le_refl _) (Nat.le_refl _) (z_rv_i ?_)
  rfl
theorem c_X12_init_12 {Γ : z_W} {h : z_H} {L : Nat} {n v m : Int32} (hT : z_T h L = some (.inl 12)) (hL : z_o ≤ L) : z_C Γ M_X12_init (z_rm 3 0 0) [.ref L, .ref 26, .int n, .int v, .int m] h (z_rv (a_li h L n v m)) := by
  refine z_C.of (by decide +kernel) rfl [some (.ref L), some (.ref 26), some (.int n), some (.int v), some (.int m)] (Nat.le_of_ble_eq_true rfl) rfl ?_
  refine z_aload_n dX12_init_0 rfl rfl ?_
  refine z_aload_n dX12_init_1 rfl rfl ?_
  refine z_iload_n dX12_init_2 rfl rfl ?_
  refine z_iload_n dX12_init_3 rfl rfl ?_
  refine z_iload dX12_init_4 rfl ?_
  refine z_icall il_X12_3 (c_X9_init_12 hT hL) dX12_init_6 rfl rfl ⟨by decide, by decide⟩ (Nat.le_of_ble_eq_true rfl) (Nat.le_refl _) (Nat.le_refl _) (z_cV ?_) z_tV
  refine z_vret dX12_init_9 rfl (Nat.le_refl _) (Nat.le_refl _) (z_rv_i ?_)
  rfl
theorem c_X13_init_13 {Γ : z_W} {h : z_H} {L : Nat} {n v m : Int32} (hT : z_T h L = some (.inl 13)) (hL : z_o ≤ L) : z_C Γ M_X13_init (z_rm 3 0 0) [.ref L, .ref 26, .int n, .int v, .int m, .ref 19] h (z_rv (z_sR (a_li h L n v m) L 4 (some 19))) := by
  refine z_C.of (by decide +kernel) rfl [some (.ref L), some (.ref 26), some (.int n), some (.int v), some (.int m), some (.ref 19)] (Nat.le_of_ble_eq_true rfl) rfl ?_
  refine z_aload_n dX13_init_0 rfl rfl ?_
  refine z_aload_n dX13_init_1 rfl rfl ?_
  refine z_iload_n dX13_init_2 rfl rfl ?_
  refine z_iload_n dX13_init_3 rfl rfl ?_
  refine z_iload dX13_init_4 rfl ?_
  refine z_icall il_X13_3 (c_X10_init_13 hT hL) dX13_init_6 rfl rfl ⟨by decide, by decide⟩ (Nat.le_of_ble_eq_true rfl) (Nat.le_refl _) (Nat.le_refl _) (z_cV ?_) z_tV
  refine z_aload_n dX13_init_9 rfl rfl ?_
  refine z_aload dX13_init_10 rfl ?_
  refine z_putR dX13_init_12 pf_X13_init_9_13 hT hL rfl ?_
  refine z_vret dX13_init_15 rfl (Nat.le_refl _) (Nat.le_refl _) (z_rv_i ?_)
  rfl
theorem c_X0_liftOf_0 {Γ : z_W} {h : z_H} {v m : Int32} (hF : z_F h) : z_C Γ M_X0_liftOf (z_rm 4 1 5) [.ref 16, .int 0, .int v, .int m] h (z_rr (z_n h) (a_nl h 0 v m)) := by
  have hF1 := hF.new (.inl 7)
  refine z_C.of (by decide +kernel) rfl [some (.ref 16), some (.int 0), some (.int v), some (.int m)] (Nat.le_of_ble_eq_true rfl) rfl ?_
  refine z_iload_n dX0_liftOf_0 rfl rfl ?_
  refine z_tableOut 152 dX0_liftOf_1 (by decide) (by decide) ?_
  refine z_newo dX0_liftOf_152 (c := 7) rfl q137 q511 q97 (Nat.le_of_ble_eq_true rfl) (Nat.le_of_ble_eq_true rfl) ?_
  refine z_dup dX0_liftOf_155 rfl ?_
  refine z_aload_n dX0_liftOf_156 rfl rfl ?_
  refine z_getR 26 dX0_liftOf_157 fl_X0_63_0 (hF1.1 16 _ rfl) rfl (hF1.2.1 16 12 26 rfl) ?_
  refine z_aload_n dX0_liftOf_160 rfl rfl ?_
  refine z_getI dX0_liftOf_161 fl_X0_116_0 (hF1.1 16 _ rfl) rfl ?_
  refine z_eqi (z_I h 16 3) (z_In_lo hF (by decide)) ?_
  refine z_iload_n dX0_liftOf_164 rfl rfl ?_
  refine z_iload_n dX0_liftOf_165 rfl rfl ?_
  refine z_icall il_X0_141 (c_X7_init_7 (if_pos rfl) (Nat.le_trans (by decide) hF.2.2)) dX0_liftOf_166 rfl rfl ⟨by decide, by decide⟩ (Nat.le_of_ble_eq_true rfl) (Nat.le_of_ble_eq_true rfl) (Nat.le_of_ble_eq_true rfl) (z_cV ?_) z_tV
  refine z_aret dX0_liftOf_169 rfl (Or.inl ⟨_, rfl⟩) (Or.inr ⟨_, rfl⟩) (Nat.le_of_ble_eq_true rfl) (Nat.le_of_ble_eq_true rfl) ⟨?_, ?_⟩
  · rfl
  · rfl
theorem c_X0_liftOf_1 {Γ : z_W} {h : z_H} {v m : Int32} (hF : z_F h) : z_C Γ M_X0_liftOf (z_rm 4 1 5) [.ref 16, .int 1, .int v, .int m] h (z_rr (z_n h) (a_nl h 1 v m)) := by
  have hF1 := hF.new (.inl 8)
  refine z_C.of (by decide +kernel) rfl [some (.ref 16), some (.int 1), some (.int v), some (.int m)] (Nat.le_of_ble_eq_true rfl) rfl ?_
  refine z_iload_n dX0_liftOf_0 rfl rfl ?_
  refine z_tableIn 1 40 dX0_liftOf_1 rfl (by decide) (by decide) rfl (by decide) ?_
  refine z_newo dX0_liftOf_40 (c := 8) rfl q405 q406 q98 (Nat.le_of_ble_eq_true rfl) (Nat.le_of_ble_eq_true rfl) ?_
  refine z_dup dX0_liftOf_43 rfl ?_
  refine z_aload_n dX0_liftOf_44 rfl rfl ?_
  refine z_getR 26 dX0_liftOf_45 fl_X0_63_0 (hF1.1 16 _ rfl) rfl (hF1.2.1 16 12 26 rfl) ?_
  refine z_aload_n dX0_liftOf_48 rfl rfl ?_
  refine z_getI dX0_liftOf_49 fl_X0_116_0 (hF1.1 16 _ rfl) rfl ?_
  refine z_eqi (z_I h 16 3) (z_In_lo hF (by decide)) ?_
  refine z_iload_n dX0_liftOf_52 rfl rfl ?_
  refine z_iload_n dX0_liftOf_53 rfl rfl ?_
  refine z_icall il_X0_121 (c_X8_init_8 (if_pos rfl) (Nat.le_trans (by decide) hF.2.2)) dX0_liftOf_54 rfl rfl ⟨by decide, by decide⟩ (Nat.le_of_ble_eq_true rfl) (Nat.le_of_ble_eq_true rfl) (Nat.le_of_ble_eq_true rfl) (z_cV ?_) z_tV
  refine z_aret dX0_liftOf_57 rfl (Or.inl ⟨_, rfl⟩) (Or.inr ⟨_, rfl⟩) (Nat.le_of_ble_eq_true rfl) (Nat.le_of_ble_eq_true rfl) ⟨?_, ?_⟩
  · rfl
  · rfl
theorem c_X0_liftOf_2 {Γ : z_W} {h : z_H} {v m : Int32} (hF : z_F h) : z_C Γ M_X0_liftOf (z_rm 4 1 5) [.ref 16, .int 2, .int v, .int m] h (z_rr (z_n h) (a_nl h 2 v m)) := by
  have hF1 := hF.new (.inl 9)
  refine z_C.of (by decide +kernel) rfl [some (.ref 16), some (.int 2), some (.int v), some (.int m)] (Nat.le_of_ble_eq_true rfl) rfl ?_
  refine z_iload_n dX0_liftOf_0 rfl rfl ?_
  refine z_tableIn 2 58 dX0_liftOf_1 rfl (by decide) (by decide) rfl (by decide) ?_
  refine z_newo dX0_liftOf_58 (c := 9) rfl q453 q454 q99 (Nat.le_of_ble_eq_true rfl) (Nat.le_of_ble_eq_true rfl) ?_
  refine z_dup dX0_liftOf_61 rfl ?_
  refine z_aload_n dX0_liftOf_62 rfl rfl ?_
  refine z_getR 26 dX0_liftOf_63 fl_X0_63_0 (hF1.1 16 _ rfl) rfl (hF1.2.1 16 12 26 rfl) ?_
  refine z_aload_n dX0_liftOf_66 rfl rfl ?_
  refine z_getI dX0_liftOf_67 fl_X0_116_0 (hF1.1 16 _ rfl) rfl ?_
  refine z_eqi (z_I h 16 3) (z_In_lo hF (by decide)) ?_
  refine z_iload_n dX0_liftOf_70 rfl rfl ?_
  refine z_iload_n dX0_liftOf_71 rfl rfl ?_
  refine z_icall il_X0_126 (c_X9_init_9 (if_pos rfl) (Nat.le_trans (by decide) hF.2.2)) dX0_liftOf_72 rfl rfl ⟨by decide, by decide⟩ (Nat.le_of_ble_eq_true rfl) (Nat.le_of_ble_eq_true rfl) (Nat.le_of_ble_eq_true rfl) (z_cV ?_) z_tV
  refine z_aret dX0_liftOf_75 rfl (Or.inl ⟨_, rfl⟩) (Or.inr ⟨_, rfl⟩) (Nat.le_of_ble_eq_true rfl) (Nat.le_of_ble_eq_true rfl) ⟨?_, ?_⟩
  · rfl
  · rfl
theorem c_X0_liftOf_3 {Γ : z_W} {h : z_H} {v m : Int32} (hF : z_F h) : z_C Γ M_X0_liftOf (z_rm 4 1 5) [.ref 16, .int 3, .int v, .int m] h (z_rr (z_n h) (a_nl h 3 v m)) := by
  have hF1 := hF.new (.inl 10)
  refine z_C.of (by decide +kernel) rfl [some (.ref 16), some (.int 3), some (.int v), some (.int m)] (Nat.le_of_ble_eq_true rfl) rfl ?_
  refine z_iload_n dX0_liftOf_0 rfl rfl ?_
  refine z_tableIn 3 76 dX0_liftOf_1 rfl (by decide) (by decide) rfl (by decide) ?_
  refine z_newo dX0_liftOf_76 (c := 10) rfl q464 q465 q100 (Nat.le_of_ble_eq_true rfl) (Nat.le_of_ble_eq_true rfl) ?_
  refine z_dup dX0_liftOf_79 rfl ?_
  refine z_aload_n dX0_liftOf_80 rfl rfl ?_
  refine z_getR 26 dX0_liftOf_81 fl_X0_63_0 (hF1.1 16 _ rfl) rfl (hF1.2.1 16 12 26 rfl) ?_
  refine z_aload_n dX0_liftOf_84 rfl rfl ?_
  refine z_getI dX0_liftOf_85 fl_X0_116_0 (hF1.1 16 _ rfl) rfl ?_
  refine z_eqi (z_I h 16 3) (z_In_lo hF (by decide)) ?_
  refine z_iload_n dX0_liftOf_88 rfl rfl ?_
  refine z_iload_n dX0_liftOf_89 rfl rfl ?_
  refine z_icall il_X0_129 (c_X10_init_10 (if_pos rfl) (Nat.le_trans (by decide) hF.2.2)) dX0_liftOf_90 rfl rfl ⟨by decide, by decide⟩ (Nat.le_of_ble_eq_true rfl) (Nat.le_of_ble_eq_true rfl) (Nat.le_of_ble_eq_true rfl) (z_cV ?_) z_tV
  refine z_aret dX0_liftOf_93 rfl (Or.inl ⟨_, rfl⟩) (Or.inr ⟨_, rfl⟩) (Nat.le_of_ble_eq_true rfl) (Nat.le_of_ble_eq_true rfl) ⟨?_, ?_⟩
  · rfl
  · rfl
theorem c_X0_liftOf_4 {Γ : z_W} {h : z_H} {v m : Int32} (hF : z_F h) : z_C Γ M_X0_liftOf (z_rm 4 1 5) [.ref 16, .int 4, .int v, .int m] h (z_rr (z_n h) (a_nl h 4 v m)) := by
  have hF1 := hF.new (.inl 11)
  refine z_C.of (by decide +kernel) rfl [some (.ref 16), some (.int 4), some (.int v), some (.int m)] (Nat.le_of_ble_eq_true rfl) rfl ?_
  refine z_iload_n dX0_liftOf_0 rfl rfl ?_
  refine z_tableIn 4 94 dX0_liftOf_1 rfl (by decide) (by decide) rfl (by decide) ?_
  refine z_newo dX0_liftOf_94 (c := 11) rfl q475 q476 q101 (Nat.le_of_ble_eq_true rfl) (Nat.le_of_ble_eq_true rfl) ?_
  refine z_dup dX0_liftOf_97 rfl ?_
  refine z_aload_n dX0_liftOf_98 rfl rfl ?_
  refine z_getR 26 dX0_liftOf_99 fl_X0_63_0 (hF1.1 16 _ rfl) rfl (hF1.2.1 16 12 26 rfl) ?_
  refine z_aload_n dX0_liftOf_102 rfl rfl ?_
  refine z_getI dX0_liftOf_103 fl_X0_116_0 (hF1.1 16 _ rfl) rfl ?_
  refine z_eqi (z_I h 16 3) (z_In_lo hF (by decide)) ?_
  refine z_iload_n dX0_liftOf_106 rfl rfl ?_
  refine z_iload_n dX0_liftOf_107 rfl rfl ?_
  refine z_icall il_X0_132 (c_X11_init_11 (if_pos rfl) (Nat.le_trans (by decide) hF.2.2)) dX0_liftOf_108 rfl rfl ⟨by decide, by decide⟩ (Nat.le_of_ble_eq_true rfl) (Nat.le_of_ble_eq_true rfl) (Nat.le_of_ble_eq_true rfl) (z_cV ?_) z_tV
  refine z_aret dX0_liftOf_111 rfl (Or.inl ⟨_, rfl⟩) (Or.inr ⟨_, rfl⟩) (Nat.le_of_ble_eq_true rfl) (Nat.le_of_ble_eq_true rfl) ⟨?_, ?_⟩
  · rfl
  · rfl
theorem c_X0_liftOf_5 {Γ : z_W} {h : z_H} {v m : Int32} (hF : z_F h) : z_C Γ M_X0_liftOf (z_rm 4 1 5) [.ref 16, .int 5, .int v, .int m] h (z_rr (z_n h) (a_nl h 5 v m)) := by
  have hF1 := hF.new (.inl 12)
  refine z_C.of (by decide +kernel) rfl [some (.ref 16), some (.int 5), some (.int v), some (.int m)] (Nat.le_of_ble_eq_true rfl) rfl ?_
  refine z_iload_n dX0_liftOf_0 rfl rfl ?_
  refine z_tableIn 5 112 dX0_liftOf_1 rfl (by decide) (by decide) rfl (by decide) ?_
  refine z_newo dX0_liftOf_112 (c := 12) rfl q486 q487 q102 (Nat.le_of_ble_eq_true rfl) (Nat.le_of_ble_eq_true rfl) ?_
  refine z_dup dX0_liftOf_115 rfl ?_
  refine z_aload_n dX0_liftOf_116 rfl rfl ?_
  refine z_getR 26 dX0_liftOf_117 fl_X0_63_0 (hF1.1 16 _ rfl) rfl (hF1.2.1 16 12 26 rfl) ?_
  refine z_aload_n dX0_liftOf_120 rfl rfl ?_
  refine z_getI dX0_liftOf_121 fl_X0_116_0 (hF1.1 16 _ rfl) rfl ?_
  refine z_eqi (z_I h 16 3) (z_In_lo hF (by decide)) ?_
  refine z_iload_n dX0_liftOf_124 rfl rfl ?_
  refine z_iload_n dX0_liftOf_125 rfl rfl ?_
  refine z_icall il_X0_135 (c_X12_init_12 (if_pos rfl) (Nat.le_trans (by decide) hF.2.2)) dX0_liftOf_126 rfl rfl ⟨by decide, by decide⟩ (Nat.le_of_ble_eq_true rfl) (Nat.le_of_ble_eq_true rfl) (Nat.le_of_ble_eq_true rfl) (z_cV ?_) z_tV
  refine z_aret dX0_liftOf_129 rfl (Or.inl ⟨_, rfl⟩) (Or.inr ⟨_, rfl⟩) (Nat.le_of_ble_eq_true rfl) (Nat.le_of_ble_eq_true rfl) ⟨?_, ?_⟩
  · rfl
  · rfl
theorem c_X0_liftOf_6 {Γ : z_W} {h : z_H} {v m : Int32} (hF : z_F h) : z_C Γ M_X0_liftOf (z_rm 4 1 5) [.ref 16, .int 6, .int v, .int m] h (z_rr (z_n h) (a_nl h 6 v m)) := by
  have hF1 := hF.new (.inl 13)
  refine z_C.of (by decide +kernel) rfl [some (.ref 16), some (.int 6), some (.int v), some (.int m)] (Nat.le_of_ble_eq_true rfl) rfl ?_
  refine z_iload_n dX0_liftOf_0 rfl rfl ?_
  refine z_tableIn 6 130 dX0_liftOf_1 rfl (by decide) (by decide) rfl (by decide) ?_
  refine z_newo dX0_liftOf_130 (c := 13) rfl q497 q498 q103 (Nat.le_of_ble_eq_true rfl) (Nat.le_of_ble_eq_true rfl) ?_
  refine z_dup dX0_liftOf_133 rfl ?_
  refine z_aload_n dX0_liftOf_134 rfl rfl ?_
  refine z_getR 26 dX0_liftOf_135 fl_X0_63_0 (hF1.1 16 _ rfl) rfl (hF1.2.1 16 12 26 rfl) ?_
  refine z_aload_n dX0_liftOf_138 rfl rfl ?_
  refine z_getI dX0_liftOf_139 fl_X0_116_0 (hF1.1 16 _ rfl) rfl ?_
  refine z_eqi (z_I h 16 3) (z_In_lo hF (by decide)) ?_
  refine z_iload_n dX0_liftOf_142 rfl rfl ?_
  refine z_iload_n dX0_liftOf_143 rfl rfl ?_
  refine z_aload_n dX0_liftOf_144 rfl rfl ?_
  refine z_getR 19 dX0_liftOf_145 fl_X0_25_0 (hF1.1 16 _ rfl) rfl (hF1.2.1 16 2 19 rfl) ?_
  refine z_icall il_X0_138 (c_X13_init_13 (if_pos rfl) (Nat.le_trans (by decide) hF.2.2)) dX0_liftOf_148 rfl rfl ⟨by decide, by decide⟩ (Nat.le_of_ble_eq_true rfl) (Nat.le_of_ble_eq_true rfl) (Nat.le_of_ble_eq_true rfl) (z_cV ?_) z_tV
  refine z_aret dX0_liftOf_151 rfl (Or.inl ⟨_, rfl⟩) (Or.inr ⟨_, rfl⟩) (Nat.le_of_ble_eq_true rfl) (Nat.le_of_ble_eq_true rfl) ⟨?_, ?_⟩
  · rfl
  · rfl
theorem c_X0_liftOf {Γ : z_W} {h : z_H} {v m : Int32} (hF : z_F h) {k : Nat} (hk : k ≤ 6) : z_C Γ M_X0_liftOf (z_rm 4 1 5) [.ref 16, .int (nI k), .int v, .int m] h (z_rr (z_n h) (a_nl h k v m)) := by
  match k, hk with
  | 0, _ => exact c_X0_liftOf_0 hF
  | 1, _ => exact c_X0_liftOf_1 hF
  | 2, _ => exact c_X0_liftOf_2 hF
  | 3, _ => exact c_X0_liftOf_3 hF
  | 4, _ => exact c_X0_liftOf_4 hF
  | 5, _ => exact c_X0_liftOf_5 hF
  | 6, _ => exact c_X0_liftOf_6 hF
theorem z_aasL {Γ : z_W} {M : z_M} {rm : Room} {Q : Outcome → z_H → Prop} {cs ss pc : Nat} {ls : List (Option Value)} {st : List Value} {h : z_H} {b k : Nat} (j : Nat) {i : Int32} (hk : k ≤ 6) (hd : decode M.2.1 pc = .ok (.aastore, 1)) (ht : z_T h 17 = some (.inr (.object "SomebodysLift$Lift", 6))) (hi : i = nI j) (hj : j < 6) (hb : z_T h b = some (.inl (7 + k))) (kk : z_G Γ M rm Q cs ss (pc + 1) ls st (z_sR h 17 j (some b))) : z_G Γ M rm Q cs ss pc ls (.ref b :: .int i :: .ref 17 :: st) h := by
  match k, hk, hb with
  | 0, _, hb => exact z_aast j hd ht (by simp [z_at]) (by decide) hi hj (by decide) hb rfl (Or.inl rfl) kk
  | 1, _, hb => exact z_aast j hd ht (by simp [z_at]) (by decide) hi hj (by decide) hb rfl (Or.inr q2059) kk
  | 2, _, hb => exact z_aast j hd ht (by simp [z_at]) (by decide) hi hj (by decide) hb rfl (Or.inr q2062) kk
  | 3, _, hb => exact z_aast j hd ht (by simp [z_at]) (by decide) hi hj (by decide) hb rfl (Or.inr q2058) kk
  | 4, _, hb => exact z_aast j hd ht (by simp [z_at]) (by decide) hi hj (by decide) hb rfl (Or.inr q2057) kk
  | 5, _, hb => exact z_aast j hd ht (by simp [z_at]) (by decide) hi hj (by decide) hb rfl (Or.inr q2061) kk
  | 6, _, hb => exact z_aast j hd ht (by simp [z_at]) (by decide) hi hj (by decide) hb rfl (Or.inr q2060) kk
theorem a_nl_T {h : z_H} {k : Nat} {v m : Int32} : z_T (a_nl h k v m) (z_n h) = some (.inl (7 + k)) := by
  unfold a_nl
  split
  · rename_i e; subst e; exact if_pos rfl
  · exact if_pos rfl
theorem a_nl_I {h : z_H} {k : Nat} {v m : Int32} {a j : Nat} (ha : a ≠ z_n h) : z_I (a_nl h k v m) a j = z_I h a j := by
  have e : ∀ t, z_I (a_li (z_new h t) (z_n h) (z_I h 16 3) v m) a j = z_I h a j := fun t => by
    unfold a_li
    rw [z_II, if_neg (fun q => ha q.1), z_II, if_neg (fun q => ha q.1), z_II, if_neg (fun q => ha q.1), z_IR, z_In, if_neg ha]
  unfold a_nl
  split
  · rw [z_IR]; exact e _
  · exact e _
theorem a_nl_R {h : z_H} {k : Nat} {v m : Int32} {a j : Nat} (ha : a ≠ z_n h) : z_R (a_nl h k v m) a j = z_R h a j := by
  have e : ∀ t, z_R (a_li (z_new h t) (z_n h) (z_I h 16 3) v m) a j = z_R h a j := fun t => by
    unfold a_li
    rw [z_RI, z_RI, z_RI, z_RR, if_neg (fun q => ha q.1), z_Rn, if_neg ha]
  unfold a_nl
  split
  · rw [z_RR, if_neg (fun q => ha q.1)]; exact e _
  · exact e _
theorem a_nl_To {h : z_H} {k : Nat} {v m : Int32} {a : Nat} (ha : a ≠ z_n h) : z_T (a_nl h k v m) a = z_T h a := by
  unfold a_nl
  split
  · exact if_neg ha
  · exact if_neg ha
theorem a_nl_L {h : z_H} {k : Nat} {v m : Int32} {a j : Nat} (ha : a ≠ z_n h) : z_L (a_nl h k v m) a j = z_L h a j := by
  unfold a_nl
  split
  · exact if_neg ha
  · exact if_neg ha
theorem a_nl_n {h : z_H} {k : Nat} {v m : Int32} : z_n (a_nl h k v m) = z_n h + 1 := by
  unfold a_nl
  split <;> rfl
theorem a_nl_F {h : z_H} {k : Nat} {v m : Int32} (hF : z_F h) : z_F (a_nl h k v m) := by
  have := hF.new (.inl 0)
  obtain ⟨h1, h2, h3⟩ := this
  have h3' := hF.2.2
  refine ⟨fun a u hu => ?_, fun a j b hb => ?_, by rw [a_nl_n]; omega⟩
  · have ha : a ≠ z_n h := by
      have := (List.getElem?_eq_some_iff.mp hu).1
      have e : z_tab.length = 85 := by decide
      omega
    rw [a_nl_To ha]
    exact hF.1 a u hu
  · have ha : a ≠ z_n h := fun e => by
      have q := h2 a j b hb
      rw [z_Rn, if_pos e] at q
      cases q
    rw [a_nl_R ha]
    exact hF.2.1 a j b hb
theorem z_eqi3 {Γ : z_W} {M : z_M} {rm : Room} {Q : Outcome → z_H → Prop} {cs ss pc : Nat} {ls : List (Option Value)} {st : List Value} {h : z_H} {a b c : Int32} (a' : Int32) (e : a = a') (kk : z_G Γ M rm Q cs ss pc ls (.int c :: .int b :: .int a' :: st) h) : z_G Γ M rm Q cs ss pc ls (.int c :: .int b :: .int a :: st) h := by rw [e]; exact kk
def m_X0_lift (h : z_H) (k n m p : Int32) : Int32 × z_H :=
  if z_in k 0 6 then
    if z_in n 0 9 then
      if m_X0_isMile h m then
        if z_in p 0 20 then
          if (z_I h 16 3) = 6 then
            ((-4), h)
          else
            (z_I h 16 3, z_sI (z_sI (z_sI (z_sI (z_sI (z_sI (z_sR (a_nl h (z_c k) n m) 17 (z_c (z_I h 16 3)) (some (z_n h))) 18 (z_c (z_I h 16 3)) p) 19 (4 * z_c (z_I h 16 3) + 0) 0) 19 (4 * z_c (z_I h 16 3) + 1) 0) 19 (4 * z_c (z_I h 16 3) + 2) 0) 19 (4 * z_c (z_I h 16 3) + 3) 0) 16 3 ((z_I h 16 3) + 1))
        else
          ((-2), h)
      else
        ((-2), h)
    else
      ((-2), h)
  else
    ((-1), h)
theorem c_X0_lift {Γ : z_W} {h : z_H} {k n m p : Int32} (hF : z_F h) (hm : z_cn (z_I h 16 3) 6) : z_C Γ M_X0_lift (z_rm 5 1 5) [.ref 16, .int k, .int n, .int m, .int p] h (z_ri (m_X0_lift h k n m p).1 (m_X0_lift h k n m p).2) := by
  refine z_C.of (by decide +kernel) rfl [some (.ref 16), some (.int k), some (.int n), some (.int m), some (.int p), none] (Nat.le_of_ble_eq_true rfl) rfl ?_
  refine z_iload_n dX0_lift_0 rfl rfl ?_
  refine z_iconst (v := 0) dX0_lift_1 rfl ?_
  refine z_bipush (v := 6) dX0_lift_2 rfl ?_
  refine z_scall sl_X0_5 (c_X0_in) dX0_lift_4 rfl rfl ⟨by decide, by decide⟩ (Nat.le_of_ble_eq_true rfl) (Nat.le_of_ble_eq_true rfl) (Nat.le_of_ble_eq_true rfl) (z_cI ?_) z_tI
  refine z_bif_ne 12 dX0_lift_7 (by decide) (fun c7 => ?_) (fun c7 => ?_)
  · have hk := z_ixb (l := k) 6 (by decide) c7
    refine z_iload_n dX0_lift_12 rfl rfl ?_
    refine z_iconst (v := 0) dX0_lift_13 rfl ?_
    refine z_bipush (v := 9) dX0_lift_14 rfl ?_
    refine z_scall sl_X0_5 (c_X0_in) dX0_lift_16 rfl rfl ⟨by decide, by decide⟩ (Nat.le_of_ble_eq_true rfl) (Nat.le_of_ble_eq_true rfl) (Nat.le_of_ble_eq_true rfl) (z_cI ?_) z_tI
    refine z_bif_eq 40 dX0_lift_19 (by decide) (fun c19 => ?_) (fun c19 => ?_)
    · refine z_bipush (v := (-2)) dX0_lift_40 rfl ?_
      refine z_iret dX0_lift_42 rfl rfl (Nat.le_of_ble_eq_true rfl) (Nat.le_of_ble_eq_true rfl) (z_ri_i ?_ ?_)
      · first | rfl | (unfold m_X0_lift; rw [if_pos (show z_in k 0 6 from c7), if_neg (show ¬ (z_in n 0 9) from c19)]; first | done | rfl)
      · first | rfl | (unfold m_X0_lift; rw [if_pos (show z_in k 0 6 from c7), if_neg (show ¬ (z_in n 0 9) from c19)]; first | done | rfl)
    · refine z_iload_n dX0_lift_22 rfl rfl ?_
      refine z_scall sl_X0_142 (c_X0_isMile) dX0_lift_23 rfl rfl ⟨by decide, by decide⟩ (Nat.le_of_ble_eq_true rfl) (Nat.le_of_ble_eq_true rfl) (Nat.le_of_ble_eq_true rfl) (z_cI ?_) z_tI
      refine z_bif_eq 40 dX0_lift_26 (by decide) (fun c26 => ?_) (fun c26 => ?_)
      · refine z_bipush (v := (-2)) dX0_lift_40 rfl ?_
        refine z_iret dX0_lift_42 rfl rfl (Nat.le_of_ble_eq_true rfl) (Nat.le_of_ble_eq_true rfl) (z_ri_i ?_ ?_)
        · first | rfl | (unfold m_X0_lift; rw [if_pos (show z_in k 0 6 from c7), if_pos (show z_in n 0 9 from c19), if_neg (show ¬ (m_X0_isMile h m) from c26)]; first | done | rfl)
        · first | rfl | (unfold m_X0_lift; rw [if_pos (show z_in k 0 6 from c7), if_pos (show z_in n 0 9 from c19), if_neg (show ¬ (m_X0_isMile h m) from c26)]; first | done | rfl)
      · refine z_iload dX0_lift_29 rfl ?_
        refine z_iconst (v := 0) dX0_lift_31 rfl ?_
        refine z_bipush (v := 20) dX0_lift_32 rfl ?_
        refine z_scall sl_X0_5 (c_X0_in) dX0_lift_34 rfl rfl ⟨by decide, by decide⟩ (Nat.le_of_ble_eq_true rfl) (Nat.le_of_ble_eq_true rfl) (Nat.le_of_ble_eq_true rfl) (z_cI ?_) z_tI
        refine z_bif_ne 43 dX0_lift_37 (by decide) (fun c37 => ?_) (fun c37 => ?_)
        · refine z_aload_n dX0_lift_43 rfl rfl ?_
          refine z_getI dX0_lift_44 fl_X0_116_0 (hF.1 16 _ rfl) rfl ?_
          refine z_bipush (v := 6) dX0_lift_47 rfl ?_
          refine z_icmp_ne 55 dX0_lift_49 (by decide) (fun c49 => ?_) (fun c49 => ?_)
          · have hmany : z_I (a_nl h (z_c k) n m) 16 3 = z_I h 16 3 := a_nl_I (by have := hF.2.2; omega)
            have hF1 := a_nl_F (k := z_c k) (v := n) (m := m) hF
            refine z_aload_n dX0_lift_55 rfl rfl ?_
            refine z_getR 17 dX0_lift_56 fl_X0_17_0 (hF.1 16 _ rfl) rfl (hF.2.1 16 0 17 rfl) ?_
            refine z_aload_n dX0_lift_59 rfl rfl ?_
            refine z_getI dX0_lift_60 fl_X0_116_0 (hF.1 16 _ rfl) rfl ?_
            refine z_aload_n dX0_lift_63 rfl rfl ?_
            refine z_iload_n dX0_lift_64 rfl rfl ?_
            refine z_iload_n dX0_lift_65 rfl rfl ?_
            refine z_iload_n dX0_lift_66 rfl rfl ?_
            refine z_eqi3 (nI (z_c k)) hk.1 ?_
            refine z_vcall vl_X0_146_0 (c_X0_liftOf hF hk.2) dX0_lift_67 rfl rfl (hF.1 16 _ rfl) ⟨by decide, by decide⟩ (Nat.le_of_ble_eq_true rfl) (Nat.le_of_ble_eq_true rfl) (Nat.le_of_ble_eq_true rfl) (z_cR ?_) z_tR
            refine z_aasL (z_c (z_I h 16 3)) hk.2 dX0_lift_70 (hF1.1 17 _ rfl) hm.1 (z_cn_lt hm c49) a_nl_T ?_
            refine z_aload_n dX0_lift_71 rfl rfl ?_
            refine z_getR 18 dX0_lift_72 fl_X0_21_0 (hF1.1 16 _ rfl) rfl (hF1.2.1 16 1 18 rfl) ?_
            refine z_aload_n dX0_lift_75 rfl rfl ?_
            refine z_getI dX0_lift_76 fl_X0_116_0 (hF1.1 16 _ rfl) rfl ?_
            refine z_eqi (z_I h 16 3) hmany ?_
            refine z_iload dX0_lift_79 rfl ?_
            refine z_iast (z_c (z_I h 16 3)) dX0_lift_81 (hF1.1 18 _ rfl) (by decide) hm.1 (z_cn_lt hm c49) (by decide) ?_
            refine z_iconst (v := 0) dX0_lift_82 rfl ?_
            refine z_istore dX0_lift_83 (by decide) rfl ?_
            refine z_iload dX0_lift_85 rfl ?_
            refine z_iconst (v := 4) dX0_lift_87 rfl ?_
            refine z_icmp_ge 112 dX0_lift_88 (by decide) (fun q => absurd q (by decide)) (fun _ => ?_)
            refine z_aload_n dX0_lift_91 rfl rfl ?_
            refine z_getR 19 dX0_lift_92 fl_X0_25_0 (hF1.1 16 _ rfl) rfl (hF1.2.1 16 2 19 rfl) ?_
            refine z_iconst (v := 4) dX0_lift_95 rfl ?_
            refine z_aload_n dX0_lift_96 rfl rfl ?_
            refine z_getI dX0_lift_97 fl_X0_116_0 (hF1.1 16 _ rfl) rfl ?_
            refine z_eqi (z_I h 16 3) hmany ?_
            refine z_imul dX0_lift_100 ?_
            refine z_iload dX0_lift_101 rfl ?_
            refine z_iadd dX0_lift_103 ?_
            refine z_iconst (v := 0) dX0_lift_104 rfl ?_
            refine z_iast (4 * z_c (z_I h 16 3) + 0) dX0_lift_105 (hF1.1 19 _ rfl) (by decide) (by rw [← nI_add, ← pk_mul, ← hm.1]; rfl) (by have := z_cn_lt hm c49; omega) (by decide) ?_
            refine z_iinc (v := 1) dX0_lift_106 rfl (by decide) (by decide) rfl ?_
            refine z_goto 85 dX0_lift_109 (by decide) ?_
            refine z_iload dX0_lift_85 rfl ?_
            refine z_iconst (v := 4) dX0_lift_87 rfl ?_
            refine z_icmp_ge 112 dX0_lift_88 (by decide) (fun q => absurd q (by decide)) (fun _ => ?_)
            refine z_aload_n dX0_lift_91 rfl rfl ?_
            refine z_getR 19 dX0_lift_92 fl_X0_25_0 (hF1.1 16 _ rfl) rfl (hF1.2.1 16 2 19 rfl) ?_
            refine z_iconst (v := 4) dX0_lift_95 rfl ?_
            refine z_aload_n dX0_lift_96 rfl rfl ?_
            refine z_getI dX0_lift_97 fl_X0_116_0 (hF1.1 16 _ rfl) rfl ?_
            refine z_eqi (z_I h 16 3) hmany ?_
            refine z_imul dX0_lift_100 ?_
            refine z_iload dX0_lift_101 rfl ?_
            refine z_iadd dX0_lift_103 ?_
            refine z_iconst (v := 0) dX0_lift_104 rfl ?_
            refine z_iast (4 * z_c (z_I h 16 3) + 1) dX0_lift_105 (hF1.1 19 _ rfl) (by decide) (by rw [← nI_add, ← pk_mul, ← hm.1]; rfl) (by have := z_cn_lt hm c49; omega) (by decide) ?_
            refine z_iinc (v := 2) dX0_lift_106 rfl (by decide) (by decide) rfl ?_
            refine z_goto 85 dX0_lift_109 (by decide) ?_
            refine z_iload dX0_lift_85 rfl ?_
            refine z_iconst (v := 4) dX0_lift_87 rfl ?_
            refine z_icmp_ge 112 dX0_lift_88 (by decide) (fun q => absurd q (by decide)) (fun _ => ?_)
            refine z_aload_n dX0_lift_91 rfl rfl ?_
            refine z_getR 19 dX0_lift_92 fl_X0_25_0 (hF1.1 16 _ rfl) rfl (hF1.2.1 16 2 19 rfl) ?_
            refine z_iconst (v := 4) dX0_lift_95 rfl ?_
            refine z_aload_n dX0_lift_96 rfl rfl ?_
            refine z_getI dX0_lift_97 fl_X0_116_0 (hF1.1 16 _ rfl) rfl ?_
            refine z_eqi (z_I h 16 3) hmany ?_
            refine z_imul dX0_lift_100 ?_
            refine z_iload dX0_lift_101 rfl ?_
            refine z_iadd dX0_lift_103 ?_
            refine z_iconst (v := 0) dX0_lift_104 rfl ?_
            refine z_iast (4 * z_c (z_I h 16 3) + 2) dX0_lift_105 (hF1.1 19 _ rfl) (by decide) (by rw [← nI_add, ← pk_mul, ← hm.1]; rfl) (by have := z_cn_lt hm c49; omega) (by decide) ?_
            refine z_iinc (v := 3) dX0_lift_106 rfl (by decide) (by decide) rfl ?_
            refine z_goto 85 dX0_lift_109 (by decide) ?_
            refine z_iload dX0_lift_85 rfl ?_
            refine z_iconst (v := 4) dX0_lift_87 rfl ?_
            refine z_icmp_ge 112 dX0_lift_88 (by decide) (fun q => absurd q (by decide)) (fun _ => ?_)
            refine z_aload_n dX0_lift_91 rfl rfl ?_
            refine z_getR 19 dX0_lift_92 fl_X0_25_0 (hF1.1 16 _ rfl) rfl (hF1.2.1 16 2 19 rfl) ?_
            refine z_iconst (v := 4) dX0_lift_95 rfl ?_
            refine z_aload_n dX0_lift_96 rfl rfl ?_
            refine z_getI dX0_lift_97 fl_X0_116_0 (hF1.1 16 _ rfl) rfl ?_
            refine z_eqi (z_I h 16 3) hmany ?_
            refine z_imul dX0_lift_100 ?_
            refine z_iload dX0_lift_101 rfl ?_
            refine z_iadd dX0_lift_103 ?_
            refine z_iconst (v := 0) dX0_lift_104 rfl ?_
            refine z_iast (4 * z_c (z_I h 16 3) + 3) dX0_lift_105 (hF1.1 19 _ rfl) (by decide) (by rw [← nI_add, ← pk_mul, ← hm.1]; rfl) (by have := z_cn_lt hm c49; omega) (by decide) ?_
            refine z_iinc (v := 4) dX0_lift_106 rfl (by decide) (by decide) rfl ?_
            refine z_goto 85 dX0_lift_109 (by decide) ?_
            refine z_iload dX0_lift_85 rfl ?_
            refine z_iconst (v := 4) dX0_lift_87 rfl ?_
            refine z_icmp_ge 112 dX0_lift_88 (by decide) (fun _ => ?_) (fun q => absurd q (by decide))
            refine z_aload_n dX0_lift_112 rfl rfl ?_
            refine z_dup dX0_lift_113 rfl ?_
            refine z_getI dX0_lift_114 fl_X0_116_0 (hF1.1 16 _ rfl) rfl ?_
            refine z_eqi (z_I h 16 3) hmany ?_
            refine z_dup_x1 dX0_lift_117 rfl rfl ?_
            refine z_iconst (v := 1) dX0_lift_118 rfl ?_
            refine z_iadd dX0_lift_119 ?_
            refine z_putI dX0_lift_120 (pl_X0_116_0 rfl) (hF1.1 16 _ rfl) (by decide) rfl ?_
            refine z_iret dX0_lift_123 rfl rfl (Nat.le_of_ble_eq_true rfl) (Nat.le_of_ble_eq_true rfl) (z_ri_i ?_ ?_)
            · first | rfl | (unfold m_X0_lift; rw [if_pos (show z_in k 0 6 from c7), if_pos (show z_in n 0 9 from c19), if_pos (show m_X0_isMile h m from c26), if_pos (show z_in p 0 20 from c37), if_neg (show ¬ ((z_I h 16 3) = 6) from c49)]; first | done | rfl)
            · first | rfl | (unfold m_X0_lift; rw [if_pos (show z_in k 0 6 from c7), if_pos (show z_in n 0 9 from c19), if_pos (show m_X0_isMile h m from c26), if_pos (show z_in p 0 20 from c37), if_neg (show ¬ ((z_I h 16 3) = 6) from c49)]; first | done | rfl)
          · refine z_bipush (v := (-4)) dX0_lift_52 rfl ?_
            refine z_iret dX0_lift_54 rfl rfl (Nat.le_of_ble_eq_true rfl) (Nat.le_of_ble_eq_true rfl) (z_ri_i ?_ ?_)
            · first | rfl | (unfold m_X0_lift; rw [if_pos (show z_in k 0 6 from c7), if_pos (show z_in n 0 9 from c19), if_pos (show m_X0_isMile h m from c26), if_pos (show z_in p 0 20 from c37), if_pos (show (z_I h 16 3) = 6 from c49)]; first | done | rfl)
            · first | rfl | (unfold m_X0_lift; rw [if_pos (show z_in k 0 6 from c7), if_pos (show z_in n 0 9 from c19), if_pos (show m_X0_isMile h m from c26), if_pos (show z_in p 0 20 from c37), if_pos (show (z_I h 16 3) = 6 from c49)]; first | done | rfl)
        · refine z_bipush (v := (-2)) dX0_lift_40 rfl ?_
          refine z_iret dX0_lift_42 rfl rfl (Nat.le_of_ble_eq_true rfl) (Nat.le_of_ble_eq_true rfl) (z_ri_i ?_ ?_)
          · first | rfl | (unfold m_X0_lift; rw [if_pos (show z_in k 0 6 from c7), if_pos (show z_in n 0 9 from c19), if_pos (show m_X0_isMile h m from c26), if_neg (show ¬ (z_in p 0 20) from c37)]; first | done | rfl)
          · first | rfl | (unfold m_X0_lift; rw [if_pos (show z_in k 0 6 from c7), if_pos (show z_in n 0 9 from c19), if_pos (show m_X0_isMile h m from c26), if_neg (show ¬ (z_in p 0 20) from c37)]; first | done | rfl)
  · refine z_iconst (v := (-1)) dX0_lift_10 rfl ?_
    refine z_iret dX0_lift_11 rfl rfl (Nat.le_of_ble_eq_true rfl) (Nat.le_of_ble_eq_true rfl) (z_ri_i ?_ ?_)
    · first | rfl | (unfold m_X0_lift; rw [if_neg (show ¬ (z_in k 0 6) from c7)]; first | done | rfl)
    · first | rfl | (unfold m_X0_lift; rw [if_neg (show ¬ (z_in k 0 6) from c7)]; first | done | rfl)
