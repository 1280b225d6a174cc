/-! THE CLASS: the overlay of its ints, Math, lifts (printed by class1.py) -/
set_option maxRecDepth 20000
/-- the ints of the class's own objects (ids under 49) are f -/
def z_cy (h : z_H) (f : Nat → Nat → Int32) : z_H := (fun a k => if a < 49 then f a k else h.1 a k, h.2)
theorem z_cy_s {h : z_H} {f : Nat → Nat → Int32} {a k : Nat} {v : Int32} (ha : a < 49) : z_sI (z_cy h f) a k v = z_cy h (z_u f a k v) := by
  refine z_H_ext (fun b j => ?_) rfl
  show (if b = a ∧ j = k then v else if b < 49 then f b j else h.1 b j) = if b < 49 then (if b = a ∧ j = k then v else f b j) else h.1 b j
  by_cases e : b = a ∧ j = k
  · rw [if_pos e, if_pos (by omega), if_pos e]
  · rw [if_neg e]
    by_cases e2 : b < 49
    · rw [if_pos e2, if_pos e2, if_neg e]
    · rw [if_neg e2, if_neg e2]
theorem z_cy_hi {h : z_H} {f : Nat → Nat → Int32} {a k : Nat} (ha : 85 ≤ a) : z_I (z_cy h f) a k = z_I h a k := if_neg (by omega)
theorem z_cy_self (h : z_H) : h = z_cy h h.1 := by
  refine z_H_ext (fun b j => ?_) rfl
  show h.1 b j = if b < 49 then h.1 b j else h.1 b j
  split <;> rfl
theorem z_cy_cy (h : z_H) (f g : Nat → Nat → Int32) : z_cy (z_cy h f) g = z_cy h g := by
  refine z_H_ext (fun b j => ?_) rfl
  show (if b < 49 then g b j else if b < 49 then f b j else h.1 b j) = if b < 49 then g b j else h.1 b j
  split <;> rfl
def m_J3_min (h : z_H) (a : Int32) (b : Int32) : Int32 :=
  if b < a then
    b
  else
    a
theorem c_J3_min {Γ : z_W} {h : z_H} {a : Int32} {b : Int32}  : z_C Γ M_J3_min (z_rm 1 0 0) [.int a, .int b] h (z_ri (m_J3_min h a b) h) := by
  refine z_C.ofF (by decide +kernel) rfl [some (.int a), some (.int b)] (Nat.le_of_ble_eq_true rfl) rfl ?_
  refine z_iload_n dJ3_min_0 rfl rfl ?_
  refine z_iload_n dJ3_min_1 rfl rfl ?_
  refine z_icmp_gt 9 dJ3_min_2 (by decide) (fun c2 => ?_) (fun c2 => ?_)
  · refine z_iload_n dJ3_min_9 rfl rfl ?_
    refine z_iret dJ3_min_10 rfl rfl (Nat.le_refl _) (Nat.le_refl _) (z_ri_i ?_ ?_)
    · first | rfl | (unfold m_J3_min; rw [if_pos (show b < a from c2)]; first | done | rfl)
    · first | rfl | (unfold m_J3_min; rw [if_pos (show b < a from c2)]; first | done | rfl)
  · refine z_iload_n dJ3_min_5 rfl rfl ?_
    refine z_goto 10 dJ3_min_6 (by decide) ?_
    refine z_iret dJ3_min_10 rfl rfl (Nat.le_refl _) (Nat.le_refl _) (z_ri_i ?_ ?_)
    · first | rfl | (unfold m_J3_min; rw [if_neg (show ¬ (b < a) from c2)]; first | done | rfl)
    · first | rfl | (unfold m_J3_min; rw [if_neg (show ¬ (b < a) from c2)]; first | done | rfl)
def m_J3_max (h : z_H) (a : Int32) (b : Int32) : Int32 :=
  if a < b then
    b
  else
    a
theorem c_J3_max {Γ : z_W} {h : z_H} {a : Int32} {b : Int32}  : z_C Γ M_J3_max (z_rm 1 0 0) [.int a, .int b] h (z_ri (m_J3_max h a b) h) := by
  refine z_C.ofF (by decide +kernel) rfl [some (.int a), some (.int b)] (Nat.le_of_ble_eq_true rfl) rfl ?_
  refine z_iload_n dJ3_max_0 rfl rfl ?_
  refine z_iload_n dJ3_max_1 rfl rfl ?_
  refine z_icmp_lt 9 dJ3_max_2 (by decide) (fun c2 => ?_) (fun c2 => ?_)
  · refine z_iload_n dJ3_max_9 rfl rfl ?_
    refine z_iret dJ3_max_10 rfl rfl (Nat.le_refl _) (Nat.le_refl _) (z_ri_i ?_ ?_)
    · first | rfl | (unfold m_J3_max; rw [if_pos (show a < b from c2)]; first | done | rfl)
    · first | rfl | (unfold m_J3_max; rw [if_pos (show a < b from c2)]; first | done | rfl)
  · refine z_iload_n dJ3_max_5 rfl rfl ?_
    refine z_goto 10 dJ3_max_6 (by decide) ?_
    refine z_iret dJ3_max_10 rfl rfl (Nat.le_refl _) (Nat.le_refl _) (z_ri_i ?_ ?_)
    · first | rfl | (unfold m_J3_max; rw [if_neg (show ¬ (a < b) from c2)]; first | done | rfl)
    · first | rfl | (unfold m_J3_max; rw [if_neg (show ¬ (a < b) from c2)]; first | done | rfl)
def m_J3_abs (h : z_H) (a : Int32) : Int32 :=
  if 0 ≤ a then
    a
  else
    -a
theorem c_J3_abs {Γ : z_W} {h : z_H} {a : Int32}  : z_C Γ M_J3_abs (z_rm 1 0 0) [.int a] h (z_ri (m_J3_abs h a) h) := by
  refine z_C.ofF (by decide +kernel) rfl [some (.int a)] (Nat.le_of_ble_eq_true rfl) rfl ?_
  refine z_iload_n dJ3_abs_0 rfl rfl ?_
  refine z_if_ge 9 dJ3_abs_1 (by decide) (fun c1 => ?_) (fun c1 => ?_)
  · refine z_iload_n dJ3_abs_9 rfl rfl ?_
    refine z_iret dJ3_abs_10 rfl rfl (Nat.le_refl _) (Nat.le_refl _) (z_ri_i ?_ ?_)
    · first | rfl | (unfold m_J3_abs; rw [if_pos (show 0 ≤ a from c1)]; first | done | rfl)
    · first | rfl | (unfold m_J3_abs; rw [if_pos (show 0 ≤ a from c1)]; first | done | rfl)
  · refine z_iload_n dJ3_abs_4 rfl rfl ?_
    refine z_ineg dJ3_abs_5 ?_
    refine z_goto 10 dJ3_abs_6 (by decide) ?_
    refine z_iret dJ3_abs_10 rfl rfl (Nat.le_refl _) (Nat.le_refl _) (z_ri_i ?_ ?_)
    · first | rfl | (unfold m_J3_abs; rw [if_neg (show ¬ (0 ≤ a) from c1)]; first | done | rfl)
    · first | rfl | (unfold m_J3_abs; rw [if_neg (show ¬ (0 ≤ a) from c1)]; first | done | rfl)
def m_X0_orNever (h : z_H) (a : Int32) : Int32 :=
  if a = (-5) then
    999
  else
    a
theorem c_X0_orNever {Γ : z_W} {h : z_H} {a : Int32}  : z_C Γ M_X0_orNever (z_rm 1 0 0) [.int a] h (z_ri (m_X0_orNever h a) h) := by
  refine z_C.of (by decide +kernel) rfl [some (.int a)] (Nat.le_of_ble_eq_true rfl) rfl ?_
  refine z_iload_n dX0_orNever_0 rfl rfl ?_
  refine z_bipush (v := (-5)) dX0_orNever_1 rfl ?_
  refine z_icmp_ne 12 dX0_orNever_3 (by decide) (fun c3 => ?_) (fun c3 => ?_)
  · refine z_iload_n dX0_orNever_12 rfl rfl ?_
    refine z_iret dX0_orNever_13 rfl rfl (Nat.le_refl _) (Nat.le_refl _) (z_ri_i ?_ ?_)
    · first | rfl | (unfold m_X0_orNever; rw [if_neg (show ¬ (a = (-5)) from c3)]; first | done | rfl)
    · first | rfl | (unfold m_X0_orNever; rw [if_neg (show ¬ (a = (-5)) from c3)]; first | done | rfl)
  · refine z_sipush (v := 999) dX0_orNever_6 rfl ?_
    refine z_goto 13 dX0_orNever_9 (by decide) ?_
    refine z_iret dX0_orNever_13 rfl rfl (Nat.le_refl _) (Nat.le_refl _) (z_ri_i ?_ ?_)
    · first | rfl | (unfold m_X0_orNever; rw [if_pos (show a = (-5) from c3)]; first | done | rfl)
    · first | rfl | (unfold m_X0_orNever; rw [if_pos (show a = (-5) from c3)]; first | done | rfl)
abbrev m_X0_in (h : z_H) (v lo hi : Int32) : Prop := z_in v lo hi
theorem c_X0_in {Γ : z_W} {h : z_H} {v : Int32} {lo : Int32} {hi : Int32}  : z_C Γ M_X0_in (z_rm 1 0 0) [.int v, .int lo, .int hi] h (z_ri (z_b (m_X0_in h v lo hi)) h) := by
  refine z_C.of (by decide +kernel) rfl [some (.int v), some (.int lo), some (.int hi)] (Nat.le_of_ble_eq_true rfl) rfl ?_
  refine z_iload_n dX0_in_0 rfl rfl ?_
  refine z_iload_n dX0_in_1 rfl rfl ?_
  refine z_icmp_lt 14 dX0_in_2 (by decide) (fun c2 => ?_) (fun c2 => ?_)
  · refine z_iconst (v := 0) dX0_in_14 rfl ?_
    refine z_iret dX0_in_15 rfl rfl (Nat.le_refl _) (Nat.le_refl _) (z_ri_i ?_ ?_)
    · first | exact (z_b1 ⟨Int32.not_lt.mp c2, Int32.not_lt.mp c7⟩).symm | exact (z_b0 (fun q => Int32.not_lt.mpr q.1 c2)).symm | exact (z_b0 (fun q => Int32.not_lt.mpr q.2 c7)).symm
    · rfl
  · refine z_iload_n dX0_in_5 rfl rfl ?_
    refine z_iload_n dX0_in_6 rfl rfl ?_
    refine z_icmp_gt 14 dX0_in_7 (by decide) (fun c7 => ?_) (fun c7 => ?_)
    · refine z_iconst (v := 0) dX0_in_14 rfl ?_
      refine z_iret dX0_in_15 rfl rfl (Nat.le_refl _) (Nat.le_refl _) (z_ri_i ?_ ?_)
      · first | exact (z_b1 ⟨Int32.not_lt.mp c2, Int32.not_lt.mp c7⟩).symm | exact (z_b0 (fun q => Int32.not_lt.mpr q.1 c2)).symm | exact (z_b0 (fun q => Int32.not_lt.mpr q.2 c7)).symm
      · rfl
    · refine z_iconst (v := 1) dX0_in_10 rfl ?_
      refine z_goto 15 dX0_in_11 (by decide) ?_
      refine z_iret dX0_in_15 rfl rfl (Nat.le_refl _) (Nat.le_refl _) (z_ri_i ?_ ?_)
      · first | exact (z_b1 ⟨Int32.not_lt.mp c2, Int32.not_lt.mp c7⟩).symm | exact (z_b0 (fun q => Int32.not_lt.mpr q.1 c2)).symm | exact (z_b0 (fun q => Int32.not_lt.mpr q.2 c7)).symm
      · rfl
abbrev m_X0_isMile (h : z_H) (x : Int32) : Prop := z_in x 0 99
theorem c_X0_isMile {Γ : z_W} {h : z_H} {x : Int32}  : z_C Γ M_X0_isMile (z_rm 2 0 0) [.int x] h (z_ri (z_b (m_X0_isMile h x)) h) := by
  refine z_C.of (by decide +kernel) rfl [some (.int x)] (Nat.le_of_ble_eq_true rfl) rfl ?_
  refine z_iload_n dX0_isMile_0 rfl rfl ?_
  refine z_iconst (v := 0) dX0_isMile_1 rfl ?_
  refine z_bipush (v := 99) dX0_isMile_2 rfl ?_
  refine z_scall sl_X0_5 (c_X0_in) dX0_isMile_4 rfl rfl ⟨by decide, by decide⟩ (Nat.le_of_ble_eq_true rfl) (Nat.le_refl _) (Nat.le_refl _) (z_cI ?_) z_tI
  refine z_iret dX0_isMile_7 rfl (z_bz _) (Nat.le_refl _) (Nat.le_refl _) (z_ri_i ?_ ?_)
  · rfl
  · rfl
abbrev m_X0_isPace (h : z_H) (x : Int32) : Prop := z_in x 1 9
theorem c_X0_isPace {Γ : z_W} {h : z_H} {x : Int32}  : z_C Γ M_X0_isPace (z_rm 2 0 0) [.int x] h (z_ri (z_b (m_X0_isPace h x)) h) := by
  refine z_C.of (by decide +kernel) rfl [some (.int x)] (Nat.le_of_ble_eq_true rfl) rfl ?_
  refine z_iload_n dX0_isPace_0 rfl rfl ?_
  refine z_iconst (v := 1) dX0_isPace_1 rfl ?_
  refine z_bipush (v := 9) dX0_isPace_2 rfl ?_
  refine z_scall sl_X0_5 (c_X0_in) dX0_isPace_4 rfl rfl ⟨by decide, by decide⟩ (Nat.le_of_ble_eq_true rfl) (Nat.le_refl _) (Nat.le_refl _) (z_cI ?_) z_tI
  refine z_iret dX0_isPace_7 rfl (z_bz _) (Nat.le_refl _) (Nat.le_refl _) (z_ri_i ?_ ?_)
  · rfl
  · rfl
abbrev m_X0_isTape (h : z_H) (x : Int32) : Prop := z_in x 0 5
theorem c_X0_isTape {Γ : z_W} {h : z_H} {x : Int32}  : z_C Γ M_X0_isTape (z_rm 2 0 0) [.int x] h (z_ri (z_b (m_X0_isTape h x)) h) := by
  refine z_C.of (by decide +kernel) rfl [some (.int x)] (Nat.le_of_ble_eq_true rfl) rfl ?_
  refine z_iload_n dX0_isTape_0 rfl rfl ?_
  refine z_iconst (v := 0) dX0_isTape_1 rfl ?_
  refine z_iconst (v := 5) dX0_isTape_2 rfl ?_
  refine z_scall sl_X0_5 (c_X0_in) dX0_isTape_3 rfl rfl ⟨by decide, by decide⟩ (Nat.le_of_ble_eq_true rfl) (Nat.le_refl _) (Nat.le_refl _) (z_cI ?_) z_tI
  refine z_iret dX0_isTape_6 rfl (z_bz _) (Nat.le_refl _) (Nat.le_refl _) (z_ri_i ?_ ?_)
  · rfl
  · rfl
abbrev m_X0_isGlide (h : z_H) (x : Int32) (p : Int32) : Prop := (m_X0_isMile h x) ∧ (m_X0_isPace h p)
theorem c_X0_isGlide {Γ : z_W} {h : z_H} {x : Int32} {p : Int32}  : z_C Γ M_X0_isGlide (z_rm 3 0 0) [.int x, .int p] h (z_ri (z_b (m_X0_isGlide h x p)) h) := by
  refine z_C.of (by decide +kernel) rfl [some (.int x), some (.int p)] (Nat.le_of_ble_eq_true rfl) rfl ?_
  refine z_iload_n dX0_isGlide_0 rfl rfl ?_
  refine z_scall sl_X0_142 (c_X0_isMile) dX0_isGlide_1 rfl rfl ⟨by decide, by decide⟩ (Nat.le_of_ble_eq_true rfl) (Nat.le_refl _) (Nat.le_refl _) (z_cI ?_) z_tI
  refine z_bif_eq 18 dX0_isGlide_4 (by decide) (fun c4 => ?_) (fun c4 => ?_)
  · refine z_iconst (v := 0) dX0_isGlide_18 rfl ?_
    refine z_iret dX0_isGlide_19 rfl rfl (Nat.le_refl _) (Nat.le_refl _) (z_ri_i ?_ ?_)
    · exact (z_b0 (fun q => c4 q.1)).symm
    · rfl
  · refine z_iload_n dX0_isGlide_7 rfl rfl ?_
    refine z_scall sl_X0_235 (c_X0_isPace) dX0_isGlide_8 rfl rfl ⟨by decide, by decide⟩ (Nat.le_of_ble_eq_true rfl) (Nat.le_refl _) (Nat.le_refl _) (z_cI ?_) z_tI
    refine z_bif_eq 18 dX0_isGlide_11 (by decide) (fun c11 => ?_) (fun c11 => ?_)
    · refine z_iconst (v := 0) dX0_isGlide_18 rfl ?_
      refine z_iret dX0_isGlide_19 rfl rfl (Nat.le_refl _) (Nat.le_refl _) (z_ri_i ?_ ?_)
      · exact (z_b0 (fun q => c11 q.2)).symm
      · rfl
    · refine z_iconst (v := 1) dX0_isGlide_14 rfl ?_
      refine z_goto 19 dX0_isGlide_15 (by decide) ?_
      refine z_iret dX0_isGlide_19 rfl rfl (Nat.le_refl _) (Nat.le_refl _) (z_ri_i ?_ ?_)
      · exact (z_b1 ⟨c4, c11⟩).symm
      · rfl
theorem c_kind_7 {Γ : z_W} {h : z_H} {L : Nat}  (hT : z_T h L = some (.inl 7))  : z_C Γ M_X7_kind (z_rm 1 0 0) [.ref L] h (z_ri 0 h) := by
  refine z_C.of (by decide +kernel) rfl [some (.ref L)] (Nat.le_of_ble_eq_true rfl) rfl ?_
  refine z_iconst (v := 0) dX7_kind_0 rfl ?_
  refine z_iret dX7_kind_1 rfl rfl (Nat.le_refl _) (Nat.le_refl _) (z_ri_i ?_ ?_)
  · rfl
  · rfl
theorem c_kind_8 {Γ : z_W} {h : z_H} {L : Nat}  (hT : z_T h L = some (.inl 8))  : z_C Γ M_X8_kind (z_rm 1 0 0) [.ref L] h (z_ri 1 h) := by
  refine z_C.of (by decide +kernel) rfl [some (.ref L)] (Nat.le_of_ble_eq_true rfl) rfl ?_
  refine z_iconst (v := 1) dX8_kind_0 rfl ?_
  refine z_iret dX8_kind_1 rfl rfl (Nat.le_refl _) (Nat.le_refl _) (z_ri_i ?_ ?_)
  · rfl
  · rfl
theorem c_kind_9 {Γ : z_W} {h : z_H} {L : Nat}  (hT : z_T h L = some (.inl 9))  : z_C Γ M_X9_kind (z_rm 1 0 0) [.ref L] h (z_ri 2 h) := by
  refine z_C.of (by decide +kernel) rfl [some (.ref L)] (Nat.le_of_ble_eq_true rfl) rfl ?_
  refine z_iconst (v := 2) dX9_kind_0 rfl ?_
  refine z_iret dX9_kind_1 rfl rfl (Nat.le_refl _) (Nat.le_refl _) (z_ri_i ?_ ?_)
  · rfl
  · rfl
theorem c_kind_10 {Γ : z_W} {h : z_H} {L : Nat}  (hT : z_T h L = some (.inl 10))  : z_C Γ M_X10_kind (z_rm 1 0 0) [.ref L] h (z_ri 3 h) := by
  refine z_C.of (by decide +kernel) rfl [some (.ref L)] (Nat.le_of_ble_eq_true rfl) rfl ?_
  refine z_iconst (v := 3) dX10_kind_0 rfl ?_
  refine z_iret dX10_kind_1 rfl rfl (Nat.le_refl _) (Nat.le_refl _) (z_ri_i ?_ ?_)
  · rfl
  · rfl
theorem c_kind_11 {Γ : z_W} {h : z_H} {L : Nat}  (hT : z_T h L = some (.inl 11))  : z_C Γ M_X11_kind (z_rm 1 0 0) [.ref L] h (z_ri 4 h) := by
  refine z_C.of (by decide +kernel) rfl [some (.ref L)] (Nat.le_of_ble_eq_true rfl) rfl ?_
  refine z_iconst (v := 4) dX11_kind_0 rfl ?_
  refine z_iret dX11_kind_1 rfl rfl (Nat.le_refl _) (Nat.le_refl _) (z_ri_i ?_ ?_)
  · rfl
  · rfl
theorem c_kind_12 {Γ : z_W} {h : z_H} {L : Nat}  (hT : z_T h L = some (.inl 12))  : z_C Γ M_X12_kind (z_rm 1 0 0) [.ref L] h (z_ri 5 h) := by
  refine z_C.of (by decide +kernel) rfl [some (.ref L)] (Nat.le_of_ble_eq_true rfl) rfl ?_
  refine z_iconst (v := 5) dX12_kind_0 rfl ?_
  refine z_iret dX12_kind_1 rfl rfl (Nat.le_refl _) (Nat.le_refl _) (z_ri_i ?_ ?_)
  · rfl
  · rfl
theorem c_kind_13 {Γ : z_W} {h : z_H} {L : Nat}  (hT : z_T h L = some (.inl 13))  : z_C Γ M_X13_kind (z_rm 1 0 0) [.ref L] h (z_ri 6 h) := by
  refine z_C.of (by decide +kernel) rfl [some (.ref L)] (Nat.le_of_ble_eq_true rfl) rfl ?_
  refine z_bipush (v := 6) dX13_kind_0 rfl ?_
  refine z_iret dX13_kind_2 rfl rfl (Nat.le_refl _) (Nat.le_refl _) (z_ri_i ?_ ?_)
  · rfl
  · rfl
theorem c_X7_climb_7 {Γ : z_W} {h : z_H} {L : Nat} {g x mi : Int32} (hT : z_T h L = some (.inl 7))  : z_C Γ M_X7_climb (z_rm 1 0 0) [.ref L, .int g, .int x, .int mi] h (z_ri g h) := by
  refine z_C.of (by decide +kernel) rfl [some (.ref L), some (.int g), some (.int x), some (.int mi)] (Nat.le_of_ble_eq_true rfl) rfl ?_
  refine z_iload_n dX7_climb_0 rfl rfl ?_
  refine z_iret dX7_climb_1 rfl rfl (Nat.le_refl _) (Nat.le_refl _) (z_ri_i ?_ ?_)
  · rfl
  · rfl
theorem c_X7_climb_8 {Γ : z_W} {h : z_H} {L : Nat} {g x mi : Int32} (hT : z_T h L = some (.inl 8))  : z_C Γ M_X7_climb (z_rm 1 0 0) [.ref L, .int g, .int x, .int mi] h (z_ri g h) := by
  refine z_C.of (by decide +kernel) rfl [some (.ref L), some (.int g), some (.int x), some (.int mi)] (Nat.le_of_ble_eq_true rfl) rfl ?_
  refine z_iload_n dX7_climb_0 rfl rfl ?_
  refine z_iret dX7_climb_1 rfl rfl (Nat.le_refl _) (Nat.le_refl _) (z_ri_i ?_ ?_)
  · rfl
  · rfl
theorem c_X7_climb_9 {Γ : z_W} {h : z_H} {L : Nat} {g x mi : Int32} (hT : z_T h L = some (.inl 9))  : z_C Γ M_X7_climb (z_rm 1 0 0) [.ref L, .int g, .int x, .int mi] h (z_ri g h) := by
  refine z_C.of (by decide +kernel) rfl [some (.ref L), some (.int g), some (.int x), some (.int mi)] (Nat.le_of_ble_eq_true rfl) rfl ?_
  refine z_iload_n dX7_climb_0 rfl rfl ?_
  refine z_iret dX7_climb_1 rfl rfl (Nat.le_refl _) (Nat.le_refl _) (z_ri_i ?_ ?_)
  · rfl
  · rfl
theorem c_X7_climb_10 {Γ : z_W} {h : z_H} {L : Nat} {g x mi : Int32} (hT : z_T h L = some (.inl 10))  : z_C Γ M_X7_climb (z_rm 1 0 0) [.ref L, .int g, .int x, .int mi] h (z_ri g h) := by
  refine z_C.of (by decide +kernel) rfl [some (.ref L), some (.int g), some (.int x), some (.int mi)] (Nat.le_of_ble_eq_true rfl) rfl ?_
  refine z_iload_n dX7_climb_0 rfl rfl ?_
  refine z_iret dX7_climb_1 rfl rfl (Nat.le_refl _) (Nat.le_refl _) (z_ri_i ?_ ?_)
  · rfl
  · rfl
theorem c_X7_climb_11 {Γ : z_W} {h : z_H} {L : Nat} {g x mi : Int32} (hT : z_T h L = some (.inl 11))  : z_C Γ M_X7_climb (z_rm 1 0 0) [.ref L, .int g, .int x, .int mi] h (z_ri g h) := by
  refine z_C.of (by decide +kernel) rfl [some (.ref L), some (.int g), some (.int x), some (.int mi)] (Nat.le_of_ble_eq_true rfl) rfl ?_
  refine z_iload_n dX7_climb_0 rfl rfl ?_
  refine z_iret dX7_climb_1 rfl rfl (Nat.le_refl _) (Nat.le_refl _) (z_ri_i ?_ ?_)
  · rfl
  · rfl
theorem c_X7_climb_12 {Γ : z_W} {h : z_H} {L : Nat} {g x mi : Int32} (hT : z_T h L = some (.inl 12))  : z_C Γ M_X7_climb (z_rm 1 0 0) [.ref L, .int g, .int x, .int mi] h (z_ri g h) := by
  refine z_C.of (by decide +kernel) rfl [some (.ref L), some (.int g), some (.int x), some (.int mi)] (Nat.le_of_ble_eq_true rfl) rfl ?_
  refine z_iload_n dX7_climb_0 rfl rfl ?_
  refine z_iret dX7_climb_1 rfl rfl (Nat.le_refl _) (Nat.le_refl _) (z_ri_i ?_ ?_)
  · rfl
  · rfl
theorem c_X7_climb_13 {Γ : z_W} {h : z_H} {L : Nat} {g x mi : Int32} (hT : z_T h L = some (.inl 13))  : z_C Γ M_X7_climb (z_rm 1 0 0) [.ref L, .int g, .int x, .int mi] h (z_ri g h) := by
  refine z_C.of (by decide +kernel) rfl [some (.ref L), some (.int g), some (.int x), some (.int mi)] (Nat.le_of_ble_eq_true rfl) rfl ?_
  refine z_iload_n dX7_climb_0 rfl rfl ?_
  refine z_iret dX7_climb_1 rfl rfl (Nat.le_refl _) (Nat.le_refl _) (z_ri_i ?_ ?_)
  · rfl
  · rfl
theorem c_X8_climb_8 {Γ : z_W} {h : z_H} {L : Nat} {g x mi : Int32} (hT : z_T h L = some (.inl 8))  : z_C Γ M_X8_climb (z_rm 2 0 0) [.ref L, .int g, .int x, .int mi] h (z_ri (g + z_I h L 2 / 2) h) := by
  refine z_C.of (by decide +kernel) rfl [some (.ref L), some (.int g), some (.int x), some (.int mi)] (Nat.le_of_ble_eq_true rfl) rfl ?_
  refine z_aload_n dX8_climb_0 rfl rfl ?_
  refine z_iload_n dX8_climb_1 rfl rfl ?_
  refine z_iload_n dX8_climb_2 rfl rfl ?_
  refine z_iload_n dX8_climb_3 rfl rfl ?_
  refine z_ucall ul_X8_9 (c_X7_climb_8 hT) dX8_climb_4 rfl rfl hT rfl ⟨by decide, by decide⟩ (Nat.le_of_ble_eq_true rfl) (Nat.le_refl _) (Nat.le_refl _) (z_cI ?_) z_tI
  refine z_aload_n dX8_climb_7 rfl rfl ?_
  refine z_getI dX8_climb_8 fl_X8_13_8 hT rfl ?_
  refine z_iconst (v := 2) dX8_climb_11 rfl ?_
  refine z_idiv dX8_climb_12 (by decide) ?_
  refine z_iadd dX8_climb_13 ?_
  refine z_iret dX8_climb_14 rfl rfl (Nat.le_refl _) (Nat.le_refl _) (z_ri_i ?_ ?_)
  · rfl
  · rfl
theorem c_X8_climb_11 {Γ : z_W} {h : z_H} {L : Nat} {g x mi : Int32} (hT : z_T h L = some (.inl 11))  : z_C Γ M_X8_climb (z_rm 2 0 0) [.ref L, .int g, .int x, .int mi] h (z_ri (g + z_I h L 2 / 2) h) := by
  refine z_C.of (by decide +kernel) rfl [some (.ref L), some (.int g), some (.int x), some (.int mi)] (Nat.le_of_ble_eq_true rfl) rfl ?_
  refine z_aload_n dX8_climb_0 rfl rfl ?_
  refine z_iload_n dX8_climb_1 rfl rfl ?_
  refine z_iload_n dX8_climb_2 rfl rfl ?_
  refine z_iload_n dX8_climb_3 rfl rfl ?_
  refine z_ucall ul_X8_9 (c_X7_climb_11 hT) dX8_climb_4 rfl rfl hT rfl ⟨by decide, by decide⟩ (Nat.le_of_ble_eq_true rfl) (Nat.le_refl _) (Nat.le_refl _) (z_cI ?_) z_tI
  refine z_aload_n dX8_climb_7 rfl rfl ?_
  refine z_getI dX8_climb_8 fl_X8_13_11 hT rfl ?_
  refine z_iconst (v := 2) dX8_climb_11 rfl ?_
  refine z_idiv dX8_climb_12 (by decide) ?_
  refine z_iadd dX8_climb_13 ?_
  refine z_iret dX8_climb_14 rfl rfl (Nat.le_refl _) (Nat.le_refl _) (z_ri_i ?_ ?_)
  · rfl
  · rfl
theorem c_X9_climb_9 {Γ : z_W} {h : z_H} {L : Nat} {g x mi : Int32} (hT : z_T h L = some (.inl 9))  : z_C Γ M_X9_climb (z_rm 2 0 0) [.ref L, .int g, .int x, .int mi] h (z_ri (g / 2) h) := by
  refine z_C.of (by decide +kernel) rfl [some (.ref L), some (.int g), some (.int x), some (.int mi)] (Nat.le_of_ble_eq_true rfl) rfl ?_
  refine z_aload_n dX9_climb_0 rfl rfl ?_
  refine z_iload_n dX9_climb_1 rfl rfl ?_
  refine z_iload_n dX9_climb_2 rfl rfl ?_
  refine z_iload_n dX9_climb_3 rfl rfl ?_
  refine z_ucall ul_X9_9 (c_X7_climb_9 hT) dX9_climb_4 rfl rfl hT rfl ⟨by decide, by decide⟩ (Nat.le_of_ble_eq_true rfl) (Nat.le_refl _) (Nat.le_refl _) (z_cI ?_) z_tI
  refine z_iconst (v := 2) dX9_climb_7 rfl ?_
  refine z_idiv dX9_climb_8 (by decide) ?_
  refine z_iret dX9_climb_9 rfl rfl (Nat.le_refl _) (Nat.le_refl _) (z_ri_i ?_ ?_)
  · rfl
  · rfl
theorem c_X9_climb_12 {Γ : z_W} {h : z_H} {L : Nat} {g x mi : Int32} (hT : z_T h L = some (.inl 12))  : z_C Γ M_X9_climb (z_rm 2 0 0) [.ref L, .int g, .int x, .int mi] h (z_ri (g / 2) h) := by
  refine z_C.of (by decide +kernel) rfl [some (.ref L), some (.int g), some (.int x), some (.int mi)] (Nat.le_of_ble_eq_true rfl) rfl ?_
  refine z_aload_n dX9_climb_0 rfl rfl ?_
  refine z_iload_n dX9_climb_1 rfl rfl ?_
  refine z_iload_n dX9_climb_2 rfl rfl ?_
  refine z_iload_n dX9_climb_3 rfl rfl ?_
  refine z_ucall ul_X9_9 (c_X7_climb_12 hT) dX9_climb_4 rfl rfl hT rfl ⟨by decide, by decide⟩ (Nat.le_of_ble_eq_true rfl) (Nat.le_refl _) (Nat.le_refl _) (z_cI ?_) z_tI
  refine z_iconst (v := 2) dX9_climb_7 rfl ?_
  refine z_idiv dX9_climb_8 (by decide) ?_
  refine z_iret dX9_climb_9 rfl rfl (Nat.le_refl _) (Nat.le_refl _) (z_ri_i ?_ ?_)
  · rfl
  · rfl
theorem c_X10_climb_10 {Γ : z_W} {h : z_H} {L : Nat} {g x mi : Int32} (hT : z_T h L = some (.inl 10))  : z_C Γ M_X10_climb (z_rm 2 0 0) [.ref L, .int g, .int x, .int mi] h (z_ri (if mi < 100 then g else -2) h) := by
  refine z_C.of (by decide +kernel) rfl [some (.ref L), some (.int g), some (.int x), some (.int mi)] (Nat.le_of_ble_eq_true rfl) rfl ?_
  refine z_iload_n dX10_climb_0 rfl rfl ?_
  refine z_bipush (v := 100) dX10_climb_1 rfl ?_
  refine z_icmp_lt 11 dX10_climb_3 (by decide) (fun c3 => ?_) (fun c3 => ?_)
  · refine z_aload_n dX10_climb_11 rfl rfl ?_
    refine z_iload_n dX10_climb_12 rfl rfl ?_
    refine z_iload_n dX10_climb_13 rfl rfl ?_
    refine z_iload_n dX10_climb_14 rfl rfl ?_
    refine z_ucall ul_X10_9 (c_X7_climb_10 hT) dX10_climb_15 rfl rfl hT rfl ⟨by decide, by decide⟩ (Nat.le_of_ble_eq_true rfl) (Nat.le_refl _) (Nat.le_refl _) (z_cI ?_) z_tI
    refine z_iret dX10_climb_18 rfl rfl (Nat.le_refl _) (Nat.le_refl _) (z_ri_i ?_ ?_)
    · rw [if_pos (show mi < 100 from c3)]
    · rfl
  · refine z_bipush (v := (-2)) dX10_climb_6 rfl ?_
    refine z_goto 18 dX10_climb_8 (by decide) ?_
    refine z_iret dX10_climb_18 rfl rfl (Nat.le_refl _) (Nat.le_refl _) (z_ri_i ?_ ?_)
    · rw [if_neg (show ¬ (mi < 100) from c3)]
    · rfl
theorem c_X10_climb_13 {Γ : z_W} {h : z_H} {L : Nat} {g x mi : Int32} (hT : z_T h L = some (.inl 13))  : z_C Γ M_X10_climb (z_rm 2 0 0) [.ref L, .int g, .int x, .int mi] h (z_ri (if mi < 100 then g else -2) h) := by
  refine z_C.of (by decide +kernel) rfl [some (.ref L), some (.int g), some (.int x), some (.int mi)] (Nat.le_of_ble_eq_true rfl) rfl ?_
  refine z_iload_n dX10_climb_0 rfl rfl ?_
  refine z_bipush (v := 100) dX10_climb_1 rfl ?_
  refine z_icmp_lt 11 dX10_climb_3 (by decide) (fun c3 => ?_) (fun c3 => ?_)
  · refine z_aload_n dX10_climb_11 rfl rfl ?_
    refine z_iload_n dX10_climb_12 rfl rfl ?_
    refine z_iload_n dX10_climb_13 rfl rfl ?_
    refine z_iload_n dX10_climb_14 rfl rfl ?_
    refine z_ucall ul_X10_9 (c_X7_climb_13 hT) dX10_climb_15 rfl rfl hT rfl ⟨by decide, by decide⟩ (Nat.le_of_ble_eq_true rfl) (Nat.le_refl _) (Nat.le_refl _) (z_cI ?_) z_tI
    refine z_iret dX10_climb_18 rfl rfl (Nat.le_refl _) (Nat.le_refl _) (z_ri_i ?_ ?_)
    · rw [if_pos (show mi < 100 from c3)]
    · rfl
  · refine z_bipush (v := (-2)) dX10_climb_6 rfl ?_
    refine z_goto 18 dX10_climb_8 (by decide) ?_
    refine z_iret dX10_climb_18 rfl rfl (Nat.le_refl _) (Nat.le_refl _) (z_ri_i ?_ ?_)
    · rw [if_neg (show ¬ (mi < 100) from c3)]
    · rfl
theorem c_X11_climb_11 {Γ : z_W} {h : z_H} {L : Nat} {g x mi : Int32} (hT : z_T h L = some (.inl 11))  : z_C Γ M_X11_climb (z_rm 3 0 0) [.ref L, .int g, .int x, .int mi] h (z_ri (if x ≤ 40 * z_I h L 2 then g + z_I h L 2 / 2 else 0) h) := by
  refine z_C.of (by decide +kernel) rfl [some (.ref L), some (.int g), some (.int x), some (.int mi)] (Nat.le_of_ble_eq_true rfl) rfl ?_
  refine z_iload_n dX11_climb_0 rfl rfl ?_
  refine z_bipush (v := 40) dX11_climb_1 rfl ?_
  refine z_aload_n dX11_climb_3 rfl rfl ?_
  refine z_getI dX11_climb_4 fl_X11_9_11 hT rfl ?_
  refine z_imul dX11_climb_7 ?_
  refine z_icmp_le 15 dX11_climb_8 (by decide) (fun c8 => ?_) (fun c8 => ?_)
  · refine z_aload_n dX11_climb_15 rfl rfl ?_
    refine z_iload_n dX11_climb_16 rfl rfl ?_
    refine z_iload_n dX11_climb_17 rfl rfl ?_
    refine z_iload_n dX11_climb_18 rfl rfl ?_
    refine z_ucall ul_X11_15 (c_X8_climb_11 hT) dX11_climb_19 rfl rfl hT rfl ⟨by decide, by decide⟩ (Nat.le_of_ble_eq_true rfl) (Nat.le_refl _) (Nat.le_refl _) (z_cI ?_) z_tI
    refine z_iret dX11_climb_22 rfl rfl (Nat.le_refl _) (Nat.le_refl _) (z_ri_i ?_ ?_)
    · rw [if_pos (show x ≤ (40 * (z_I h L 2)) from c8)]
    · rfl
  · refine z_iconst (v := 0) dX11_climb_11 rfl ?_
    refine z_goto 22 dX11_climb_12 (by decide) ?_
    refine z_iret dX11_climb_22 rfl rfl (Nat.le_refl _) (Nat.le_refl _) (z_ri_i ?_ ?_)
    · rw [if_neg (show ¬ (x ≤ (40 * (z_I h L 2))) from c8)]
    · rfl
theorem c_X12_climb_12 {Γ : z_W} {h : z_H} {L : Nat} {g x mi : Int32} (hT : z_T h L = some (.inl 12)) (hv : ¬ z_I h L 2 + 2 = 0) : z_C Γ M_X12_climb (z_rm 3 0 0) [.ref L, .int g, .int x, .int mi] h (z_ri (if mi - mi / (z_I h L 2 + 2) * (z_I h L 2 + 2) = 0 then -1 else g / 2) h) := by
  refine z_C.of (by decide +kernel) rfl [some (.ref L), some (.int g), some (.int x), some (.int mi)] (Nat.le_of_ble_eq_true rfl) rfl ?_
  refine z_iload_n dX12_climb_0 rfl rfl ?_
  refine z_aload_n dX12_climb_1 rfl rfl ?_
  refine z_getI dX12_climb_2 fl_X12_9_12 hT rfl ?_
  refine z_iconst (v := 2) dX12_climb_5 rfl ?_
  refine z_iadd dX12_climb_6 ?_
  refine z_irem dX12_climb_7 hv ?_
  refine z_if_ne 15 dX12_climb_8 (by decide) (fun c8 => ?_) (fun c8 => ?_)
  · refine z_aload_n dX12_climb_15 rfl rfl ?_
    refine z_iload_n dX12_climb_16 rfl rfl ?_
    refine z_iload_n dX12_climb_17 rfl rfl ?_
    refine z_iload_n dX12_climb_18 rfl rfl ?_
    refine z_ucall ul_X12_15 (c_X9_climb_12 hT) dX12_climb_19 rfl rfl hT rfl ⟨by decide, by decide⟩ (Nat.le_of_ble_eq_true rfl) (Nat.le_refl _) (Nat.le_refl _) (z_cI ?_) z_tI
    refine z_iret dX12_climb_22 rfl rfl (Nat.le_refl _) (Nat.le_refl _) (z_ri_i ?_ ?_)
    · rw [if_neg (show ¬ ((mi - mi / ((z_I h L 2) + 2) * ((z_I h L 2) + 2)) = 0) from c8)]
    · rfl
  · refine z_iconst (v := (-1)) dX12_climb_11 rfl ?_
    refine z_goto 22 dX12_climb_12 (by decide) ?_
    refine z_iret dX12_climb_22 rfl rfl (Nat.le_refl _) (Nat.le_refl _) (z_ri_i ?_ ?_)
    · rw [if_pos (show (mi - mi / ((z_I h L 2) + 2) * ((z_I h L 2) + 2)) = 0 from c8)]
    · rfl
theorem c_X13_climb_13 {Γ : z_W} {h : z_H} {L : Nat} {g x mi : Int32} (hT : z_T h L = some (.inl 13)) (hr : z_R h L 4 = some 19) (h19 : z_T h 19 = some (.inr (.int, 24))) (hn : z_I h L 1 = nI (z_c (z_I h L 1)) ∧ z_c (z_I h L 1) < 6) {B : Nat} (hmi : z_cn mi B) (hB : B < 2 ^ 31) : z_C Γ M_X13_climb (z_rm 3 0 0) [.ref L, .int g, .int x, .int mi] h (z_ri ((if mi < 100 then g else -2) + z_I h 19 (4 * z_c (z_I h L 1) + z_c mi % 4)) h) := by
  refine z_C.of (by decide +kernel) rfl [some (.ref L), some (.int g), some (.int x), some (.int mi)] (Nat.le_of_ble_eq_true rfl) rfl ?_
  refine z_aload_n dX13_climb_0 rfl rfl ?_
  refine z_iload_n dX13_climb_1 rfl rfl ?_
  refine z_iload_n dX13_climb_2 rfl rfl ?_
  refine z_iload_n dX13_climb_3 rfl rfl ?_
  refine z_ucall ul_X13_15 (c_X10_climb_13 hT) dX13_climb_4 rfl rfl hT rfl ⟨by decide, by decide⟩ (Nat.le_of_ble_eq_true rfl) (Nat.le_refl _) (Nat.le_refl _) (z_cI ?_) z_tI
  refine z_aload_n dX13_climb_7 rfl rfl ?_
  refine z_getR (19) dX13_climb_8 fl_X13_9_13 hT rfl hr ?_
  refine z_iconst (v := 4) dX13_climb_11 rfl ?_
  refine z_aload_n dX13_climb_12 rfl rfl ?_
  refine z_getI dX13_climb_13 fl_X13_19_13 hT rfl ?_
  refine z_imul dX13_climb_16 ?_
  refine z_iload_n dX13_climb_17 rfl rfl ?_
  refine z_iconst (v := 4) dX13_climb_18 rfl ?_
  refine z_irem dX13_climb_19 (by decide) ?_
  refine z_iadd dX13_climb_20 ?_
  refine z_iald (4 * z_c (z_I h L 1) + z_c mi % 4) dX13_climb_21 h19 (by rw [← nI_add, ← pk_mul, ← hn.1, ← pk_rem (by have := hmi.2; omega) (by decide) (by decide), ← hmi.1]; rfl) (by have := hn.2; have := Nat.mod_lt (z_c mi) (show 4 > 0 by decide); omega) (by decide) ?_
  refine z_iadd dX13_climb_22 ?_
  refine z_iret dX13_climb_23 rfl rfl (Nat.le_refl _) (Nat.le_refl _) (z_ri_i ?_ ?_)
  · rfl
  · rfl
