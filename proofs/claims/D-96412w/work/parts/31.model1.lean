/-! THE REFERENCE (SomebodysLiftModel), small methods: printed by model1.py -/
set_option maxRecDepth 20000
theorem z_tout6 {x : Int32} (h0 : ¬ x = 0) (h1 : ¬ x = 1) (h2 : ¬ x = 2) (h3 : ¬ x = 3) (h4 : ¬ x = 4) (h5 : ¬ x = 5) : x.toInt < 0 ∨ 5 < x.toInt := by
  simp only [← Int32.toInt_inj] at h0 h1 h2 h3 h4 h5
  simp only [show (0 : Int32).toInt = 0 from rfl, show (1 : Int32).toInt = 1 from rfl, show (2 : Int32).toInt = 2 from rfl, show (3 : Int32).toInt = 3 from rfl, show (4 : Int32).toInt = 4 from rfl, show (5 : Int32).toInt = 5 from rfl] at h0 h1 h2 h3 h4 h5
  omega
theorem z_tout7 {x : Int32} (h0 : ¬ x = 0) (h1 : ¬ x = 1) (h2 : ¬ x = 2) (h3 : ¬ x = 3) (h4 : ¬ x = 4) (h5 : ¬ x = 5) (h6 : ¬ x = 6) : x.toInt < 0 ∨ 6 < x.toInt := by
  have h := z_tout6 h0 h1 h2 h3 h4 h5
  simp only [← Int32.toInt_inj] at h6
  simp only [show (6 : Int32).toInt = 6 from rfl] at h6
  omega
abbrev m_X6_in (h : z_H) (v lo hi : Int32) : Prop := z_in v lo hi
theorem c_X6_in {Γ : z_W} {h : z_H} {v : Int32} {lo : Int32} {hi : Int32} (hF : z_F h)  : z_C Γ M_X6_in (z_rm 1 0 0) [.ref 49, .int v, .int lo, .int hi] h (z_ri (z_b (m_X6_in h v lo hi)) h) := by
  refine z_C.of (by decide +kernel) rfl [some (.ref 49), some (.int v), some (.int lo), some (.int hi)] (Nat.le_of_ble_eq_true rfl) rfl ?_
  refine z_iload_n dX6_in_0 rfl rfl ?_
  refine z_iload_n dX6_in_1 rfl rfl ?_
  refine z_icmp_lt 14 dX6_in_2 (by decide) (fun c2 => ?_) (fun c2 => ?_)
  · refine z_iconst (v := 0) dX6_in_14 rfl ?_
    refine z_iret dX6_in_15 rfl rfl (Nat.le_refl _) (Nat.le_refl _) (z_ri_i ?_ ?_)
    · first | exact (z_b1 ⟨Int32.not_lt.mp c2, Int32.not_lt.mp c7⟩).symm | exact (z_b0 (fun q => Int32.not_lt.mpr q.1 c2)).symm | exact (z_b0 (fun q => Int32.not_lt.mpr q.2 c7)).symm
    · rfl
  · refine z_iload_n dX6_in_5 rfl rfl ?_
    refine z_iload_n dX6_in_6 rfl rfl ?_
    refine z_icmp_gt 14 dX6_in_7 (by decide) (fun c7 => ?_) (fun c7 => ?_)
    · refine z_iconst (v := 0) dX6_in_14 rfl ?_
      refine z_iret dX6_in_15 rfl rfl (Nat.le_refl _) (Nat.le_refl _) (z_ri_i ?_ ?_)
      · first | exact (z_b1 ⟨Int32.not_lt.mp c2, Int32.not_lt.mp c7⟩).symm | exact (z_b0 (fun q => Int32.not_lt.mpr q.1 c2)).symm | exact (z_b0 (fun q => Int32.not_lt.mpr q.2 c7)).symm
      · rfl
    · refine z_iconst (v := 1) dX6_in_10 rfl ?_
      refine z_goto 15 dX6_in_11 (by decide) ?_
      refine z_iret dX6_in_15 rfl rfl (Nat.le_refl _) (Nat.le_refl _) (z_ri_i ?_ ?_)
      · first | exact (z_b1 ⟨Int32.not_lt.mp c2, Int32.not_lt.mp c7⟩).symm | exact (z_b0 (fun q => Int32.not_lt.mpr q.1 c2)).symm | exact (z_b0 (fun q => Int32.not_lt.mpr q.2 c7)).symm
      · rfl
def m_X6_apart (h : z_H) (a : Int32) (b : Int32) : Int32 :=
  if b ≤ a then
    a - b
  else
    b - a
theorem c_X6_apart {Γ : z_W} {h : z_H} {a : Int32} {b : Int32} (hF : z_F h)  : z_C Γ M_X6_apart (z_rm 1 0 0) [.ref 49, .int a, .int b] h (z_ri (m_X6_apart h a b) h) := by
  refine z_C.of (by decide +kernel) rfl [some (.ref 49), some (.int a), some (.int b)] (Nat.le_of_ble_eq_true rfl) rfl ?_
  refine z_iload_n dX6_apart_0 rfl rfl ?_
  refine z_iload_n dX6_apart_1 rfl rfl ?_
  refine z_icmp_ge 11 dX6_apart_2 (by decide) (fun c2 => ?_) (fun c2 => ?_)
  · refine z_iload_n dX6_apart_11 rfl rfl ?_
    refine z_iload_n dX6_apart_12 rfl rfl ?_
    refine z_isub dX6_apart_13 ?_
    refine z_iret dX6_apart_14 rfl rfl (Nat.le_refl _) (Nat.le_refl _) (z_ri_i ?_ ?_)
    · first | rfl | (unfold m_X6_apart; rw [if_pos (show b ≤ a from c2)]; first | done | rfl)
    · first | rfl | (unfold m_X6_apart; rw [if_pos (show b ≤ a from c2)]; first | done | rfl)
  · refine z_iload_n dX6_apart_5 rfl rfl ?_
    refine z_iload_n dX6_apart_6 rfl rfl ?_
    refine z_isub dX6_apart_7 ?_
    refine z_goto 14 dX6_apart_8 (by decide) ?_
    refine z_iret dX6_apart_14 rfl rfl (Nat.le_refl _) (Nat.le_refl _) (z_ri_i ?_ ?_)
    · first | rfl | (unfold m_X6_apart; rw [if_neg (show ¬ (b ≤ a) from c2)]; first | done | rfl)
    · first | rfl | (unfold m_X6_apart; rw [if_neg (show ¬ (b ≤ a) from c2)]; first | done | rfl)
abbrev m_X6_isLift (h : z_H) (x : Int32) : Prop := z_in x 0 ((z_I h 49 0) - 1)
theorem c_X6_isLift {Γ : z_W} {h : z_H} {x : Int32} (hF : z_F h)  : z_C Γ M_X6_isLift (z_rm 2 0 0) [.ref 49, .int x] h (z_ri (z_b (m_X6_isLift h x)) h) := by
  refine z_C.of (by decide +kernel) rfl [some (.ref 49), some (.int x)] (Nat.le_of_ble_eq_true rfl) rfl ?_
  refine z_aload_n dX6_isLift_0 rfl rfl ?_
  refine z_iload_n dX6_isLift_1 rfl rfl ?_
  refine z_iconst (v := 0) dX6_isLift_2 rfl ?_
  refine z_aload_n dX6_isLift_3 rfl rfl ?_
  refine z_getI dX6_isLift_4 fl_X6_7_6 (hF.1 49 _ rfl) rfl ?_
  refine z_iconst (v := 1) dX6_isLift_7 rfl ?_
  refine z_isub dX6_isLift_8 ?_
  refine z_vcall vl_X6_227_6 (c_X6_in hF) dX6_isLift_9 rfl rfl (hF.1 49 _ rfl) ⟨by decide, by decide⟩ (Nat.le_of_ble_eq_true rfl) (Nat.le_refl _) (Nat.le_refl _) (z_cI ?_) z_tI
  refine z_iret dX6_isLift_12 rfl (z_bz _) (Nat.le_refl _) (Nat.le_refl _) (z_ri_i ?_ ?_)
  · rfl
  · rfl
abbrev m_X6_isMile (h : z_H) (x : Int32) : Prop := z_in x 0 99
theorem c_X6_isMile {Γ : z_W} {h : z_H} {x : Int32} (hF : z_F h)  : z_C Γ M_X6_isMile (z_rm 2 0 0) [.ref 49, .int x] h (z_ri (z_b (m_X6_isMile h x)) h) := by
  refine z_C.of (by decide +kernel) rfl [some (.ref 49), some (.int x)] (Nat.le_of_ble_eq_true rfl) rfl ?_
  refine z_aload_n dX6_isMile_0 rfl rfl ?_
  refine z_iload_n dX6_isMile_1 rfl rfl ?_
  refine z_iconst (v := 0) dX6_isMile_2 rfl ?_
  refine z_bipush (v := 99) dX6_isMile_3 rfl ?_
  refine z_vcall vl_X6_227_6 (c_X6_in hF) dX6_isMile_5 rfl rfl (hF.1 49 _ rfl) ⟨by decide, by decide⟩ (Nat.le_of_ble_eq_true rfl) (Nat.le_refl _) (Nat.le_refl _) (z_cI ?_) z_tI
  refine z_iret dX6_isMile_8 rfl (z_bz _) (Nat.le_refl _) (Nat.le_refl _) (z_ri_i ?_ ?_)
  · rfl
  · rfl
abbrev m_X6_isPace (h : z_H) (x : Int32) : Prop := z_in x 1 9
theorem c_X6_isPace {Γ : z_W} {h : z_H} {x : Int32} (hF : z_F h)  : z_C Γ M_X6_isPace (z_rm 2 0 0) [.ref 49, .int x] h (z_ri (z_b (m_X6_isPace h x)) h) := by
  refine z_C.of (by decide +kernel) rfl [some (.ref 49), some (.int x)] (Nat.le_of_ble_eq_true rfl) rfl ?_
  refine z_aload_n dX6_isPace_0 rfl rfl ?_
  refine z_iload_n dX6_isPace_1 rfl rfl ?_
  refine z_iconst (v := 1) dX6_isPace_2 rfl ?_
  refine z_bipush (v := 9) dX6_isPace_3 rfl ?_
  refine z_vcall vl_X6_227_6 (c_X6_in hF) dX6_isPace_5 rfl rfl (hF.1 49 _ rfl) ⟨by decide, by decide⟩ (Nat.le_of_ble_eq_true rfl) (Nat.le_refl _) (Nat.le_refl _) (z_cI ?_) z_tI
  refine z_iret dX6_isPace_8 rfl (z_bz _) (Nat.le_refl _) (Nat.le_refl _) (z_ri_i ?_ ?_)
  · rfl
  · rfl
abbrev m_X6_isTime (h : z_H) (x : Int32) : Prop := z_in x 0 60
theorem c_X6_isTime {Γ : z_W} {h : z_H} {x : Int32} (hF : z_F h)  : z_C Γ M_X6_isTime (z_rm 2 0 0) [.ref 49, .int x] h (z_ri (z_b (m_X6_isTime h x)) h) := by
  refine z_C.of (by decide +kernel) rfl [some (.ref 49), some (.int x)] (Nat.le_of_ble_eq_true rfl) rfl ?_
  refine z_aload_n dX6_isTime_0 rfl rfl ?_
  refine z_iload_n dX6_isTime_1 rfl rfl ?_
  refine z_iconst (v := 0) dX6_isTime_2 rfl ?_
  refine z_bipush (v := 60) dX6_isTime_3 rfl ?_
  refine z_vcall vl_X6_227_6 (c_X6_in hF) dX6_isTime_5 rfl rfl (hF.1 49 _ rfl) ⟨by decide, by decide⟩ (Nat.le_of_ble_eq_true rfl) (Nat.le_refl _) (Nat.le_refl _) (z_cI ?_) z_tI
  refine z_iret dX6_isTime_8 rfl (z_bz _) (Nat.le_refl _) (Nat.le_refl _) (z_ri_i ?_ ?_)
  · rfl
  · rfl
abbrev m_X6_isTape (h : z_H) (x : Int32) : Prop := z_in x 0 5
theorem c_X6_isTape {Γ : z_W} {h : z_H} {x : Int32} (hF : z_F h)  : z_C Γ M_X6_isTape (z_rm 2 0 0) [.ref 49, .int x] h (z_ri (z_b (m_X6_isTape h x)) h) := by
  refine z_C.of (by decide +kernel) rfl [some (.ref 49), some (.int x)] (Nat.le_of_ble_eq_true rfl) rfl ?_
  refine z_aload_n dX6_isTape_0 rfl rfl ?_
  refine z_iload_n dX6_isTape_1 rfl rfl ?_
  refine z_iconst (v := 0) dX6_isTape_2 rfl ?_
  refine z_iconst (v := 5) dX6_isTape_3 rfl ?_
  refine z_vcall vl_X6_227_6 (c_X6_in hF) dX6_isTape_4 rfl rfl (hF.1 49 _ rfl) ⟨by decide, by decide⟩ (Nat.le_of_ble_eq_true rfl) (Nat.le_refl _) (Nat.le_refl _) (z_cI ?_) z_tI
  refine z_iret dX6_isTape_7 rfl (z_bz _) (Nat.le_refl _) (Nat.le_refl _) (z_ri_i ?_ ?_)
  · rfl
  · rfl
def m_X6_pull (h : z_H) (l : Int32) (n : Int32) : Int32 × z_H :=
  if m_X6_isLift h l then
    if z_in n 0 20 then
      (z_I h 53 (z_c l), z_sI h 53 (z_c l) n)
    else
      ((-2), h)
  else
    ((-1), h)
theorem c_X6_pull {Γ : z_W} {h : z_H} {l : Int32} {n : Int32} (hF : z_F h) (hm : z_cn (z_I h 49 0) 6) : z_C Γ M_X6_pull (z_rm 3 0 0) [.ref 49, .int l, .int n] h (z_ri (m_X6_pull h l n).1 (m_X6_pull h l n).2) := by
  refine z_C.of (by decide +kernel) rfl [some (.ref 49), some (.int l), some (.int n), none] (Nat.le_of_ble_eq_true rfl) rfl ?_
  refine z_aload_n dX6_pull_0 rfl rfl ?_
  refine z_iload_n dX6_pull_1 rfl rfl ?_
  refine z_vcall vl_X6_235_6 (c_X6_isLift hF) dX6_pull_2 rfl rfl (hF.1 49 _ rfl) ⟨by decide, by decide⟩ (Nat.le_of_ble_eq_true rfl) (Nat.le_refl _) (Nat.le_refl _) (z_cI ?_) z_tI
  refine z_bif_ne 10 dX6_pull_5 (by decide) (fun c5 => ?_) (fun c5 => ?_)
  · have hl := z_ix hm (by decide) c5
    refine z_aload_n dX6_pull_10 rfl rfl ?_
    refine z_iload_n dX6_pull_11 rfl rfl ?_
    refine z_iconst (v := 0) dX6_pull_12 rfl ?_
    refine z_bipush (v := 20) dX6_pull_13 rfl ?_
    refine z_vcall vl_X6_227_6 (c_X6_in hF) dX6_pull_15 rfl rfl (hF.1 49 _ rfl) ⟨by decide, by decide⟩ (Nat.le_of_ble_eq_true rfl) (Nat.le_refl _) (Nat.le_refl _) (z_cI ?_) z_tI
    refine z_bif_ne 24 dX6_pull_18 (by decide) (fun c18 => ?_) (fun c18 => ?_)
    · refine z_aload_n dX6_pull_24 rfl rfl ?_
      refine z_getR 53 dX6_pull_25 fl_X6_38_6 (hF.1 49 _ rfl) rfl (hF.2.1 49 9 53 rfl) ?_
      refine z_iload_n dX6_pull_28 rfl rfl ?_
      refine z_iald (z_c l) dX6_pull_29 (hF.1 53 _ rfl) (hl).1 (by have := hl.2; have := hm.2; omega) (by decide) ?_
      refine z_istore_n dX6_pull_30 rfl (by decide) rfl ?_
      refine z_aload_n dX6_pull_31 rfl rfl ?_
      refine z_getR 53 dX6_pull_32 fl_X6_38_6 (hF.1 49 _ rfl) rfl (hF.2.1 49 9 53 rfl) ?_
      refine z_iload_n dX6_pull_35 rfl rfl ?_
      refine z_iload_n dX6_pull_36 rfl rfl ?_
      refine z_iast (z_c l) dX6_pull_37 (hF.1 53 _ rfl) (by decide) (hl).1 (by have := hl.2; have := hm.2; omega) (by decide) ?_
      refine z_iload_n dX6_pull_38 rfl rfl ?_
      refine z_iret dX6_pull_39 rfl rfl (Nat.le_refl _) (Nat.le_refl _) (z_ri_i ?_ ?_)
      · first | rfl | (unfold m_X6_pull; rw [if_pos (show m_X6_isLift h l from c5), if_pos (show z_in n 0 20 from c18)]; first | done | rfl)
      · first | rfl | (unfold m_X6_pull; rw [if_pos (show m_X6_isLift h l from c5), if_pos (show z_in n 0 20 from c18)]; first | done | rfl)
    · refine z_bipush (v := (-2)) dX6_pull_21 rfl ?_
      refine z_iret dX6_pull_23 rfl rfl (Nat.le_refl _) (Nat.le_refl _) (z_ri_i ?_ ?_)
      · first | rfl | (unfold m_X6_pull; rw [if_pos (show m_X6_isLift h l from c5), if_neg (show ¬ (z_in n 0 20) from c18)]; first | done | rfl)
      · first | rfl | (unfold m_X6_pull; rw [if_pos (show m_X6_isLift h l from c5), if_neg (show ¬ (z_in n 0 20) from c18)]; first | done | rfl)
  · refine z_iconst (v := (-1)) dX6_pull_8 rfl ?_
    refine z_iret dX6_pull_9 rfl rfl (Nat.le_refl _) (Nat.le_refl _) (z_ri_i ?_ ?_)
    · first | rfl | (unfold m_X6_pull; rw [if_neg (show ¬ (m_X6_isLift h l) from c5)]; first | done | rfl)
    · first | rfl | (unfold m_X6_pull; rw [if_neg (show ¬ (m_X6_isLift h l) from c5)]; first | done | rfl)
def m_X6_home (h : z_H) (x : Int32) : Int32 × z_H :=
  if m_X6_isMile h x then
    (z_I h 49 5, z_sI h 49 5 x)
  else
    ((-2), h)
theorem c_X6_home {Γ : z_W} {h : z_H} {x : Int32} (hF : z_F h)  : z_C Γ M_X6_home (z_rm 3 0 0) [.ref 49, .int x] h (z_ri (m_X6_home h x).1 (m_X6_home h x).2) := by
  refine z_C.of (by decide +kernel) rfl [some (.ref 49), some (.int x), none] (Nat.le_of_ble_eq_true rfl) rfl ?_
  refine z_aload_n dX6_home_0 rfl rfl ?_
  refine z_iload_n dX6_home_1 rfl rfl ?_
  refine z_vcall vl_X6_231_6 (c_X6_isMile hF) dX6_home_2 rfl rfl (hF.1 49 _ rfl) ⟨by decide, by decide⟩ (Nat.le_of_ble_eq_true rfl) (Nat.le_refl _) (Nat.le_refl _) (z_cI ?_) z_tI
  refine z_bif_ne 11 dX6_home_5 (by decide) (fun c5 => ?_) (fun c5 => ?_)
  · refine z_aload_n dX6_home_11 rfl rfl ?_
    refine z_getI dX6_home_12 fl_X6_25_6 (hF.1 49 _ rfl) rfl ?_
    refine z_istore_n dX6_home_15 rfl (by decide) rfl ?_
    refine z_aload_n dX6_home_16 rfl rfl ?_
    refine z_iload_n dX6_home_17 rfl rfl ?_
    refine z_putI dX6_home_18 (pl_X6_25_6 rfl) (hF.1 49 _ rfl) (by decide) rfl ?_
    refine z_iload_n dX6_home_21 rfl rfl ?_
    refine z_iret dX6_home_22 rfl rfl (Nat.le_refl _) (Nat.le_refl _) (z_ri_i ?_ ?_)
    · first | rfl | (unfold m_X6_home; rw [if_pos (show m_X6_isMile h x from c5)]; first | done | rfl)
    · first | rfl | (unfold m_X6_home; rw [if_pos (show m_X6_isMile h x from c5)]; first | done | rfl)
  · refine z_bipush (v := (-2)) dX6_home_8 rfl ?_
    refine z_iret dX6_home_10 rfl rfl (Nat.le_refl _) (Nat.le_refl _) (z_ri_i ?_ ?_)
    · first | rfl | (unfold m_X6_home; rw [if_neg (show ¬ (m_X6_isMile h x) from c5)]; first | done | rfl)
    · first | rfl | (unfold m_X6_home; rw [if_neg (show ¬ (m_X6_isMile h x) from c5)]; first | done | rfl)
def m_X6_height (h : z_H) (n : Int32) : Int32 × z_H :=
  if z_in n 0 400 then
    (z_I h 49 3, z_sI h 49 3 n)
  else
    ((-2), h)
theorem c_X6_height {Γ : z_W} {h : z_H} {n : Int32} (hF : z_F h)  : z_C Γ M_X6_height (z_rm 2 0 0) [.ref 49, .int n] h (z_ri (m_X6_height h n).1 (m_X6_height h n).2) := by
  refine z_C.of (by decide +kernel) rfl [some (.ref 49), some (.int n), none] (Nat.le_of_ble_eq_true rfl) rfl ?_
  refine z_aload_n dX6_height_0 rfl rfl ?_
  refine z_iload_n dX6_height_1 rfl rfl ?_
  refine z_iconst (v := 0) dX6_height_2 rfl ?_
  refine z_sipush (v := 400) dX6_height_3 rfl ?_
  refine z_vcall vl_X6_227_6 (c_X6_in hF) dX6_height_6 rfl rfl (hF.1 49 _ rfl) ⟨by decide, by decide⟩ (Nat.le_of_ble_eq_true rfl) (Nat.le_refl _) (Nat.le_refl _) (z_cI ?_) z_tI
  refine z_bif_ne 15 dX6_height_9 (by decide) (fun c9 => ?_) (fun c9 => ?_)
  · refine z_aload_n dX6_height_15 rfl rfl ?_
    refine z_getI dX6_height_16 fl_X6_19_6 (hF.1 49 _ rfl) rfl ?_
    refine z_istore_n dX6_height_19 rfl (by decide) rfl ?_
    refine z_aload_n dX6_height_20 rfl rfl ?_
    refine z_iload_n dX6_height_21 rfl rfl ?_
    refine z_putI dX6_height_22 (pl_X6_19_6 rfl) (hF.1 49 _ rfl) (by decide) rfl ?_
    refine z_iload_n dX6_height_25 rfl rfl ?_
    refine z_iret dX6_height_26 rfl rfl (Nat.le_refl _) (Nat.le_refl _) (z_ri_i ?_ ?_)
    · first | rfl | (unfold m_X6_height; rw [if_pos (show z_in n 0 400 from c9)]; first | done | rfl)
    · first | rfl | (unfold m_X6_height; rw [if_pos (show z_in n 0 400 from c9)]; first | done | rfl)
  · refine z_bipush (v := (-2)) dX6_height_12 rfl ?_
    refine z_iret dX6_height_14 rfl rfl (Nat.le_refl _) (Nat.le_refl _) (z_ri_i ?_ ?_)
    · first | rfl | (unfold m_X6_height; rw [if_neg (show ¬ (z_in n 0 400) from c9)]; first | done | rfl)
    · first | rfl | (unfold m_X6_height; rw [if_neg (show ¬ (z_in n 0 400) from c9)]; first | done | rfl)
