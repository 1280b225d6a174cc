/-! THE CLASS: looks and tests (printed by class4.py) -/
set_option maxRecDepth 20000
/-- where a letter's number lies in a look -/
def a_lf (c : Int32) : Nat := if c = 104 then 2 else if c = 107 then 1 else if c = 108 then 0 else if c = 116 then 3 else if c = 118 then 4 else 5
def a_ltv (c : Int32) : Prop := c = 104 ∨ c = 107 ∨ c = 108 ∨ c = 109 ∨ c = 116 ∨ c = 118
theorem a_lf_pc {c : Int32} (h : a_ltv c) : a_pc c = nI (a_lf c) ∧ a_lf c < 6 := by
  rcases h with rfl | rfl | rfl | rfl | rfl | rfl <;> exact ⟨by decide, by decide⟩
/-- a look shows the facts φ -/
def z_Lk (h : z_H) (φ : Int32 → Int32) : Prop := ∀ k, k < 6 → z_I h 25 k = φ (nI k)
theorem z_Lk.at {h : z_H} {φ : Int32 → Int32} (hk : z_Lk h φ) {c : Int32} (hc : a_ltv c) : z_I h 25 (a_lf c) = φ (a_pc c) := by
  rw [(a_lf_pc hc).1]; exact hk _ (a_lf_pc hc).2
theorem c_X3_of {Γ : z_W} {h : z_H} {c : Int32} (hT : z_T h 25 = some (.inl 3)) : z_C Γ M_X3_of (z_rm 1 0 0) [.ref 25, .int c] h (z_ri (z_I h 25 (a_lf c)) h) := by
  refine z_C.of (by decide +kernel) rfl [some (.ref 25), some (.int c)] (Nat.le_of_ble_eq_true rfl) rfl ?_
  refine z_iload_n dX3_of_0 rfl rfl ?_
  by_cases e1_0 : c = 104
  · refine z_tableIn 104 86 dX3_of_1 e1_0 (by decide) (by decide) rfl (by decide) ?_
    refine z_aload_n dX3_of_86 rfl rfl ?_
    refine z_getI dX3_of_87 fl_X3_16_3 hT rfl ?_
    refine z_iret dX3_of_90 rfl rfl (Nat.le_refl _) (Nat.le_refl _) (z_ri_i ?_ ?_)
    · unfold a_lf; rw [if_pos (show c = 104 from e1_0)]
    · rfl
  by_cases e1_3 : c = 107
  · refine z_tableIn 107 81 dX3_of_1 e1_3 (by decide) (by decide) rfl (by decide) ?_
    refine z_aload_n dX3_of_81 rfl rfl ?_
    refine z_getI dX3_of_82 fl_X3_13_3 hT rfl ?_
    refine z_iret dX3_of_85 rfl rfl (Nat.le_refl _) (Nat.le_refl _) (z_ri_i ?_ ?_)
    · unfold a_lf; rw [if_neg (show ¬ (c = 104) from e1_0), if_pos (show c = 107 from e1_3)]
    · rfl
  by_cases e1_4 : c = 108
  · refine z_tableIn 108 76 dX3_of_1 e1_4 (by decide) (by decide) rfl (by decide) ?_
    refine z_aload_n dX3_of_76 rfl rfl ?_
    refine z_getI dX3_of_77 fl_X3_7_3 hT rfl ?_
    refine z_iret dX3_of_80 rfl rfl (Nat.le_refl _) (Nat.le_refl _) (z_ri_i ?_ ?_)
    · unfold a_lf; rw [if_neg (show ¬ (c = 104) from e1_0), if_neg (show ¬ (c = 107) from e1_3), if_pos (show c = 108 from e1_4)]
    · rfl
  by_cases e1_12 : c = 116
  · refine z_tableIn 116 91 dX3_of_1 e1_12 (by decide) (by decide) rfl (by decide) ?_
    refine z_aload_n dX3_of_91 rfl rfl ?_
    refine z_getI dX3_of_92 fl_X3_19_3 hT rfl ?_
    refine z_iret dX3_of_95 rfl rfl (Nat.le_refl _) (Nat.le_refl _) (z_ri_i ?_ ?_)
    · unfold a_lf; rw [if_neg (show ¬ (c = 104) from e1_0), if_neg (show ¬ (c = 107) from e1_3), if_neg (show ¬ (c = 108) from e1_4), if_pos (show c = 116 from e1_12)]
    · rfl
  by_cases e1_14 : c = 118
  · refine z_tableIn 118 96 dX3_of_1 e1_14 (by decide) (by decide) rfl (by decide) ?_
    refine z_aload_n dX3_of_96 rfl rfl ?_
    refine z_getI dX3_of_97 fl_X3_22_3 hT rfl ?_
    refine z_iret dX3_of_100 rfl rfl (Nat.le_refl _) (Nat.le_refl _) (z_ri_i ?_ ?_)
    · unfold a_lf; rw [if_neg (show ¬ (c = 104) from e1_0), if_neg (show ¬ (c = 107) from e1_3), if_neg (show ¬ (c = 108) from e1_4), if_neg (show ¬ (c = 116) from e1_12), if_pos (show c = 118 from e1_14)]
    · rfl
  refine z_tableD 101 dX3_of_1 (by decide) (fun i hi hn => match i, hi, hn with | 0, _, hn => (fun q => e1_0 (Int32.toInt_inj.mp (by rw [q]; rfl))) | 1, _, hn => absurd rfl hn | 2, _, hn => absurd rfl hn | 3, _, hn => (fun q => e1_3 (Int32.toInt_inj.mp (by rw [q]; rfl))) | 4, _, hn => (fun q => e1_4 (Int32.toInt_inj.mp (by rw [q]; rfl))) | 5, _, hn => absurd rfl hn | 6, _, hn => absurd rfl hn | 7, _, hn => absurd rfl hn | 8, _, hn => absurd rfl hn | 9, _, hn => absurd rfl hn | 10, _, hn => absurd rfl hn | 11, _, hn => absurd rfl hn | 12, _, hn => (fun q => e1_12 (Int32.toInt_inj.mp (by rw [q]; rfl))) | 13, _, hn => absurd rfl hn | 14, _, hn => (fun q => e1_14 (Int32.toInt_inj.mp (by rw [q]; rfl))) | n + 15, hi, _ => absurd hi (by show ¬ (n + 15 < 15); omega)) (by decide) ?_
  refine z_aload_n dX3_of_101 rfl rfl ?_
  refine z_getI dX3_of_102 fl_X3_25_3 hT rfl ?_
  refine z_iret dX3_of_105 rfl rfl (Nat.le_refl _) (Nat.le_refl _) (z_ri_i ?_ ?_)
  · unfold a_lf; rw [if_neg (show ¬ (c = 104) from e1_0), if_neg (show ¬ (c = 107) from e1_3), if_neg (show ¬ (c = 108) from e1_4), if_neg (show ¬ (c = 116) from e1_12), if_neg (show ¬ (c = 118) from e1_14)]
  · rfl
def a_ag (φ : Int32 → Int32) (c g n : Int32) : Bool := if g = 60 then decide (φ (a_pc c) < n) else if g = 61 then decide (φ (a_pc c) = n) else decide (n < φ (a_pc c))
/-- a test object and its meaning -/
def z_Tm : Nat → z_H → Nat → ((Int32 → Int32) → Bool) → Prop
  | 0, _, _, _ => False
  | d + 1, h, id, P => 85 ≤ id ∧ ((z_T h id = some (.inl 20) ∧ a_ltv (z_I h id 0) ∧ ∀ φ, P φ = a_ag φ (z_I h id 0) (z_I h id 1) (z_I h id 2)) ∨
    (z_T h id = some (.inl 19) ∧ ∃ b P', z_R h id 0 = some b ∧ z_Tm d h b P' ∧ ∀ φ, P φ = !P' φ) ∨
    (z_T h id = some (.inl 18) ∧ ∃ (L : Nat) (ids : List Nat) (Ps : List ((Int32 → Int32) → Bool)), z_R h id 1 = some L ∧ 85 ≤ L ∧ z_AL h L ids ∧ ids.length = Ps.length ∧ (∀ (i b : Nat) (p : (Int32 → Int32) → Bool), ids[i]? = some b → Ps[i]? = some p → z_Tm d h b p) ∧ ((z_I h id 0 = 1 ∧ ∀ φ, P φ = Ps.all (fun p => p φ)) ∨ (z_I h id 0 = 0 ∧ ∀ φ, P φ = Ps.any (fun p => p φ)))))
theorem c_X20_holds {Γ : z_W} {h : z_H} {L : Nat} {φ : Int32 → Int32} {d : Nat} (hT : z_T h L = some (.inl 20)) (hl : a_ltv (z_I h L 0)) (hL : z_T h 25 = some (.inl 3)) (hk : z_Lk h φ) : z_C Γ M_X20_holds (z_rm (d + 6) 0 0) [.ref L, .ref 25] h (z_ri (z_b (a_ag φ (z_I h L 0) (z_I h L 1) (z_I h L 2) = true)) h) := by
  refine z_C.of (by decide +kernel) rfl [some (.ref L), some (.ref 25)] (Nat.le_of_ble_eq_true rfl) rfl ?_
  refine z_aload_n dX20_holds_0 rfl rfl ?_
  refine z_getI dX20_holds_1 fl_X20_13_20 hT rfl ?_
  refine z_bipush (v := 60) dX20_holds_4 rfl ?_
  refine z_icmp_ne 32 dX20_holds_6 (by decide) (fun c6 => ?_) (fun c6 => ?_)
  · refine z_aload_n dX20_holds_32 rfl rfl ?_
    refine z_getI dX20_holds_33 fl_X20_13_20 hT rfl ?_
    refine z_bipush (v := 61) dX20_holds_36 rfl ?_
    refine z_icmp_ne 64 dX20_holds_38 (by decide) (fun c38 => ?_) (fun c38 => ?_)
    · refine z_aload_n dX20_holds_64 rfl rfl ?_
      refine z_aload_n dX20_holds_65 rfl rfl ?_
      refine z_getI dX20_holds_66 fl_X20_7_20 hT rfl ?_
      refine z_vcall vl_X20_19_3 (c_X3_of hL) dX20_holds_69 rfl rfl hL ⟨by show 1 + 64 + 1 ≤ d + 6 + 64; omega, by show 8 + (2 + 11) + (64 * 1 + 20000) ≤ 64 * (d + 6) + 20000; omega⟩ (Nat.le_of_ble_eq_true rfl) (Nat.le_refl _) (Nat.le_refl _) (z_cI ?_) z_tI
      refine z_eqi (φ (a_pc (z_I h L 0))) (hk.at hl) ?_
      refine z_aload_n dX20_holds_72 rfl rfl ?_
      refine z_getI dX20_holds_73 fl_X20_16_20 hT rfl ?_
      refine z_icmp_le 83 dX20_holds_76 (by decide) (fun c76 => ?_) (fun c76 => ?_)
      · refine z_iconst (v := 0) dX20_holds_83 rfl ?_
        refine z_iret dX20_holds_84 rfl rfl (Nat.le_refl _) (Nat.le_refl _) (z_ri_i ?_ ?_)
        · refine (z_b0 ?_).symm
          unfold a_ag
          rw [if_neg (show ¬ ((z_I h L 1) = 60) from c6), if_neg (show ¬ ((z_I h L 1) = 61) from c38)]
          exact fun q => absurd (of_decide_eq_true q) (Int32.not_lt.mpr c76)
        · rfl
      · refine z_iconst (v := 1) dX20_holds_79 rfl ?_
        refine z_goto 84 dX20_holds_80 (by decide) ?_
        refine z_iret dX20_holds_84 rfl rfl (Nat.le_refl _) (Nat.le_refl _) (z_ri_i ?_ ?_)
        · refine (z_b1 ?_).symm
          unfold a_ag
          rw [if_neg (show ¬ ((z_I h L 1) = 60) from c6), if_neg (show ¬ ((z_I h L 1) = 61) from c38)]
          exact decide_eq_true (Int32.not_le.mp c76)
        · rfl
    · refine z_aload_n dX20_holds_41 rfl rfl ?_
      refine z_aload_n dX20_holds_42 rfl rfl ?_
      refine z_getI dX20_holds_43 fl_X20_7_20 hT rfl ?_
      refine z_vcall vl_X20_19_3 (c_X3_of hL) dX20_holds_46 rfl rfl hL ⟨by show 1 + 64 + 1 ≤ d + 6 + 64; omega, by show 8 + (2 + 11) + (64 * 1 + 20000) ≤ 64 * (d + 6) + 20000; omega⟩ (Nat.le_of_ble_eq_true rfl) (Nat.le_refl _) (Nat.le_refl _) (z_cI ?_) z_tI
      refine z_eqi (φ (a_pc (z_I h L 0))) (hk.at hl) ?_
      refine z_aload_n dX20_holds_49 rfl rfl ?_
      refine z_getI dX20_holds_50 fl_X20_16_20 hT rfl ?_
      refine z_icmp_ne 60 dX20_holds_53 (by decide) (fun c53 => ?_) (fun c53 => ?_)
      · refine z_iconst (v := 0) dX20_holds_60 rfl ?_
        refine z_goto 84 dX20_holds_61 (by decide) ?_
        refine z_iret dX20_holds_84 rfl rfl (Nat.le_refl _) (Nat.le_refl _) (z_ri_i ?_ ?_)
        · refine (z_b0 ?_).symm
          unfold a_ag
          rw [if_neg (show ¬ ((z_I h L 1) = 60) from c6), if_pos (show (z_I h L 1) = 61 from c38)]
          exact fun q => c53 (of_decide_eq_true q)
        · rfl
      · refine z_iconst (v := 1) dX20_holds_56 rfl ?_
        refine z_goto 84 dX20_holds_57 (by decide) ?_
        refine z_iret dX20_holds_84 rfl rfl (Nat.le_refl _) (Nat.le_refl _) (z_ri_i ?_ ?_)
        · refine (z_b1 ?_).symm
          unfold a_ag
          rw [if_neg (show ¬ ((z_I h L 1) = 60) from c6), if_pos (show (z_I h L 1) = 61 from c38)]
          exact decide_eq_true c53
        · rfl
  · refine z_aload_n dX20_holds_9 rfl rfl ?_
    refine z_aload_n dX20_holds_10 rfl rfl ?_
    refine z_getI dX20_holds_11 fl_X20_7_20 hT rfl ?_
    refine z_vcall vl_X20_19_3 (c_X3_of hL) dX20_holds_14 rfl rfl hL ⟨by show 1 + 64 + 1 ≤ d + 6 + 64; omega, by show 8 + (2 + 11) + (64 * 1 + 20000) ≤ 64 * (d + 6) + 20000; omega⟩ (Nat.le_of_ble_eq_true rfl) (Nat.le_refl _) (Nat.le_refl _) (z_cI ?_) z_tI
    refine z_eqi (φ (a_pc (z_I h L 0))) (hk.at hl) ?_
    refine z_aload_n dX20_holds_17 rfl rfl ?_
    refine z_getI dX20_holds_18 fl_X20_16_20 hT rfl ?_
    refine z_icmp_ge 28 dX20_holds_21 (by decide) (fun c21 => ?_) (fun c21 => ?_)
    · refine z_iconst (v := 0) dX20_holds_28 rfl ?_
      refine z_goto 84 dX20_holds_29 (by decide) ?_
      refine z_iret dX20_holds_84 rfl rfl (Nat.le_refl _) (Nat.le_refl _) (z_ri_i ?_ ?_)
      · refine (z_b0 ?_).symm
        unfold a_ag
        rw [if_pos (show (z_I h L 1) = 60 from c6)]
        exact fun q => absurd (of_decide_eq_true q) (Int32.not_lt.mpr c21)
      · rfl
    · refine z_iconst (v := 1) dX20_holds_24 rfl ?_
      refine z_goto 84 dX20_holds_25 (by decide) ?_
      refine z_iret dX20_holds_84 rfl rfl (Nat.le_refl _) (Nat.le_refl _) (z_ri_i ?_ ?_)
      · refine (z_b1 ?_).symm
        unfold a_ag
        rw [if_pos (show (z_I h L 1) = 60 from c6)]
        exact decide_eq_true (Int32.not_le.mp c21)
      · rfl
def z_Hc (Γ : z_W) (d : Nat) (h : z_H) (id : Nat) (v : Int32) : Prop := (z_T h id = some (.inl 20) ∧ z_C Γ M_X20_holds (z_rm (d + 6) 0 0) [.ref id, .ref 25] h (z_ri v h)) ∨ (z_T h id = some (.inl 19) ∧ z_C Γ M_X19_holds (z_rm (d + 6) 0 0) [.ref id, .ref 25] h (z_ri v h)) ∨ (z_T h id = some (.inl 18) ∧ z_C Γ M_X18_holds (z_rm (d + 6) 0 0) [.ref id, .ref 25] h (z_ri v h))
theorem z_site_X19 {Γ : z_W} {h : z_H} {d e id : Nat} {v : Int32} {Q : Outcome → z_H → Prop} {cs ss : Nat} {ls : List (Option Value)} {rest : List Value} (hst : (rest.map fun v => v.category).sum ≤ 8) (hc : z_Hc Γ d h id v) (he : d + 7 ≤ e) {cm sm : Nat} (h1 : cs ≤ cm) (h2 : ss ≤ sm) (k : z_G Γ M_X19_holds (z_rm e cm sm) Q cs ss 8 ls (.int v :: rest) h) : z_G Γ M_X19_holds (z_rm e cm sm) Q cs ss 5 ls (.ref 25 :: .ref id :: rest) h := by
  rcases hc with ⟨hT, hC⟩ | ⟨hT, hC⟩ | ⟨hT, hC⟩
  · exact z_vcall vl_X19_13_20 hC dX19_holds_5 rfl rfl hT ⟨by show d + 6 + 64 + 1 ≤ e + 64; omega, by show 8 + (2 + 11) + (64 * (d + 6) + 20000) ≤ 64 * e + 20000; omega⟩ hst h1 h2 (z_cI k) z_tI
  · exact z_vcall vl_X19_13_19 hC dX19_holds_5 rfl rfl hT ⟨by show d + 6 + 64 + 1 ≤ e + 64; omega, by show 8 + (2 + 11) + (64 * (d + 6) + 20000) ≤ 64 * e + 20000; omega⟩ hst h1 h2 (z_cI k) z_tI
  · exact z_vcall vl_X19_13_18 hC dX19_holds_5 rfl rfl hT ⟨by show d + 6 + 64 + 1 ≤ e + 64; omega, by show 8 + (3 + 11) + (64 * (d + 6) + 20000) ≤ 64 * e + 20000; omega⟩ hst h1 h2 (z_cI k) z_tI
theorem z_site_X18 {Γ : z_W} {h : z_H} {d e id : Nat} {v : Int32} {Q : Outcome → z_H → Prop} {cs ss : Nat} {ls : List (Option Value)} {rest : List Value} (hst : (rest.map fun v => v.category).sum ≤ 8) (hc : z_Hc Γ d h id v) (he : d + 7 ≤ e) {cm sm : Nat} (h1 : cs ≤ cm) (h2 : ss ≤ sm) (k : z_G Γ M_X18_holds (z_rm e cm sm) Q cs ss 28 ls (.int v :: rest) h) : z_G Γ M_X18_holds (z_rm e cm sm) Q cs ss 25 ls (.ref 25 :: .ref id :: rest) h := by
  rcases hc with ⟨hT, hC⟩ | ⟨hT, hC⟩ | ⟨hT, hC⟩
  · exact z_vcall vl_X18_28_20 hC dX18_holds_25 rfl rfl hT ⟨by show d + 6 + 64 + 1 ≤ e + 64; omega, by show 8 + (2 + 11) + (64 * (d + 6) + 20000) ≤ 64 * e + 20000; omega⟩ hst h1 h2 (z_cI k) z_tI
  · exact z_vcall vl_X18_28_19 hC dX18_holds_25 rfl rfl hT ⟨by show d + 6 + 64 + 1 ≤ e + 64; omega, by show 8 + (2 + 11) + (64 * (d + 6) + 20000) ≤ 64 * e + 20000; omega⟩ hst h1 h2 (z_cI k) z_tI
  · exact z_vcall vl_X18_28_18 hC dX18_holds_25 rfl rfl hT ⟨by show d + 6 + 64 + 1 ≤ e + 64; omega, by show 8 + (3 + 11) + (64 * (d + 6) + 20000) ≤ 64 * e + 20000; omega⟩ hst h1 h2 (z_cI k) z_tI
theorem z_site_X2 {Γ : z_W} {h : z_H} {d e id : Nat} {v : Int32} {Q : Outcome → z_H → Prop} {cs ss : Nat} {ls : List (Option Value)} {rest : List Value} (hst : (rest.map fun v => v.category).sum ≤ 8) (hc : z_Hc Γ d h id v) (he : d + 7 ≤ e) {cm sm : Nat} (h1 : cs ≤ cm) (h2 : ss ≤ sm) (k : z_G Γ M_X2_more (z_rm e cm sm) Q cs ss 33 ls (.int v :: rest) h) : z_G Γ M_X2_more (z_rm e cm sm) Q cs ss 30 ls (.ref 25 :: .ref id :: rest) h := by
  rcases hc with ⟨hT, hC⟩ | ⟨hT, hC⟩ | ⟨hT, hC⟩
  · exact z_vcall vl_X2_39_20 hC dX2_more_30 rfl rfl hT ⟨by show d + 6 + 64 + 1 ≤ e + 64; omega, by show 8 + (2 + 11) + (64 * (d + 6) + 20000) ≤ 64 * e + 20000; omega⟩ hst h1 h2 (z_cI k) z_tI
  · exact z_vcall vl_X2_39_19 hC dX2_more_30 rfl rfl hT ⟨by show d + 6 + 64 + 1 ≤ e + 64; omega, by show 8 + (2 + 11) + (64 * (d + 6) + 20000) ≤ 64 * e + 20000; omega⟩ hst h1 h2 (z_cI k) z_tI
  · exact z_vcall vl_X2_39_18 hC dX2_more_30 rfl rfl hT ⟨by show d + 6 + 64 + 1 ≤ e + 64; omega, by show 8 + (3 + 11) + (64 * (d + 6) + 20000) ≤ 64 * e + 20000; omega⟩ hst h1 h2 (z_cI k) z_tI
