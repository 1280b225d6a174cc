/-! THE REFERENCE: what is asked of flights (printed by model5.py) -/
set_option maxRecDepth 20000
/-- the lifts, the air and home are as they can be -/
def z_ok (h : z_H) : Prop := z_F h ∧ a_av h ∧ z_cn (z_I h 49 0) 6 ∧ (∀ j, j < z_c (z_I h 49 0) → z_in (z_I h 51 j) 0 9) ∧ (∀ j, j < z_c (z_I h 49 0) → z_in (z_I h 52 j) 0 99) ∧ z_in (z_I h 49 5) 0 99
/-- so many minutes in a lift: height, minutes -/
def a_it (h : z_H) (l m hi mi : Int32) : Nat → Int32 × Int32
  | 0 => (hi, mi)
  | n + 1 => (a_hi h l m (a_it h l m hi mi n).1 (a_it h l m hi mi n).2, (a_it h l m hi mi n).2 + 1)
theorem a_it2 (h : z_H) (l m hi mi : Int32) : ∀ n, (a_it h l m hi mi n).2 = mi + nI n
  | 0 => by show mi = mi + nI 0; rw [nI_0, Int32.add_zero]
  | n + 1 => by
    show (a_it h l m hi mi n).2 + 1 = _
    rw [a_it2 h l m hi mi n, nI_succ, Int32.add_assoc]
theorem z_cn_add {x : Int32} {B n : Nat} (h : z_cn x B) (hB : B + n < 2 ^ 31) : z_cn (x + nI n) (B + n) := by
  have h2 := h.2
  have e : x + nI n = nI (z_c x + n) := by rw [← nI_add, ← h.1]
  rw [e]
  exact z_cn_of (by omega) hB
theorem z_cn_it {h : z_H} {l m hi mi : Int32} {B n : Nat} (hm : z_cn mi B) (hB : B + n < 2 ^ 31) : z_cn (a_it h l m hi mi n).2 (B + n) := by
  rw [a_it2]; exact z_cn_add hm hB
theorem z_cn_le {x : Int32} {B C : Nat} (h : z_cn x B) (hBC : B ≤ C) : z_cn x C := ⟨h.1, Nat.le_trans h.2 hBC⟩
theorem lp_X6_upOf {Γ : z_W} {h : z_H} {s : Nat → Int32} {l m hi mi : Int32} (hk : z_ok h) (hl : l = nI (z_c l) ∧ z_c l < z_c (z_I h 49 0)) {B : Nat} (hmi : z_cn mi B) {N : Nat} (hN : N ≤ 60) (hB : B + 60 < 2 ^ 31) : ∀ (r i : Nat), i + r = N →
    z_G Γ M_X6_upOf (z_rm 6 0 0) (z_ri (a_it h l m hi mi N).1 (z_fy (z_sc h (upd (upd (upd s 29 mi) 30 m) 31 hi)) m hi mi)) 0 0 6 [some (.ref 49), some (.int l), some (.int (nI N)), some (.int (nI i))] [] (z_fy (z_sc h (upd (upd (upd s 29 mi) 30 m) 31 hi)) m (a_it h l m hi mi i).1 (a_it h l m hi mi i).2) := by
  obtain ⟨hF, ha, hm, hvs, hws, hho⟩ := hk
  have hv := hvs _ hl.2
  have hl : l = nI (z_c l) ∧ z_c l < 6 := ⟨hl.1, by have := hl.2; have := hm.2; omega⟩
  intro r
  induction r with
  | zero =>
    intro i hi0
    have hi0 : i = N := by omega
    subst hi0
    refine z_iload_n dX6_upOf_6 rfl rfl ?_
    refine z_iload_n dX6_upOf_7 rfl rfl ?_
    refine z_icmp_ge 22 dX6_upOf_8 (by decide) (fun _ => ?_) (fun q => by first | exact absurd (Int32.le_refl _) q | exact absurd q (Int32.le_refl _))
    refine z_aload_n dX6_upOf_22 rfl rfl ?_
    refine z_getI dX6_upOf_23 fl_X6_19_6 (hF.1 49 _ rfl) rfl ?_
    refine z_eqi ((a_it h l m hi mi i).1) rfl ?_
    refine z_istore_n dX6_upOf_26 rfl (by decide) rfl ?_
    refine z_aload_n dX6_upOf_27 rfl rfl ?_
    refine z_vcall vl_X6_335_6 (c_X6_putBack hF) dX6_upOf_28 rfl rfl (hF.1 49 _ rfl) ⟨by decide, by decide⟩ (Nat.le_of_ble_eq_true rfl) (Nat.le_refl _) (Nat.le_refl _) (z_cV ?_) z_tV
    refine z_meq (z_fy (z_sc h (upd (upd (upd s 29 mi) 30 m) 31 hi)) m hi mi) rfl ?_
    refine z_iload_n dX6_upOf_31 rfl rfl ?_
    refine z_iret dX6_upOf_32 rfl rfl (Nat.le_refl _) (Nat.le_refl _) (z_ri_i ?_ ?_)
    · rfl
    · rfl
  | succ r ih =>
    intro i hi0
    have hmi2 := z_cn_it (h := h) (l := l) (m := m) (hi := hi) (n := i) hmi (by omega)
    refine z_iload_n dX6_upOf_6 rfl rfl ?_
    refine z_iload_n dX6_upOf_7 rfl rfl ?_
    refine z_icmp_ge 22 dX6_upOf_8 (by decide) (fun q => by first | exact absurd q (nI_ge (show i < N by omega) (by omega)) | exact absurd (nI_ge (show i < N by omega) (by omega)) q) (fun _ => ?_)
    refine z_aload_n dX6_upOf_11 rfl rfl ?_
    refine z_iload_n dX6_upOf_12 rfl rfl ?_
    refine z_vcall vl_X6_323_6 (c_X6_goMinute (h := z_sc h (upd (upd (upd s 29 mi) 30 m) 31 hi)) hF ha hl hv hmi2 (by omega)) dX6_upOf_13 rfl rfl (hF.1 49 _ rfl) ⟨by decide, by decide⟩ (Nat.le_of_ble_eq_true rfl) (Nat.le_refl _) (Nat.le_refl _) (z_cV ?_) z_tV
    refine z_meq (z_fy (z_sc h (upd (upd (upd s 29 mi) 30 m) 31 hi)) m ((a_it h l m hi mi (i + 1)).1) ((a_it h l m hi mi (i + 1)).2)) rfl ?_
    refine z_iinc (v := nI (i + 1)) dX6_upOf_16 rfl (nI_succ _).symm (by decide) rfl ?_
    refine z_goto 6 dX6_upOf_19 (by decide) ?_
    exact ih (i + 1) (by omega)
theorem c_X6_upOf {Γ : z_W} {h : z_H} {s : Nat → Int32} {l m hi mi : Int32} (hk : z_ok h) (hl : l = nI (z_c l) ∧ z_c l < z_c (z_I h 49 0)) {B : Nat} (hmi : z_cn mi B) {N : Nat} (hN : N ≤ 60) (hB : B + 60 < 2 ^ 31) : z_C Γ M_X6_upOf (z_rm 6 0 0) [.ref 49, .int l, .int (nI N)] (z_fy (z_sc h s) m hi mi) (z_ri (a_it h l m hi mi N).1 (z_fy (z_sc h (upd (upd (upd s 29 mi) 30 m) 31 hi)) m hi mi)) := by
  have hF := hk.1
  refine z_C.of (by decide +kernel) rfl [some (.ref 49), some (.int l), some (.int (nI N)), none] (Nat.le_of_ble_eq_true rfl) rfl ?_
  refine z_aload_n dX6_upOf_0 rfl rfl ?_
  refine z_vcall vl_X6_332_6 (c_X6_save hF) dX6_upOf_1 rfl rfl (hF.1 49 _ rfl) ⟨by decide, by decide⟩ (Nat.le_of_ble_eq_true rfl) (Nat.le_refl _) (Nat.le_refl _) (z_cV ?_) z_tV
  refine z_iconst (v := 0) dX6_upOf_4 rfl ?_
  refine z_istore_n dX6_upOf_5 rfl (by decide) rfl ?_
  exact lp_X6_upOf hk hl hmi hN hB N 0 (Nat.zero_add _)
theorem z_pl2 {x M : Int32} {n : Nat} (hM : M = nI n) (hn : n < 2 ^ 31) (h : z_in x 0 M) : x = nI (z_c x) ∧ z_c x ≤ n := by subst hM; exact z_ixb n hn h
def a_up (h : z_H) (s : Nat → Int32) (l n m hi mi : Int32) : Int32 × z_H := if m_X6_isLift h l then (if m_X6_isTime h n then ((a_it h l m hi mi (z_c n)).1, z_fy (z_sc h (upd (upd (upd s 29 mi) 30 m) 31 hi)) m hi mi) else (-2, z_fy (z_sc h s) m hi mi)) else (-1, z_fy (z_sc h s) m hi mi)
theorem c_X6_up {Γ : z_W} {h : z_H} {s : Nat → Int32} {l n m hi mi : Int32} (hk : z_ok h) {B : Nat} (hmi : z_cn mi B) (hB : B + 60 < 2 ^ 31) : z_C Γ M_X6_up (z_rm 7 0 0) [.ref 49, .int l, .int n] (z_fy (z_sc h s) m hi mi) (z_ri (a_up h s l n m hi mi).1 (a_up h s l n m hi mi).2) := by
  obtain ⟨hF, ha, hm, hvs, hws, hho⟩ := id hk
  refine z_C.of (by decide +kernel) rfl [some (.ref 49), some (.int l), some (.int n)] (Nat.le_of_ble_eq_true rfl) rfl ?_
  refine z_aload_n dX6_up_0 rfl rfl ?_
  refine z_iload_n dX6_up_1 rfl rfl ?_
  refine z_vcall vl_X6_235_6 (c_X6_isLift hF) dX6_up_2 rfl rfl (hF.1 49 _ rfl) ⟨by decide, by decide⟩ (Nat.le_of_ble_eq_true rfl) (Nat.le_refl _) (Nat.le_refl _) (z_cI ?_) z_tI
  refine z_bif_ne 10 dX6_up_5 (by decide) (fun c5 => ?_) (fun c5 => ?_)
  · have hl := z_ix hm (by decide) c5
    refine z_aload_n dX6_up_10 rfl rfl ?_
    refine z_iload_n dX6_up_11 rfl rfl ?_
    refine z_vcall vl_X6_320_6 (c_X6_isTime hF) dX6_up_12 rfl rfl (hF.1 49 _ rfl) ⟨by decide, by decide⟩ (Nat.le_of_ble_eq_true rfl) (Nat.le_refl _) (Nat.le_refl _) (z_cI ?_) z_tI
    refine z_bif_eq 27 dX6_up_15 (by decide) (fun c15 => ?_) (fun c15 => ?_)
    · refine z_bipush (v := (-2)) dX6_up_27 rfl ?_
      refine z_iret dX6_up_29 rfl rfl (Nat.le_refl _) (Nat.le_refl _) (z_ri_i ?_ ?_)
      · unfold a_up; rw [if_pos (show m_X6_isLift h l from c5), if_neg (show ¬ (m_X6_isTime h n) from c15)]
      · unfold a_up; rw [if_pos (show m_X6_isLift h l from c5), if_neg (show ¬ (m_X6_isTime h n) from c15)]
    · have hn := z_pl2 (n := 60) rfl (by decide) c15
      refine z_aload_n dX6_up_18 rfl rfl ?_
      refine z_iload_n dX6_up_19 rfl rfl ?_
      refine z_iload_n dX6_up_20 rfl rfl ?_
      refine z_eqi (nI (z_c n)) hn.1 ?_
      refine z_vcall vl_X6_338_6 (c_X6_upOf hk hl hmi hn.2 hB) dX6_up_21 rfl rfl (hF.1 49 _ rfl) ⟨by decide, by decide⟩ (Nat.le_of_ble_eq_true rfl) (Nat.le_refl _) (Nat.le_refl _) (z_cI ?_) z_tI
      refine z_goto 29 dX6_up_24 (by decide) ?_
      refine z_iret dX6_up_29 rfl rfl (Nat.le_refl _) (Nat.le_refl _) (z_ri_i ?_ ?_)
      · unfold a_up; rw [if_pos (show m_X6_isLift h l from c5), if_pos (show m_X6_isTime h n from c15)]
      · unfold a_up; rw [if_pos (show m_X6_isLift h l from c5), if_pos (show m_X6_isTime h n from c15)]
  · refine z_iconst (v := (-1)) dX6_up_8 rfl ?_
    refine z_iret dX6_up_9 rfl rfl (Nat.le_refl _) (Nat.le_refl _) (z_ri_i ?_ ?_)
    · unfold a_up; rw [if_neg (show ¬ (m_X6_isLift h l) from c5)]
    · unfold a_up; rw [if_neg (show ¬ (m_X6_isLift h l) from c5)]
