/-! THE CLASS: reach, ways home (printed by class11.py) -/
set_option maxRecDepth 20000
theorem z_can {h : z_H} {l p m hi mi : Int32} (hh : z_r hi 0 400) (hm : z_in m 0 99) (hw : z_in (z_I h 52 (z_c l)) 0 99) (hp : z_in p 1 9) (hb : z_bd h) : m_X6_canReach h l p m hi mi ↔ ¬ (hi - m_X6_falls h m (z_I h 52 (z_c l)) p < m_X6_safe h) := by
  have h1 := z_falls_r (h := h) hm hw hp
  have h2 := z_safe_r hb
  have e3 : (hi - m_X6_falls h m (z_I h 52 (z_c l)) p).toInt = hi.toInt - (m_X6_falls h m (z_I h 52 (z_c l)) p).toInt := by unfold z_r at *; exact z_ts (by omega) (by omega)
  refine ⟨fun q => q.2, fun q => ⟨?_, q⟩⟩
  rw [Int32.lt_iff_toInt_lt, z_i0]
  rw [Int32.lt_iff_toInt_lt] at q
  unfold z_r at h2
  omega
theorem lp_X0_reach {Γ : z_W} {h : z_H} {f : Nat → Nat → Int32} {p : Int32} (hS : z_S h f) (hp : z_in p 1 9) : ∀ (r i : Nat), i + r = z_c (z_I h 49 0) → z_G Γ M_X0_reach (z_rm 4 0 0) (z_ask h f (a_rc h p (f 20 0) (f 20 1) (f 20 2) (z_c (z_I h 49 0)))) 0 0 14 [some (.ref 16), some (.int p), some (.int (a_rc h p (f 20 0) (f 20 1) (f 20 2) i)), some (.int (nI i))] [] (z_cy h f) := by
  obtain ⟨hS3, hS6, hm99, hh4, hmi, hk, hb, hc⟩ := id hS
  obtain ⟨hF, ha, hm, hvs, hws, hho⟩ := id hk
  obtain ⟨c1, -, -, a, Cs, c4, c5x, -⟩ := id hc
  intro r
  induction r with
  | zero =>
    intro i hi0
    have hi1 : i = z_c (z_I h 49 0) := by omega
    subst hi1
    refine z_iload_n dX0_reach_14 rfl rfl ?_
    refine z_aload_n dX0_reach_15 rfl rfl ?_
    refine z_getI dX0_reach_16 fl_X0_116_0 (hF.1 16 _ rfl) rfl ?_
    refine z_eqi (z_I h 49 0) hS3 ?_
    refine z_icmp_ge 61 dX0_reach_19 (by decide) (fun _ => ?_) (fun q => by first | exact absurd (z_lif hm rfl) q | exact absurd q (z_lif hm rfl))
    refine z_iload_n dX0_reach_61 rfl rfl ?_
    refine z_iret dX0_reach_62 rfl rfl (Nat.le_refl _) (Nat.le_refl _) (z_ask_i ?_ ?_)
    · rfl
    · exact z_fm.refl _ _
  | succ r ih =>
    intro i hi0
    have hl : nI i = nI (z_c (nI i)) ∧ z_c (nI i) < z_c (z_I h 49 0) := z_ixn (by omega) (by have := hm.2; omega)
    have hl6 : nI i = nI (z_c (nI i)) ∧ z_c (nI i) < 6 := ⟨hl.1, by have := hl.2; have := hm.2; omega⟩
    obtain ⟨id, k, hid, hlf⟩ := c1 _ hl.2
    obtain ⟨h85, hk6, hkd, hTL, -, hn1, hvL, hmL, h46⟩ := hlf
    refine z_iload_n dX0_reach_14 rfl rfl ?_
    refine z_aload_n dX0_reach_15 rfl rfl ?_
    refine z_getI dX0_reach_16 fl_X0_116_0 (hF.1 16 _ rfl) rfl ?_
    refine z_eqi (z_I h 49 0) hS3 ?_
    refine z_icmp_ge 61 dX0_reach_19 (by decide) (fun q => by first | exact absurd q (z_lin hm (by omega)) | exact absurd (z_lin hm (by omega)) q) (fun _ => ?_)
    refine z_aload_n dX0_reach_22 rfl rfl ?_
    refine z_getR 20 dX0_reach_23 fl_X0_31_0 (hF.1 16 _ rfl) rfl (hF.2.1 16 4 20 rfl) ?_
    refine z_aload_n dX0_reach_26 rfl rfl ?_
    refine z_getR 17 dX0_reach_27 fl_X0_17_0 (hF.1 16 _ rfl) rfl (hF.2.1 16 0 17 rfl) ?_
    refine z_iload_n dX0_reach_30 rfl rfl ?_
    refine z_aald (z_c (nI i)) id dX0_reach_31 (hF.1 17 _ rfl) (by simp [z_at]) hl6.1 hl6.2 (by decide) hid ?_
    refine z_getm rfl hk6 hTL dX0_reach_32 <| z_eqi (z_I h 52 (z_c (nI i))) (by rw [z_cy_hi h85, hmL]) ?_
    refine z_iload_n dX0_reach_35 rfl rfl ?_
    refine z_aload_n dX0_reach_36 rfl rfl ?_
    refine z_getR a dX0_reach_37 fl_X0_49_0 (hF.1 16 _ rfl) rfl c4 ?_
    refine z_vcall vl_X0_224_2 (c_X2_safely (c5x (f) rfl rfl).1) dX0_reach_40 rfl rfl (c5x f rfl rfl).1 ⟨by decide, by decide⟩ (Nat.le_of_ble_eq_true rfl) (Nat.le_refl _) (Nat.le_refl _) (z_cI ?_) z_tI
    refine z_eqi (m_X6_safe h) (by rw [(c5x (f) rfl rfl).2.2.1]; rfl) ?_
    refine z_vcall vl_X0_253_1 (c_X1_reaches_20 hF hm99 (hws _ hl.2)) dX0_reach_43 rfl rfl (hF.1 20 _ rfl) ⟨by decide, by decide⟩ (Nat.le_of_ble_eq_true rfl) (Nat.le_refl _) (Nat.le_refl _) (z_cI ?_) z_tI
    refine z_bif_eq 55 dX0_reach_46 (by decide) (fun c46 => ?_) (fun c46 => ?_)
    · refine z_iinc (v := nI (i + 1)) dX0_reach_55 rfl (nI_succ _).symm (by decide) rfl ?_
      refine z_goto 14 dX0_reach_58 (by decide) ?_
      have e1 : a_rc h p (f 20 0) (f 20 1) (f 20 2) (i + 1) = a_rc h p (f 20 0) (f 20 1) (f 20 2) i := by simp only [a_rc]; rw [if_neg (fun q => c46 ((z_can hh4 hm99 (hws _ hl.2) hp hb).mp q)), Int32.or_zero]
      have fin := ih (i + 1) (by omega)
      rw [e1] at fin
      exact fin
    · refine z_iload_n dX0_reach_49 rfl rfl ?_
      refine z_iconst (v := 1) dX0_reach_50 rfl ?_
      refine z_iload_n dX0_reach_51 rfl rfl ?_
      refine z_ishl dX0_reach_52 ?_
      refine z_ior dX0_reach_53 ?_
      refine z_istore_n dX0_reach_54 rfl (by decide) rfl ?_
      refine z_iinc (v := nI (i + 1)) dX0_reach_55 rfl (nI_succ _).symm (by decide) rfl ?_
      refine z_goto 14 dX0_reach_58 (by decide) ?_
      have e1 : a_rc h p (f 20 0) (f 20 1) (f 20 2) (i + 1) = (a_rc h p (f 20 0) (f 20 1) (f 20 2) i) ||| (1 <<< ((nI i) &&& 31)) := by simp only [a_rc]; rw [if_pos ((z_can hh4 hm99 (hws _ hl.2) hp hb).mpr c46)]
      have fin := ih (i + 1) (by omega)
      rw [e1] at fin
      exact fin
theorem c_X0_reach {Γ : z_W} {h : z_H} {f : Nat → Nat → Int32} {p : Int32} (hS : z_S h f)  : z_C Γ M_X0_reach (z_rm 4 0 0) [.ref 16, .int p] (z_cy h f) (z_ask h f (m_X6_reach h p (f 20 0) (f 20 1) (f 20 2))) := by
  obtain ⟨hS3, hS6, hm99, hh4, hmi, hk, hb, hc⟩ := id hS
  obtain ⟨hF, ha, hm, hvs, hws, hho⟩ := id hk
  refine z_C.of (by decide +kernel) rfl [some (.ref 16), some (.int p), none, none] (Nat.le_of_ble_eq_true rfl) rfl ?_
  refine z_iload_n dX0_reach_0 rfl rfl ?_
  refine z_scall sl_X0_235 (c_X0_isPace) dX0_reach_1 rfl rfl ⟨by decide, by decide⟩ (Nat.le_of_ble_eq_true rfl) (Nat.le_refl _) (Nat.le_refl _) (z_cI ?_) z_tI
  refine z_bif_ne 10 dX0_reach_4 (by decide) (fun c4 => ?_) (fun c4 => ?_)
  · refine z_iconst (v := 0) dX0_reach_10 rfl ?_
    refine z_istore_n dX0_reach_11 rfl (by decide) rfl ?_
    refine z_iconst (v := 0) dX0_reach_12 rfl ?_
    refine z_istore_n dX0_reach_13 rfl (by decide) rfl ?_
    unfold m_X6_reach
    rw [if_pos c4]
    exact lp_X0_reach hS c4 _ 0 (Nat.zero_add _)
  · refine z_bipush (v := (-2)) dX0_reach_7 rfl ?_
    refine z_iret dX0_reach_9 rfl rfl (Nat.le_refl _) (Nat.le_refl _) (z_ask_i ?_ ?_)
    · unfold m_X6_reach; rw [if_neg (show ¬ (m_X0_isPace h p) from c4)]
    · exact z_fm.refl _ _
