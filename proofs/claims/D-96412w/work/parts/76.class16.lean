/-! THE CLASS: odds, mean, looked, of, told (printed by class16.py) -/
set_option maxRecDepth 20000
theorem lp_X0_divisor {Γ : z_W} {h : z_H} {x1 : Int64} {n : Nat} : ∀ (b a : Nat) (o6 : Option Value), a < 2 ^ 31 → b < 2 ^ 31 → Nat.gcd a b = n → z_G Γ M_X0_divisor (z_rm 1 0 0) (z_rl (lN n) h) 0 0 3 [some (.long x1), none, some (.long (lN b)), none, some (.long (lN a)), none, o6, none] [] h := by
  intro b
  induction b using Nat.strongRecOn with
  | _ b ih =>
    intro a o6 ha hb hg
    have h0 : lg_cmp (lN b) 0 = 0 ↔ b = 0 := (lg_cmp_eq _ _).trans (lN_eq (b := 0) hb (by decide))
    refine z_lload_n dX0_divisor_3 rfl rfl ?_
    refine z_lconst (v := 0) dX0_divisor_4 rfl ?_
    refine z_lcmp dX0_divisor_5 ?_
    refine z_if_eq 24 dX0_divisor_6 (by decide) (fun c6 => ?_) (fun c6 => ?_)
    · have hb0 : b = 0 := h0.mp c6
      refine z_lload dX0_divisor_24 rfl ?_
      refine z_lret dX0_divisor_26 rfl (Nat.le_refl _) (Nat.le_refl _) (z_rl_i ?_ ?_)
      · rw [← hg, hb0, Nat.gcd_zero_right]
      · rfl
    · have hb0 : 0 < b := Nat.pos_of_ne_zero (fun q => c6 (h0.mpr q))
      refine z_lload dX0_divisor_9 rfl ?_
      refine z_lload_n dX0_divisor_11 rfl rfl ?_
      refine z_lrem dX0_divisor_12 (fun q => c6 ((lg_cmp_eq _ _).mpr q)) ?_
      refine z_eql (lN (a % b)) (pk_lRem (by omega) hb0 (by omega)) ?_
      refine z_lstore dX0_divisor_13 (by decide) rfl ?_
      refine z_lload_n dX0_divisor_15 rfl rfl ?_
      refine z_lstore dX0_divisor_16 (by decide) rfl ?_
      refine z_lload dX0_divisor_18 rfl ?_
      refine z_lstore_n dX0_divisor_20 rfl (by decide) rfl ?_
      refine z_goto 3 dX0_divisor_21 (by decide) ?_
      exact ih (a % b) (Nat.mod_lt _ (by omega)) b _ (by omega) (by have := Nat.mod_lt a (show 0 < b by omega); omega) (by rw [← hg, Nat.gcd_comm a b, Nat.gcd_rec b a, Nat.gcd_comm])
theorem c_X0_divisor {Γ : z_W} {h : z_H} {a b : Nat} (ha : a < 2 ^ 31) (hb : b < 2 ^ 31) : z_C Γ M_X0_divisor (z_rm 1 0 0) [.long (lN a), .long (lN b)] h (z_rl (lN (Nat.gcd a b)) h) := by
  refine z_C.of (by decide +kernel) rfl [some (.long (lN a)), none, some (.long (lN b)), none, none, none, none, none] (Nat.le_of_ble_eq_true rfl) rfl ?_
  refine z_lload_n dX0_divisor_0 rfl rfl ?_
  refine z_lstore dX0_divisor_1 (by decide) rfl ?_
  exact lp_X0_divisor b a none ha hb rfl
theorem c_X0_lowestTerms {Γ : z_W} {h : z_H} {a b : Nat} {part : Int32} (ha : a < 2 ^ 31) (hb : b < 2 ^ 31) (h0 : 0 < b) : z_C Γ M_X0_lowestTerms (z_rm 2 0 0) [.long (lN a), .long (lN b), .int part] h (z_rl (a_lt a b part) h) := by
  have hg : 0 < Nat.gcd a b := Nat.gcd_pos_of_pos_right a h0
  have hgb : Nat.gcd a b ≤ b := Nat.gcd_le_right a h0
  have hne : ¬ lN (Nat.gcd a b) = 0 := fun q => by have := (lN_eq (b := 0) (by omega) (by decide)).mp q; omega
  refine z_C.of (by decide +kernel) rfl [some (.long (lN a)), none, some (.long (lN b)), none, some (.int part)] (Nat.le_of_ble_eq_true rfl) rfl ?_
  refine z_iload dX0_lowestTerms_0 rfl ?_
  refine z_if_ne 9 dX0_lowestTerms_2 (by decide) (fun c2 => ?_) (fun c2 => ?_)
  · refine z_lload_n dX0_lowestTerms_9 rfl rfl ?_
    refine z_lload_n dX0_lowestTerms_10 rfl rfl ?_
    refine z_lload_n dX0_lowestTerms_11 rfl rfl ?_
    refine z_scall sl_X0_299 (c_X0_divisor ha hb) dX0_lowestTerms_12 rfl rfl ⟨by decide, by decide⟩ (Nat.le_of_ble_eq_true rfl) (Nat.le_refl _) (Nat.le_refl _) (z_cL ?_) z_tL
    refine z_ldiv dX0_lowestTerms_15 hne ?_
    refine z_lret dX0_lowestTerms_16 rfl (Nat.le_refl _) (Nat.le_refl _) (z_rl_i ?_ ?_)
    · unfold a_lt; rw [if_neg (show ¬ (part = 0) from c2), pk_lDiv (by omega) hg (by omega), nI_l (by have := Nat.div_le_self b (Nat.gcd a b); omega)]
    · rfl
  · refine z_lload_n dX0_lowestTerms_5 rfl rfl ?_
    refine z_goto 10 dX0_lowestTerms_6 (by decide) ?_
    refine z_lload_n dX0_lowestTerms_10 rfl rfl ?_
    refine z_lload_n dX0_lowestTerms_11 rfl rfl ?_
    refine z_scall sl_X0_299 (c_X0_divisor ha hb) dX0_lowestTerms_12 rfl rfl ⟨by decide, by decide⟩ (Nat.le_of_ble_eq_true rfl) (Nat.le_refl _) (Nat.le_refl _) (z_cL ?_) z_tL
    refine z_ldiv dX0_lowestTerms_15 hne ?_
    refine z_lret dX0_lowestTerms_16 rfl (Nat.le_refl _) (Nat.le_refl _) (z_rl_i ?_ ?_)
    · unfold a_lt; rw [if_pos (show part = 0 from c2), pk_lDiv (by omega) hg (by omega), nI_l (by have := Nat.div_le_self a (Nat.gcd a b); omega)]
    · rfl
theorem z_manyl {x : Int32} (hm : z_cn x 6) : x.toInt64 = lN (z_c x) := by
  have := nI_l (n := z_c x) (by have := hm.2; omega)
  rw [← hm.1] at this
  exact this
/-- an answer that is long; only notes have changed -/
def z_askl (h : z_H) (f : Nat → Nat → Int32) (v : Int64) : Outcome → z_H → Prop := fun o h' => o = .returned (some (.long v)) ∧ ∃ f', h' = z_cy h f' ∧ z_fm z_cn0 f f'
theorem z_askl_i {h : z_H} {f f' : Nat → Nat → Int32} {v w : Int64} (e : w = v) (k : z_fm z_cn0 f f') : z_askl h f v (.returned (some (.long w))) (z_cy h f') := ⟨by rw [e], f', rfl, k⟩
theorem z_upn {h : z_H} {N : Nat} {l : Int32} {m hi mi : Int32} (hm : z_cn (z_I h 49 0) 6) (hl : l = nI (z_c l) ∧ z_c l < z_c (z_I h 49 0)) (hN : N ≤ 60) : a_upv h l (nI N) m hi mi = (a_it h l m hi mi N).1 := by
  unfold a_upv
  have h1 : m_X6_isLift h l := by
    refine ⟨?_, ?_⟩
    · rw [hl.1]; exact nI_pos' (by have := hl.2; have := hm.2; omega)
    · have e : z_I h 49 0 - 1 = nI (z_c (z_I h 49 0) - 1) := by
        conv => lhs; rw [hm.1]
        show nI _ - nI 1 = _
        rw [pk_sub (by have := hl.2; omega)]
      rw [e, hl.1]
      exact nI_le (by have := hl.2; omega) (by have := hm.2; omega)
  have h2 : z_in (nI N) 0 60 := ⟨nI_pos' (by omega), nI_le (b := 60) hN (by decide)⟩
  rw [if_pos h1, if_pos h2]
  unfold z_c
  rw [nI_clamp (by omega)]
theorem lp_X0_odds {Γ : z_W} {h : z_H} {f : Nat → Nat → Int32} {x part : Int32} {N : Nat} (hS : z_S h f) (hN : N ≤ 60) (h0 : 0 < z_c (z_I h 49 0))  : ∀ (r i : Nat) (f' : Nat → Nat → Int32), i + r = z_c (z_I h 49 0) → z_fm z_cn0 f f' → z_G Γ M_X0_odds (z_rm 36 0 0) (z_askl h f (a_lt (a_od h x N (f 20 0) (f 20 1) (f 20 2) (z_c (z_I h 49 0))) (z_c (z_I h 49 0)) part)) 0 0 47 [some (.ref 16), some (.int x), some (.int (nI N)), some (.int part), some (.long (lN (a_od h x N (f 20 0) (f 20 1) (f 20 2) i))), none, some (.int (nI i))] [] (z_cy h f') := by
  obtain ⟨hS3, hS6, hm99, hh4, hmi, hk, hb, hc⟩ := id hS
  obtain ⟨hF, ha, hm, hvs, hws, hho⟩ := id hk
  intro r
  induction r with
  | zero =>
    intro i f' hi0 hff
    have hi1 : i = z_c (z_I h 49 0) := by omega
    subst hi1
    have hS' := hS.fm hff
    have hS3' := hS'.1
    have hS6' := hS'.2.1
    have e20 := z_e20 hff

    refine z_iload dX0_odds_47 rfl ?_
    refine z_aload_n dX0_odds_49 rfl rfl ?_
    refine z_getI dX0_odds_50 fl_X0_116_0 (hF.1 16 _ rfl) rfl ?_
    refine z_eqi (z_I h 49 0) hS3' ?_
    refine z_icmp_ge 79 dX0_odds_53 (by decide) (fun _ => ?_) (fun q => by first | exact absurd (z_lif hm rfl) q | exact absurd q (z_lif hm rfl))
    refine z_lload dX0_odds_79 rfl ?_
    refine z_aload_n dX0_odds_81 rfl rfl ?_
    refine z_getI dX0_odds_82 fl_X0_116_0 (hF.1 16 _ rfl) rfl ?_
    refine z_eqi (z_I h 49 0) hS3' ?_
    refine z_i2l dX0_odds_85 ?_
    refine z_eql (lN (z_c (z_I h 49 0))) (z_manyl hm) ?_
    refine z_iload_n dX0_odds_86 rfl rfl ?_
    refine z_scall sl_X0_308 (c_X0_lowestTerms (by have := hm.2; have := a_od_le (h := h) (x := x) (n := N) (m := f 20 0) (hi := f 20 1) (mi := f 20 2) (z_c (z_I h 49 0)); omega) (by have := hm.2; omega) h0) dX0_odds_87 rfl rfl ⟨by decide, by decide⟩ (Nat.le_of_ble_eq_true rfl) (Nat.le_refl _) (Nat.le_refl _) (z_cL ?_) z_tL
    refine z_lret dX0_odds_90 rfl (Nat.le_refl _) (Nat.le_refl _) (z_askl_i ?_ ?_)
    · rfl
    · exact hff
  | succ r ih =>
    intro i f' hi0 hff
    have hS' := hS.fm hff
    have hS3' := hS'.1
    have hS6' := hS'.2.1
    have e20 := z_e20 hff
    have hl : nI i = nI (z_c (nI i)) ∧ z_c (nI i) < z_c (z_I h 49 0) := z_ixn (by omega) (by have := hm.2; omega)
    refine z_iload dX0_odds_47 rfl ?_
    refine z_aload_n dX0_odds_49 rfl rfl ?_
    refine z_getI dX0_odds_50 fl_X0_116_0 (hF.1 16 _ rfl) rfl ?_
    refine z_eqi (z_I h 49 0) hS3' ?_
    refine z_icmp_ge 79 dX0_odds_53 (by decide) (fun q => by first | exact absurd q (z_lin hm (by omega)) | exact absurd (z_lin hm (by omega)) q) (fun _ => ?_)
    refine z_aload_n dX0_odds_56 rfl rfl ?_
    refine z_iload dX0_odds_57 rfl ?_
    refine z_iload_n dX0_odds_59 rfl rfl ?_
    refine z_vcall vl_X0_305_0 (c_X0_up hS') dX0_odds_60 rfl rfl (hF.1 16 _ rfl) ⟨by decide, by decide⟩ (Nat.le_of_ble_eq_true rfl) (Nat.le_refl _) (Nat.le_refl _) (z_cA (fun f1 hf1 => ?_)) z_tA
    refine z_eqi ((a_it h (nI i) (f 20 0) (f 20 1) (f 20 2) N).1) (by rw [e20]; exact z_upn hm hl hN) ?_
    refine z_iload_n dX0_odds_63 rfl rfl ?_
    refine z_icmp_lt 73 dX0_odds_64 (by decide) (fun c64 => ?_) (fun c64 => ?_)
    · refine z_iinc (v := nI (i + 1)) dX0_odds_73 rfl (nI_succ _).symm (by decide) rfl ?_
      refine z_goto 47 dX0_odds_76 (by decide) ?_
      have e1 : lN (a_od h x N (f 20 0) (f 20 1) (f 20 2) (i + 1)) = lN (a_od h x N (f 20 0) (f 20 1) (f 20 2) i) := by simp only [a_od]; rw [if_neg (Int32.not_le.mpr c64), Nat.add_zero]
      have fin := ih (i + 1) f1 (by omega) (hff.tr hf1 (fun _ _ q => q))
      rw [e1] at fin
      exact fin
    · refine z_lload dX0_odds_67 rfl ?_
      refine z_lconst (v := 1) dX0_odds_69 rfl ?_
      refine z_ladd dX0_odds_70 ?_
      refine z_lstore dX0_odds_71 (by decide) rfl ?_
      refine z_iinc (v := nI (i + 1)) dX0_odds_73 rfl (nI_succ _).symm (by decide) rfl ?_
      refine z_goto 47 dX0_odds_76 (by decide) ?_
      have e1 : lN (a_od h x N (f 20 0) (f 20 1) (f 20 2) (i + 1)) = (lN (a_od h x N (f 20 0) (f 20 1) (f 20 2) i)) + 1 := by simp only [a_od]; rw [if_pos (Int32.not_lt.mp c64), ← lN_add]; rfl
      have fin := ih (i + 1) f1 (by omega) (hff.tr hf1 (fun _ _ q => q))
      rw [e1] at fin
      exact fin
theorem lp_X0_mean {Γ : z_W} {h : z_H} {f : Nat → Nat → Int32} {part : Int32} {N : Nat} (hS : z_S h f) (hN : N ≤ 60) (h0 : 0 < z_c (z_I h 49 0))  : ∀ (r i : Nat) (f' : Nat → Nat → Int32), i + r = z_c (z_I h 49 0) → z_fm z_cn0 f f' → z_G Γ M_X0_mean (z_rm 36 0 0) (z_askl h f (a_lt (a_mn h N (f 20 0) (f 20 1) (f 20 2) (z_c (z_I h 49 0))) (z_c (z_I h 49 0)) part)) 0 0 35 [some (.ref 16), some (.int (nI N)), some (.int part), some (.long (lN (a_mn h N (f 20 0) (f 20 1) (f 20 2) i))), none, some (.int (nI i))] [] (z_cy h f') := by
  obtain ⟨hS3, hS6, hm99, hh4, hmi, hk, hb, hc⟩ := id hS
  obtain ⟨hF, ha, hm, hvs, hws, hho⟩ := id hk
  intro r
  induction r with
  | zero =>
    intro i f' hi0 hff
    have hi1 : i = z_c (z_I h 49 0) := by omega
    subst hi1
    have hS' := hS.fm hff
    have hS3' := hS'.1
    have hS6' := hS'.2.1
    have e20 := z_e20 hff

    refine z_iload dX0_mean_35 rfl ?_
    refine z_aload_n dX0_mean_37 rfl rfl ?_
    refine z_getI dX0_mean_38 fl_X0_116_0 (hF.1 16 _ rfl) rfl ?_
    refine z_eqi (z_I h 49 0) hS3' ?_
    refine z_icmp_ge 61 dX0_mean_41 (by decide) (fun _ => ?_) (fun q => by first | exact absurd (z_lif hm rfl) q | exact absurd q (z_lif hm rfl))
    refine z_lload_n dX0_mean_61 rfl rfl ?_
    refine z_aload_n dX0_mean_62 rfl rfl ?_
    refine z_getI dX0_mean_63 fl_X0_116_0 (hF.1 16 _ rfl) rfl ?_
    refine z_eqi (z_I h 49 0) hS3' ?_
    refine z_i2l dX0_mean_66 ?_
    refine z_eql (lN (z_c (z_I h 49 0))) (z_manyl hm) ?_
    refine z_iload_n dX0_mean_67 rfl rfl ?_
    refine z_scall sl_X0_308 (c_X0_lowestTerms (by have := hm.2; have := a_mn_le (m := f 20 0) hk hb hh4 hmi (show 10000 + N < 2 ^ 31 by omega) (z_c (z_I h 49 0)) (Nat.le_refl _); omega) (by have := hm.2; omega) h0) dX0_mean_68 rfl rfl ⟨by decide, by decide⟩ (Nat.le_of_ble_eq_true rfl) (Nat.le_refl _) (Nat.le_refl _) (z_cL ?_) z_tL
    refine z_lret dX0_mean_71 rfl (Nat.le_refl _) (Nat.le_refl _) (z_askl_i ?_ ?_)
    · rfl
    · exact hff
  | succ r ih =>
    intro i f' hi0 hff
    have hS' := hS.fm hff
    have hS3' := hS'.1
    have hS6' := hS'.2.1
    have e20 := z_e20 hff
    have hl : nI i = nI (z_c (nI i)) ∧ z_c (nI i) < z_c (z_I h 49 0) := z_ixn (by omega) (by have := hm.2; omega)
    refine z_iload dX0_mean_35 rfl ?_
    refine z_aload_n dX0_mean_37 rfl rfl ?_
    refine z_getI dX0_mean_38 fl_X0_116_0 (hF.1 16 _ rfl) rfl ?_
    refine z_eqi (z_I h 49 0) hS3' ?_
    refine z_icmp_ge 61 dX0_mean_41 (by decide) (fun q => by first | exact absurd q (z_lin hm (by omega)) | exact absurd (z_lin hm (by omega)) q) (fun _ => ?_)
    refine z_lload_n dX0_mean_44 rfl rfl ?_
    refine z_aload_n dX0_mean_45 rfl rfl ?_
    refine z_iload dX0_mean_46 rfl ?_
    refine z_iload_n dX0_mean_48 rfl rfl ?_
    have hr4 := z_r0 (z_it_r (m := f 20 0) hmi hk hb hl hh4 N (by omega)) (by decide) (n := 400) (by decide)
    refine z_vcall vl_X0_305_0 (c_X0_up hS') dX0_mean_49 rfl rfl (hF.1 16 _ rfl) ⟨by decide, by decide⟩ (Nat.le_of_ble_eq_true rfl) (Nat.le_refl _) (Nat.le_refl _) (z_cA (fun f1 hf1 => ?_)) z_tA
    refine z_eqi ((a_it h (nI i) (f 20 0) (f 20 1) (f 20 2) N).1) (by rw [e20]; exact z_upn hm hl hN) ?_
    refine z_i2l dX0_mean_52 ?_
    refine z_ladd dX0_mean_53 ?_
    refine z_lstore_n dX0_mean_54 rfl (by decide) rfl ?_
    refine z_iinc (v := nI (i + 1)) dX0_mean_55 rfl (nI_succ _).symm (by decide) rfl ?_
    refine z_goto 35 dX0_mean_58 (by decide) ?_
    have e1 : lN (a_mn h N (f 20 0) (f 20 1) (f 20 2) (i + 1)) = (lN (a_mn h N (f 20 0) (f 20 1) (f 20 2) i)) + (((a_it h (nI i) (f 20 0) (f 20 1) (f 20 2) N).1).toInt64) := by simp only [a_mn]; rw [← lN_add, ← nI_l (n := z_c (a_it h (nI i) (f 20 0) (f 20 1) (f 20 2) N).1) (by have := hr4.2; omega), ← hr4.1]
    have fin := ih (i + 1) f1 (by omega) (hff.tr hf1 (fun _ _ q => q))
    rw [e1] at fin
    exact fin
theorem c_X0_odds {Γ : z_W} {h : z_H} {f : Nat → Nat → Int32} {x n part : Int32} (hS : z_S h f) : z_C Γ M_X0_odds (z_rm 36 0 0) [.ref 16, .int x, .int n, .int part] (z_cy h f) (z_askl h f (m_X6_odds h x n part (f 20 0) (f 20 1) (f 20 2))) := by
  obtain ⟨hS3, hS6, hm99, hh4, hmi, hk, hb, hc⟩ := id hS
  obtain ⟨hF, ha, hm, hvs, hws, hho⟩ := id hk
  refine z_C.of (by decide +kernel) rfl [some (.ref 16), some (.int x), some (.int n), some (.int part), none, none, none] (Nat.le_of_ble_eq_true rfl) rfl ?_
  refine z_iload_n dX0_odds_0 rfl rfl ?_
  refine z_iconst (v := 0) dX0_odds_1 rfl ?_
  refine z_sipush (v := 400) dX0_odds_2 rfl ?_
  refine z_scall sl_X0_5 (c_X0_in) dX0_odds_5 rfl rfl ⟨by decide, by decide⟩ (Nat.le_of_ble_eq_true rfl) (Nat.le_refl _) (Nat.le_refl _) (z_cI ?_) z_tI
  refine z_bif_eq 37 dX0_odds_8 (by decide) (fun c8 => ?_) (fun c8 => ?_)
  · refine z_ldc2 dX0_odds_37 q1162 ?_
    refine z_lret dX0_odds_40 rfl (Nat.le_refl _) (Nat.le_refl _) (z_askl_i ?_ ?_)
    · unfold m_X6_odds; rw [if_neg (show ¬ (z_in x 0 400) from c8)]
    · exact z_fm.refl _ _
  · refine z_iload_n dX0_odds_11 rfl rfl ?_
    refine z_iconst (v := 0) dX0_odds_12 rfl ?_
    refine z_bipush (v := 60) dX0_odds_13 rfl ?_
    refine z_scall sl_X0_5 (c_X0_in) dX0_odds_15 rfl rfl ⟨by decide, by decide⟩ (Nat.le_of_ble_eq_true rfl) (Nat.le_refl _) (Nat.le_refl _) (z_cI ?_) z_tI
    refine z_bif_eq 37 dX0_odds_18 (by decide) (fun c18 => ?_) (fun c18 => ?_)
    · refine z_ldc2 dX0_odds_37 q1162 ?_
      refine z_lret dX0_odds_40 rfl (Nat.le_refl _) (Nat.le_refl _) (z_askl_i ?_ ?_)
      · unfold m_X6_odds; rw [if_pos (show z_in x 0 400 from c8), if_neg (show ¬ (z_in n 0 60) from c18)]
      · exact z_fm.refl _ _
    · have hn := z_pl2 (n := 60) rfl (by decide) c18
      refine z_iload_n dX0_odds_21 rfl rfl ?_
      refine z_iconst (v := 0) dX0_odds_22 rfl ?_
      refine z_iconst (v := 1) dX0_odds_23 rfl ?_
      refine z_scall sl_X0_5 (c_X0_in) dX0_odds_24 rfl rfl ⟨by decide, by decide⟩ (Nat.le_of_ble_eq_true rfl) (Nat.le_refl _) (Nat.le_refl _) (z_cI ?_) z_tI
      refine z_bif_eq 37 dX0_odds_27 (by decide) (fun c27 => ?_) (fun c27 => ?_)
      · refine z_ldc2 dX0_odds_37 q1162 ?_
        refine z_lret dX0_odds_40 rfl (Nat.le_refl _) (Nat.le_refl _) (z_askl_i ?_ ?_)
        · unfold m_X6_odds; rw [if_pos (show z_in x 0 400 from c8), if_pos (show z_in n 0 60 from c18), if_neg (show ¬ (z_in part 0 1) from c27)]
        · exact z_fm.refl _ _
      · refine z_aload_n dX0_odds_30 rfl rfl ?_
        refine z_getI dX0_odds_31 fl_X0_116_0 (hF.1 16 _ rfl) rfl ?_
        refine z_eqi (z_I h 49 0) hS3 ?_
        refine z_if_ne 41 dX0_odds_34 (by decide) (fun c34 => ?_) (fun c34 => ?_)
        · have h0 : 0 < z_c (z_I h 49 0) := Nat.pos_of_ne_zero (fun q => c34 (by rw [hm.1, q]; rfl))
          refine z_lconst (v := 0) dX0_odds_41 rfl ?_
          refine z_lstore dX0_odds_42 (by decide) rfl ?_
          refine z_iconst (v := 0) dX0_odds_44 rfl ?_
          refine z_istore dX0_odds_45 (by decide) rfl ?_
          have fin := lp_X0_odds (Γ := Γ) (x := x) (part := part) hS hn.2 h0 _ 0 f (Nat.zero_add _) (z_fm.refl _ _)
          rw [← hn.1] at fin
          unfold m_X6_odds
          rw [if_pos (show z_in x 0 400 from c8), if_pos (show z_in n 0 60 from c18), if_pos (show z_in part 0 1 from c27), if_neg (show ¬ ((z_I h 49 0) = 0) from c34)]
          exact fin
        · refine z_ldc2 dX0_odds_37 q1162 ?_
          refine z_lret dX0_odds_40 rfl (Nat.le_refl _) (Nat.le_refl _) (z_askl_i ?_ ?_)
          · unfold m_X6_odds; rw [if_pos (show z_in x 0 400 from c8), if_pos (show z_in n 0 60 from c18), if_pos (show z_in part 0 1 from c27), if_pos (show (z_I h 49 0) = 0 from c34)]
          · exact z_fm.refl _ _
theorem c_X0_mean {Γ : z_W} {h : z_H} {f : Nat → Nat → Int32} {n part : Int32} (hS : z_S h f) : z_C Γ M_X0_mean (z_rm 36 0 0) [.ref 16, .int n, .int part] (z_cy h f) (z_askl h f (m_X6_mean h n part (f 20 0) (f 20 1) (f 20 2))) := by
  obtain ⟨hS3, hS6, hm99, hh4, hmi, hk, hb, hc⟩ := id hS
  obtain ⟨hF, ha, hm, hvs, hws, hho⟩ := id hk
  refine z_C.of (by decide +kernel) rfl [some (.ref 16), some (.int n), some (.int part), none, none, none] (Nat.le_of_ble_eq_true rfl) rfl ?_
  refine z_iload_n dX0_mean_0 rfl rfl ?_
  refine z_iconst (v := 0) dX0_mean_1 rfl ?_
  refine z_bipush (v := 60) dX0_mean_2 rfl ?_
  refine z_scall sl_X0_5 (c_X0_in) dX0_mean_4 rfl rfl ⟨by decide, by decide⟩ (Nat.le_of_ble_eq_true rfl) (Nat.le_refl _) (Nat.le_refl _) (z_cI ?_) z_tI
  refine z_bif_eq 26 dX0_mean_7 (by decide) (fun c7 => ?_) (fun c7 => ?_)
  · refine z_ldc2 dX0_mean_26 q1162 ?_
    refine z_lret dX0_mean_29 rfl (Nat.le_refl _) (Nat.le_refl _) (z_askl_i ?_ ?_)
    · unfold m_X6_mean; rw [if_neg (show ¬ (z_in n 0 60) from c7)]
    · exact z_fm.refl _ _
  · have hn := z_pl2 (n := 60) rfl (by decide) c7
    refine z_iload_n dX0_mean_10 rfl rfl ?_
    refine z_iconst (v := 0) dX0_mean_11 rfl ?_
    refine z_iconst (v := 1) dX0_mean_12 rfl ?_
    refine z_scall sl_X0_5 (c_X0_in) dX0_mean_13 rfl rfl ⟨by decide, by decide⟩ (Nat.le_of_ble_eq_true rfl) (Nat.le_refl _) (Nat.le_refl _) (z_cI ?_) z_tI
    refine z_bif_eq 26 dX0_mean_16 (by decide) (fun c16 => ?_) (fun c16 => ?_)
    · refine z_ldc2 dX0_mean_26 q1162 ?_
      refine z_lret dX0_mean_29 rfl (Nat.le_refl _) (Nat.le_refl _) (z_askl_i ?_ ?_)
      · unfold m_X6_mean; rw [if_pos (show z_in n 0 60 from c7), if_neg (show ¬ (z_in part 0 1) from c16)]
      · exact z_fm.refl _ _
    · refine z_aload_n dX0_mean_19 rfl rfl ?_
      refine z_getI dX0_mean_20 fl_X0_116_0 (hF.1 16 _ rfl) rfl ?_
      refine z_eqi (z_I h 49 0) hS3 ?_
      refine z_if_ne 30 dX0_mean_23 (by decide) (fun c23 => ?_) (fun c23 => ?_)
      · have h0 : 0 < z_c (z_I h 49 0) := Nat.pos_of_ne_zero (fun q => c23 (by rw [hm.1, q]; rfl))
        refine z_lconst (v := 0) dX0_mean_30 rfl ?_
        refine z_lstore_n dX0_mean_31 rfl (by decide) rfl ?_
        refine z_iconst (v := 0) dX0_mean_32 rfl ?_
        refine z_istore dX0_mean_33 (by decide) rfl ?_
        have fin := lp_X0_mean (Γ := Γ) (part := part) hS hn.2 h0 _ 0 f (Nat.zero_add _) (z_fm.refl _ _)
        rw [← hn.1] at fin
        unfold m_X6_mean
        rw [if_pos (show z_in n 0 60 from c7), if_pos (show z_in part 0 1 from c16), if_neg (show ¬ ((z_I h 49 0) = 0) from c23)]
        exact fin
      · refine z_ldc2 dX0_mean_26 q1162 ?_
        refine z_lret dX0_mean_29 rfl (Nat.le_refl _) (Nat.le_refl _) (z_askl_i ?_ ?_)
        · unfold m_X6_mean; rw [if_pos (show z_in n 0 60 from c7), if_pos (show z_in part 0 1 from c16), if_pos (show (z_I h 49 0) = 0 from c23)]
        · exact z_fm.refl _ _
theorem z_fm.lk {f f' : Nat → Nat → Int32} {L : Nat → Int32} (k : z_fm z_cn0 f f') : z_fm z_cn0 f (z_lkf f' L) := by
  intro a j hn
  unfold z_lkf
  rw [if_neg (fun q => hn (Or.inr (Or.inl q)))]
  exact k a j hn
theorem z_lif8 {x : Int32} {i : Nat} (hm : z_cn x 8) (h : i = z_c x) : x ≤ nI i := by
  subst h
  rw [← hm.1]
  exact Int32.le_refl _
theorem z_lin8 {x : Int32} {i : Nat} (hm : z_cn x 8) (h : i < z_c x) : ¬ x ≤ nI i := by
  rw [hm.1]
  have := hm.2
  exact nI_ge h (by omega)
theorem lp_X0_looked {Γ : z_W} {h : z_H} {f : Nat → Nat → Int32} (hS : z_S h f) (hg : z_lg h) (hbm : f 16 20 = z_I h 49 41) (hbl : ∀ k, k < 8 → f 31 k = z_I h 68 k) (hbn : ∀ k, k < 8 → f 32 k = z_I h 69 k) : ∀ (r k : Nat) (L : Nat → Int32), k + r = z_c (z_I h 49 41) → z_G Γ M_X0_looked (z_rm 34 0 0) (z_ask h f (a_lk h (f 20 0) (f 20 1) (f 20 2) r k)) 0 0 2 [some (.ref 16), some (.int (nI k))] [] (z_cy h (z_lkf f L)) := by
  obtain ⟨hS3, hS6, hm99, hh4, hmi, hk, hb, hc⟩ := id hS
  obtain ⟨hF, ha, hm, hvs, hws, hho⟩ := id hk
  obtain ⟨-, -, -, hb8, hbb⟩ := id hg
  intro r
  induction r with
  | zero =>
    intro k L hk0
    have hi1 : k = z_c (z_I h 49 41) := by omega
    subst hi1
    refine z_iload_n dX0_looked_2 rfl rfl ?_
    refine z_aload_n dX0_looked_3 rfl rfl ?_
    refine z_getI dX0_looked_4 fl_X0_312_0 (hF.1 16 _ rfl) rfl ?_
    refine z_eqi (z_I h 49 41) hbm ?_
    refine z_icmp_ge 41 dX0_looked_7 (by decide) (fun _ => ?_) (fun q => by first | exact absurd (z_lif8 hb8 rfl) q | exact absurd q (z_lif8 hb8 rfl))
    refine z_bipush (v := (-5)) dX0_looked_41 rfl ?_
    refine z_iret dX0_looked_43 rfl rfl (Nat.le_refl _) (Nat.le_refl _) (z_ask_i ?_ ?_)
    · rfl
    · exact (z_fm.refl _ _).lk
  | succ r ih =>
    intro k L hk0
    have hk8 : k < 8 := by have := hb8.2; omega
    have hl := hbb k (by omega)
    refine z_iload_n dX0_looked_2 rfl rfl ?_
    refine z_aload_n dX0_looked_3 rfl rfl ?_
    refine z_getI dX0_looked_4 fl_X0_312_0 (hF.1 16 _ rfl) rfl ?_
    refine z_eqi (z_I h 49 41) hbm ?_
    refine z_icmp_ge 41 dX0_looked_7 (by decide) (fun q => by first | exact absurd q (z_lin8 hb8 (by omega)) | exact absurd (z_lin8 hb8 (by omega)) q) (fun _ => ?_)
    refine z_aload_n dX0_looked_10 rfl rfl ?_
    refine z_aload_n dX0_looked_11 rfl rfl ?_
    refine z_getR 20 dX0_looked_12 fl_X0_31_0 (hF.1 16 _ rfl) rfl (hF.2.1 16 4 20 rfl) ?_
    refine z_aload_n dX0_looked_15 rfl rfl ?_
    refine z_getR 31 dX0_looked_16 fl_X0_76_0 (hF.1 16 _ rfl) rfl (hF.2.1 16 16 31 rfl) ?_
    refine z_iload_n dX0_looked_19 rfl rfl ?_
    refine z_iald k dX0_looked_20 (hF.1 31 _ rfl) rfl (by omega) (by decide) ?_
    refine z_eqi (z_I h 68 k) (hbl k hk8) ?_
    refine z_vcall vl_X0_196_0 (c_X0_climbOf_20 (f := z_lkf f L) hk (hc.fm rfl rfl rfl rfl) hl hmi (by decide)) dX0_looked_21 rfl rfl (hF.1 16 _ rfl) ⟨by decide, by decide⟩ (Nat.le_of_ble_eq_true rfl) (Nat.le_refl _) (Nat.le_refl _) (z_cPI (fun r h' hq => ?_)) z_tPI
    obtain ⟨L1, rfl, rfl⟩ := hq
    rw [z_lkf_2]
    refine z_aload_n dX0_looked_24 rfl rfl ?_
    refine z_getR 32 dX0_looked_25 fl_X0_79_0 (hF.1 16 _ rfl) rfl (hF.2.1 16 17 32 rfl) ?_
    refine z_iload_n dX0_looked_28 rfl rfl ?_
    refine z_iald k dX0_looked_29 (hF.1 32 _ rfl) rfl (by omega) (by decide) ?_
    refine z_eqi (z_I h 69 k) (hbn k hk8) ?_
    refine z_icmp_eq 35 dX0_looked_30 (by decide) (fun c30 => ?_) (fun c30 => ?_)
    · refine z_iinc (v := nI (k + 1)) dX0_looked_35 rfl (nI_succ _).symm (by decide) rfl ?_
      refine z_goto 2 dX0_looked_38 (by decide) ?_
      have e1 : a_lk h (f 20 0) (f 20 1) (f 20 2) (r + 1) k = a_lk h (f 20 0) (f 20 1) (f 20 2) r (k + 1) := if_pos c30
      rw [e1]
      exact ih (k + 1) L1 (by omega)
    · refine z_iload_n dX0_looked_33 rfl rfl ?_
      refine z_iret dX0_looked_34 rfl rfl (Nat.le_refl _) (Nat.le_refl _) (z_ask_i ?_ ?_)
      · exact (show a_lk h (f 20 0) (f 20 1) (f 20 2) (r + 1) k = nI k from if_neg c30).symm
      · exact (z_fm.refl _ _).lk
theorem z_lkf_0 (f : Nat → Nat → Int32) : f = z_lkf f (f 25) := funext fun a => funext fun k => by
  unfold z_lkf
  split
  · rename_i e; rw [e]
  · rfl
theorem c_X0_looked {Γ : z_W} {h : z_H} {f : Nat → Nat → Int32}  (hS : z_S h f) (hg : z_lg h) (hbm : f 16 20 = z_I h 49 41) (hbl : ∀ k, k < 8 → f 31 k = z_I h 68 k) (hbn : ∀ k, k < 8 → f 32 k = z_I h 69 k) : z_C Γ M_X0_looked (z_rm 34 0 0) [.ref 16] (z_cy h f) (z_ask h f (m_X6_looked h (f 20 0) (f 20 1) (f 20 2))) := by
  obtain ⟨hS3, hS6, hm99, hh4, hmi, hk, hb, hc⟩ := id hS
  obtain ⟨hF, ha, hm, hvs, hws, hho⟩ := id hk
  refine z_C.of (by decide +kernel) rfl [some (.ref 16), none] (Nat.le_of_ble_eq_true rfl) rfl ?_
  refine z_iconst (v := 0) dX0_looked_0 rfl ?_
  refine z_istore_n dX0_looked_1 rfl (by decide) rfl ?_
  refine z_meq (z_cy h (z_lkf f (f 25))) (congrArg (z_cy h) (z_lkf_0 f)) ?_
  exact lp_X0_looked hS hg hbm hbl hbn _ 0 _ (Nat.zero_add _)
theorem c_X0_of {Γ : z_W} {h : z_H} {f : Nat → Nat → Int32} {l w : Int32} (hS : z_S h f)  : z_C Γ M_X0_of (z_rm 34 0 0) [.ref 16, .int l, .int w] (z_cy h f) (z_ask h f (m_X6_of h l w (f 20 0) (f 20 1) (f 20 2))) := by
  obtain ⟨hS3, hS6, hm99, hh4, hmi, hk, hb, hc⟩ := id hS
  obtain ⟨hF, ha, hm, hvs, hws, hho⟩ := id hk
  obtain ⟨c1, -, -, a, Cs, c4, c5x, -⟩ := id hc
  refine z_C.of (by decide +kernel) rfl [some (.ref 16), some (.int l), some (.int w)] (Nat.le_of_ble_eq_true rfl) rfl ?_
  refine z_aload_n dX0_of_0 rfl rfl ?_
  refine z_iload_n dX0_of_1 rfl rfl ?_
  refine z_vcall vl_X0_193_0 (c_X0_isLift hF hS3) dX0_of_2 rfl rfl (hF.1 16 _ rfl) ⟨by decide, by decide⟩ (Nat.le_of_ble_eq_true rfl) (Nat.le_refl _) (Nat.le_refl _) (z_cI ?_) z_tI
  refine z_bif_ne 12 dX0_of_5 (by decide) (fun c5 => ?_) (fun c5 => ?_)
  · have hl := z_ix hm (by decide) c5
    have hl6 : l = nI (z_c l) ∧ z_c l < 6 := ⟨hl.1, by have := hl.2; have := hm.2; omega⟩
    obtain ⟨id, k, hid, hlf⟩ := c1 _ hl.2
    obtain ⟨h85, hk6, hkd, hTL, -, hn1, hvL, hmL, h46⟩ := hlf
    refine z_iload_n dX0_of_12 rfl rfl ?_
    by_cases e13_0 : w = 0
    · refine z_tableIn 0 52 dX0_of_13 e13_0 (by decide) (by decide) rfl (by decide) ?_
      refine z_aload_n dX0_of_52 rfl rfl ?_
      refine z_getR 17 dX0_of_53 fl_X0_17_0 (hF.1 16 _ rfl) rfl (hF.2.1 16 0 17 rfl) ?_
      refine z_iload_n dX0_of_56 rfl rfl ?_
      refine z_aald (z_c l) id dX0_of_57 (hF.1 17 _ rfl) (by simp [z_at]) hl6.1 hl6.2 (by decide) hid ?_
      refine z_kind rfl hk6 hTL dX0_of_58 (by decide) (Nat.le_of_ble_eq_true rfl) (Nat.le_refl _) (Nat.le_refl _) ?_
      refine z_iret dX0_of_61 rfl rfl (Nat.le_refl _) (Nat.le_refl _) (z_ask_i ?_ ?_)
      · unfold m_X6_of; rw [if_pos (show m_X6_isLift h l from c5), if_pos (show w = 0 from e13_0)]
        exact hkd.symm
      · exact z_fm.refl _ _
    by_cases e13_1 : w = 1
    · refine z_tableIn 1 62 dX0_of_13 e13_1 (by decide) (by decide) rfl (by decide) ?_
      refine z_aload_n dX0_of_62 rfl rfl ?_
      refine z_getR 17 dX0_of_63 fl_X0_17_0 (hF.1 16 _ rfl) rfl (hF.2.1 16 0 17 rfl) ?_
      refine z_iload_n dX0_of_66 rfl rfl ?_
      refine z_aald (z_c l) id dX0_of_67 (hF.1 17 _ rfl) (by simp [z_at]) hl6.1 hl6.2 (by decide) hid ?_
      refine z_getv rfl hk6 hTL dX0_of_68 <| z_eqi (z_I h id 2) (z_cy_hi h85) ?_
      refine z_iret dX0_of_71 rfl rfl (Nat.le_refl _) (Nat.le_refl _) (z_ask_i ?_ ?_)
      · unfold m_X6_of; rw [if_pos (show m_X6_isLift h l from c5), if_neg (show ¬ (w = 0) from e13_0), if_pos (show w = 1 from e13_1)]
        exact hvL
      · exact z_fm.refl _ _
    by_cases e13_2 : w = 2
    · refine z_tableIn 2 72 dX0_of_13 e13_2 (by decide) (by decide) rfl (by decide) ?_
      refine z_aload_n dX0_of_72 rfl rfl ?_
      refine z_getR 17 dX0_of_73 fl_X0_17_0 (hF.1 16 _ rfl) rfl (hF.2.1 16 0 17 rfl) ?_
      refine z_iload_n dX0_of_76 rfl rfl ?_
      refine z_aald (z_c l) id dX0_of_77 (hF.1 17 _ rfl) (by simp [z_at]) hl6.1 hl6.2 (by decide) hid ?_
      refine z_getm rfl hk6 hTL dX0_of_78 <| z_eqi (z_I h 52 (z_c l)) (by rw [z_cy_hi h85, hmL]) ?_
      refine z_iret dX0_of_81 rfl rfl (Nat.le_refl _) (Nat.le_refl _) (z_ask_i ?_ ?_)
      · unfold m_X6_of; rw [if_pos (show m_X6_isLift h l from c5), if_neg (show ¬ (w = 0) from e13_0), if_neg (show ¬ (w = 1) from e13_1), if_pos (show w = 2 from e13_2)]
      · exact z_fm.refl _ _
    by_cases e13_3 : w = 3
    · refine z_tableIn 3 82 dX0_of_13 e13_3 (by decide) (by decide) rfl (by decide) ?_
      refine z_aload_n dX0_of_82 rfl rfl ?_
      refine z_getR 18 dX0_of_83 fl_X0_21_0 (hF.1 16 _ rfl) rfl (hF.2.1 16 1 18 rfl) ?_
      refine z_iload_n dX0_of_86 rfl rfl ?_
      refine z_iald (z_c l) dX0_of_87 (hF.1 18 _ rfl) hl6.1 hl6.2 (by decide) ?_
      refine z_eqi (f 18 (z_c l)) rfl ?_
      refine z_iret dX0_of_88 rfl rfl (Nat.le_refl _) (Nat.le_refl _) (z_ask_i ?_ ?_)
      · unfold m_X6_of; rw [if_pos (show m_X6_isLift h l from c5), if_neg (show ¬ (w = 0) from e13_0), if_neg (show ¬ (w = 1) from e13_1), if_neg (show ¬ (w = 2) from e13_2), if_pos (show w = 3 from e13_3)]
        exact (hc.2.1 _ hl6.2)
      · exact z_fm.refl _ _
    by_cases e13_4 : w = 4
    · refine z_tableIn 4 89 dX0_of_13 e13_4 (by decide) (by decide) rfl (by decide) ?_
      refine z_aload_n dX0_of_89 rfl rfl ?_
      refine z_aload_n dX0_of_90 rfl rfl ?_
      refine z_getR 20 dX0_of_91 fl_X0_31_0 (hF.1 16 _ rfl) rfl (hF.2.1 16 4 20 rfl) ?_
      refine z_iload_n dX0_of_94 rfl rfl ?_
      refine z_vcall vl_X0_185_0 (c_X0_gainOf_20 hF hc hm hl) dX0_of_95 rfl rfl (hF.1 16 _ rfl) ⟨by decide, by decide⟩ (Nat.le_of_ble_eq_true rfl) (Nat.le_refl _) (Nat.le_refl _) (z_cPI (fun r h' hq => ?_)) z_tPI
      obtain ⟨L1, rfl, rfl⟩ := hq
      refine z_iret dX0_of_98 rfl rfl (Nat.le_refl _) (Nat.le_refl _) (z_ask_i ?_ ?_)
      · unfold m_X6_of; rw [if_pos (show m_X6_isLift h l from c5), if_neg (show ¬ (w = 0) from e13_0), if_neg (show ¬ (w = 1) from e13_1), if_neg (show ¬ (w = 2) from e13_2), if_neg (show ¬ (w = 3) from e13_3), if_pos (show w = 4 from e13_4)]
      · exact (z_fm.refl _ _).lk
    by_cases e13_5 : w = 5
    · refine z_tableIn 5 99 dX0_of_13 e13_5 (by decide) (by decide) rfl (by decide) ?_
      refine z_aload_n dX0_of_99 rfl rfl ?_
      refine z_aload_n dX0_of_100 rfl rfl ?_
      refine z_getR 20 dX0_of_101 fl_X0_31_0 (hF.1 16 _ rfl) rfl (hF.2.1 16 4 20 rfl) ?_
      refine z_iload_n dX0_of_104 rfl rfl ?_
      refine z_vcall vl_X0_196_0 (c_X0_climbOf_20 hk hc hl hmi (by decide)) dX0_of_105 rfl rfl (hF.1 16 _ rfl) ⟨by decide, by decide⟩ (Nat.le_of_ble_eq_true rfl) (Nat.le_refl _) (Nat.le_refl _) (z_cPI (fun r h' hq => ?_)) z_tPI
      obtain ⟨L1, rfl, rfl⟩ := hq
      refine z_iret dX0_of_108 rfl rfl (Nat.le_refl _) (Nat.le_refl _) (z_ask_i ?_ ?_)
      · unfold m_X6_of; rw [if_pos (show m_X6_isLift h l from c5), if_neg (show ¬ (w = 0) from e13_0), if_neg (show ¬ (w = 1) from e13_1), if_neg (show ¬ (w = 2) from e13_2), if_neg (show ¬ (w = 3) from e13_3), if_neg (show ¬ (w = 4) from e13_4), if_pos (show w = 5 from e13_5)]
      · exact (z_fm.refl _ _).lk
    refine z_tableOut 109 dX0_of_13 (z_tout6 e13_0 e13_1 e13_2 e13_3 e13_4 e13_5) (by decide) ?_
    refine z_sipush (v := (-1001)) dX0_of_109 rfl ?_
    refine z_iret dX0_of_112 rfl rfl (Nat.le_refl _) (Nat.le_refl _) (z_ask_i ?_ ?_)
    · unfold m_X6_of; rw [if_pos (show m_X6_isLift h l from c5), if_neg (show ¬ (w = 0) from e13_0), if_neg (show ¬ (w = 1) from e13_1), if_neg (show ¬ (w = 2) from e13_2), if_neg (show ¬ (w = 3) from e13_3), if_neg (show ¬ (w = 4) from e13_4), if_neg (show ¬ (w = 5) from e13_5)]
    · exact z_fm.refl _ _
  · refine z_sipush (v := (-1001)) dX0_of_8 rfl ?_
    refine z_iret dX0_of_11 rfl rfl (Nat.le_refl _) (Nat.le_refl _) (z_ask_i ?_ ?_)
    · unfold m_X6_of; rw [if_neg (show ¬ (m_X6_isLift h l) from c5)]
    · exact z_fm.refl _ _
theorem c_X0_told {Γ : z_W} {h : z_H} {f : Nat → Nat → Int32} {w : Int32} (hS : z_S h f) (hi4 : f 20 3 = z_I h 49 4) (hin : z_I h 49 4 < 0 ↔ z_I h 49 4 = -1) : z_C Γ M_X0_told (z_rm 3 0 0) [.ref 16, .int w] (z_cy h f) (z_ask h f (m_X6_told h w (f 20 0) (f 20 1) (f 20 2))) := by
  obtain ⟨hS3, hS6, hm99, hh4, hmi, hk, hb, hc⟩ := id hS
  obtain ⟨hF, ha, hm, hvs, hws, hho⟩ := id hk
  obtain ⟨c1, -, -, a, Cs, c4, c5x, -⟩ := id hc
  refine z_C.of (by decide +kernel) rfl [some (.ref 16), some (.int w)] (Nat.le_of_ble_eq_true rfl) rfl ?_
  refine z_iload_n dX0_told_0 rfl rfl ?_
  by_cases e1_0 : w = 0
  · refine z_tableIn 0 44 dX0_told_1 e1_0 (by decide) (by decide) rfl (by decide) ?_
    refine z_aload_n dX0_told_44 rfl rfl ?_
    refine z_getR 20 dX0_told_45 fl_X0_31_0 (hF.1 16 _ rfl) rfl (hF.2.1 16 4 20 rfl) ?_
    refine z_getI dX0_told_48 fl_X0_163_1 (hF.1 20 _ rfl) rfl ?_
    refine z_eqi (f 20 2) rfl ?_
    refine z_iret dX0_told_51 rfl rfl (Nat.le_refl _) (Nat.le_refl _) (z_ask_i ?_ ?_)
    · unfold m_X6_told; rw [if_pos (show w = 0 from e1_0)]
    · exact z_fm.refl _ _
  by_cases e1_1 : w = 1
  · refine z_tableIn 1 52 dX0_told_1 e1_1 (by decide) (by decide) rfl (by decide) ?_
    refine z_aload_n dX0_told_52 rfl rfl ?_
    refine z_getR 20 dX0_told_53 fl_X0_31_0 (hF.1 16 _ rfl) rfl (hF.2.1 16 4 20 rfl) ?_
    refine z_getI dX0_told_56 fl_X0_218_1 (hF.1 20 _ rfl) rfl ?_
    refine z_eqi (f 20 0) rfl ?_
    refine z_iret dX0_told_59 rfl rfl (Nat.le_refl _) (Nat.le_refl _) (z_ask_i ?_ ?_)
    · unfold m_X6_told; rw [if_neg (show ¬ (w = 0) from e1_0), if_pos (show w = 1 from e1_1)]
    · exact z_fm.refl _ _
  by_cases e1_2 : w = 2
  · refine z_tableIn 2 60 dX0_told_1 e1_2 (by decide) (by decide) rfl (by decide) ?_
    refine z_aload_n dX0_told_60 rfl rfl ?_
    refine z_getR 20 dX0_told_61 fl_X0_31_0 (hF.1 16 _ rfl) rfl (hF.2.1 16 4 20 rfl) ?_
    refine z_getI dX0_told_64 fl_X0_159_1 (hF.1 20 _ rfl) rfl ?_
    refine z_eqi (f 20 1) rfl ?_
    refine z_iret dX0_told_67 rfl rfl (Nat.le_refl _) (Nat.le_refl _) (z_ask_i ?_ ?_)
    · unfold m_X6_told; rw [if_neg (show ¬ (w = 0) from e1_0), if_neg (show ¬ (w = 1) from e1_1), if_pos (show w = 2 from e1_2)]
    · exact z_fm.refl _ _
  by_cases e1_3 : w = 3
  · refine z_tableIn 3 68 dX0_told_1 e1_3 (by decide) (by decide) rfl (by decide) ?_
    refine z_aload_n dX0_told_68 rfl rfl ?_
    refine z_getR 20 dX0_told_69 fl_X0_31_0 (hF.1 16 _ rfl) rfl (hF.2.1 16 4 20 rfl) ?_
    refine z_getI dX0_told_72 fl_X0_219_1 (hF.1 20 _ rfl) rfl ?_
    refine z_eqi (z_I h 49 4) hi4 ?_
    refine z_iconst (v := (-1)) dX0_told_75 rfl ?_
    refine z_icmp_ne 84 dX0_told_76 (by decide) (fun c76 => ?_) (fun c76 => ?_)
    · refine z_aload_n dX0_told_84 rfl rfl ?_
      refine z_getR 20 dX0_told_85 fl_X0_31_0 (hF.1 16 _ rfl) rfl (hF.2.1 16 4 20 rfl) ?_
      refine z_getI dX0_told_88 fl_X0_219_1 (hF.1 20 _ rfl) rfl ?_
      refine z_eqi (z_I h 49 4) hi4 ?_
      refine z_iret dX0_told_91 rfl rfl (Nat.le_refl _) (Nat.le_refl _) (z_ask_i ?_ ?_)
      · unfold m_X6_told; rw [if_neg (show ¬ (w = 0) from e1_0), if_neg (show ¬ (w = 1) from e1_1), if_neg (show ¬ (w = 2) from e1_2), if_pos (show w = 3 from e1_3), if_pos (Int32.not_lt.mp (fun q => c76 (hin.mp q)))]
      · exact z_fm.refl _ _
    · refine z_bipush (v := (-5)) dX0_told_79 rfl ?_
      refine z_goto 91 dX0_told_81 (by decide) ?_
      refine z_iret dX0_told_91 rfl rfl (Nat.le_refl _) (Nat.le_refl _) (z_ask_i ?_ ?_)
      · unfold m_X6_told; rw [if_neg (show ¬ (w = 0) from e1_0), if_neg (show ¬ (w = 1) from e1_1), if_neg (show ¬ (w = 2) from e1_2), if_pos (show w = 3 from e1_3), if_neg (fun q => absurd (hin.mpr c76) (Int32.not_lt.mpr q))]
      · exact z_fm.refl _ _
  by_cases e1_4 : w = 4
  · refine z_tableIn 4 92 dX0_told_1 e1_4 (by decide) (by decide) rfl (by decide) ?_
    refine z_aload_n dX0_told_92 rfl rfl ?_
    refine z_getI dX0_told_93 fl_X0_38_0 (hF.1 16 _ rfl) rfl ?_
    refine z_eqi (z_I h 49 5) hS6 ?_
    refine z_iret dX0_told_96 rfl rfl (Nat.le_refl _) (Nat.le_refl _) (z_ask_i ?_ ?_)
    · unfold m_X6_told; rw [if_neg (show ¬ (w = 0) from e1_0), if_neg (show ¬ (w = 1) from e1_1), if_neg (show ¬ (w = 2) from e1_2), if_neg (show ¬ (w = 3) from e1_3), if_pos (show w = 4 from e1_4)]
    · exact z_fm.refl _ _
  by_cases e1_5 : w = 5
  · refine z_tableIn 5 97 dX0_told_1 e1_5 (by decide) (by decide) rfl (by decide) ?_
    refine z_aload_n dX0_told_97 rfl rfl ?_
    refine z_getR a dX0_told_98 fl_X0_49_0 (hF.1 16 _ rfl) rfl c4 ?_
    refine z_vcall vl_X0_221_2 (c_X2_top (c5x f rfl rfl).1) dX0_told_101 rfl rfl (c5x f rfl rfl).1 ⟨by decide, by decide⟩ (Nat.le_of_ble_eq_true rfl) (Nat.le_refl _) (Nat.le_refl _) (z_cI ?_) z_tI
    refine z_eqi (m_X6_base h) (by rw [(c5x f rfl rfl).2.1]; exact z_top_b h) ?_
    refine z_iret dX0_told_104 rfl rfl (Nat.le_refl _) (Nat.le_refl _) (z_ask_i ?_ ?_)
    · unfold m_X6_told; rw [if_neg (show ¬ (w = 0) from e1_0), if_neg (show ¬ (w = 1) from e1_1), if_neg (show ¬ (w = 2) from e1_2), if_neg (show ¬ (w = 3) from e1_3), if_neg (show ¬ (w = 4) from e1_4), if_pos (show w = 5 from e1_5)]
    · exact z_fm.refl _ _
  by_cases e1_6 : w = 6
  · refine z_tableIn 6 105 dX0_told_1 e1_6 (by decide) (by decide) rfl (by decide) ?_
    refine z_aload_n dX0_told_105 rfl rfl ?_
    refine z_getR a dX0_told_106 fl_X0_49_0 (hF.1 16 _ rfl) rfl c4 ?_
    refine z_vcall vl_X0_224_2 (c_X2_safely (c5x (f) rfl rfl).1) dX0_told_109 rfl rfl (c5x f rfl rfl).1 ⟨by decide, by decide⟩ (Nat.le_of_ble_eq_true rfl) (Nat.le_refl _) (Nat.le_refl _) (z_cI ?_) z_tI
    refine z_eqi (m_X6_safe h) (by rw [(c5x (f) rfl rfl).2.2.1]; rfl) ?_
    refine z_iret dX0_told_112 rfl rfl (Nat.le_refl _) (Nat.le_refl _) (z_ask_i ?_ ?_)
    · unfold m_X6_told; rw [if_neg (show ¬ (w = 0) from e1_0), if_neg (show ¬ (w = 1) from e1_1), if_neg (show ¬ (w = 2) from e1_2), if_neg (show ¬ (w = 3) from e1_3), if_neg (show ¬ (w = 4) from e1_4), if_neg (show ¬ (w = 5) from e1_5), if_pos (show w = 6 from e1_6)]
    · exact z_fm.refl _ _
  refine z_tableOut 113 dX0_told_1 (z_tout7 e1_0 e1_1 e1_2 e1_3 e1_4 e1_5 e1_6) (by decide) ?_
  refine z_iconst (v := (-1)) dX0_told_113 rfl ?_
  refine z_iret dX0_told_114 rfl rfl (Nat.le_refl _) (Nat.le_refl _) (z_ask_i ?_ ?_)
  · unfold m_X6_told; rw [if_neg (show ¬ (w = 0) from e1_0), if_neg (show ¬ (w = 1) from e1_1), if_neg (show ¬ (w = 2) from e1_2), if_neg (show ¬ (w = 3) from e1_3), if_neg (show ¬ (w = 4) from e1_4), if_neg (show ¬ (w = 5) from e1_5), if_neg (show ¬ (w = 6) from e1_6)]
  · exact z_fm.refl _ _
