/-! THE REFERENCE: acts (printed by model14.py) -/
set_option maxRecDepth 20000
theorem z_20 {x : Int32} {B : Nat} (h : z_cn x B) (c : x < 20) : z_c x < 20 := by
  have h2 := Int32.lt_iff_toInt_lt.mp c
  have h3 := x.toNatClampNeg_lt
  rw [h.1, nI_toInt (by unfold z_c; omega), show (20 : Int32).toInt = 20 from rfl] at h2
  omega
section ZTAB
variable {Γ : z_W} {M : z_M} {rm : Room} {Q : Outcome → z_H → Prop} {cs ss pc : Nat} {ls : List (Option Value)} {st : List Value} {h : z_H}
theorem z_tableD {dflt lo hi : Int} {offs : Array Int} {len : Nat} {x : Int32} (tgt : Nat) (hd : decode M.2.1 pc = .ok (.tableswitch dflt lo hi offs, len)) (hs : hi - lo + 1 = offs.size) (hx : ∀ i, i < offs.size → offs[i]? ≠ some dflt → ¬ x.toInt = lo + i) (ht : (pc : Int) + dflt = (tgt : Int)) (k : z_G Γ M rm Q cs ss tgt ls st h) : z_G Γ M rm Q cs ss pc ls (.int x :: st) h := by
  by_cases h1 : x.toInt < lo
  · exact z_tableOut tgt hd (Or.inl h1) ht k
  by_cases h2 : hi < x.toInt
  · exact z_tableOut tgt hd (Or.inr h2) ht k
  have h3 : (x.toInt - lo).toNat < offs.size := by omega
  refine z_tableIn (off := dflt) x tgt hd rfl h1 h2 ?_ ht k
  refine Decidable.byContradiction fun q => hx _ h3 q ?_
  omega
theorem z_lkn {v x : Int32} {n : Int} (hv : v.toInt = n) (h : ¬ x = v) : ¬ n = x.toInt := fun q => h (Int32.toInt_inj.mp (by rw [hv, q]))
end ZTAB
/-- the trace: how many bodies ran, the first twenty -/
abbrev z_Tr : Type := Int32 × (Nat → Int32)
def z_tr (h : z_H) (t : z_Tr) : z_H := (fun a k => if a = 49 ∧ k = 65 then t.1 else if a = 80 then t.2 k else h.1 a k, h.2)
def a_pu1 (t : z_Tr) (b : Int32) : z_Tr := (t.1 + 1, if t.1 < 20 then upd t.2 (z_c t.1) b else t.2)
def a_pu (t : z_Tr) (L : List Int32) : z_Tr := L.foldl a_pu1 t
theorem a_pu_1 (t : z_Tr) (L : List Int32) (b : Int32) : a_pu1 (a_pu t L) b = a_pu t (L ++ [b]) := by unfold a_pu; rw [List.foldl_append]; rfl
theorem a_pu_2 (t : z_Tr) (L K : List Int32) : a_pu (a_pu t L) K = a_pu t (L ++ K) := by unfold a_pu; rw [List.foldl_append]
theorem a_pu_n : ∀ (L : List Int32) (t : z_Tr) (B : Nat), z_cn t.1 B → B + L.length < 2 ^ 31 → z_cn (a_pu t L).1 (B + L.length)
  | [], t, B, h, _ => h
  | b :: L, t, B, h, hB => by
    rw [List.length_cons] at hB ⊢
    have := a_pu_n L (a_pu1 t b) (B + 1) (z_cn_1 h (by omega)) (by omega)
    exact z_cn_le this (by omega)
theorem z_tr_self (h : z_H) : h = z_tr h (z_I h 49 65, z_I h 80) := by
  refine z_H_ext (fun a k => ?_) rfl
  show _ = if a = 49 ∧ k = 65 then z_I h 49 65 else if a = 80 then z_I h 80 k else h.1 a k
  split
  · rename_i c; rw [c.1, c.2]; rfl
  · split
    · rename_i c; rw [c]; rfl
    · rfl
theorem z_tr_0 (h : z_H) (t : z_Tr) (v : Int32) : z_sI (z_tr h t) 49 65 v = z_tr h (v, t.2) := by
  refine z_H_ext (fun a k => ?_) rfl
  show (if a = 49 ∧ k = 65 then v else if a = 49 ∧ k = 65 then t.1 else if a = 80 then t.2 k else h.1 a k) = if a = 49 ∧ k = 65 then v else if a = 80 then t.2 k else h.1 a k
  split
  · rfl
  · rfl
theorem z_tr_8 (h : z_H) (t : z_Tr) (j : Nat) (v : Int32) : z_sI (z_tr h t) 80 j v = z_tr h (t.1, upd t.2 j v) := by
  refine z_H_ext (fun a k => ?_) rfl
  show (if a = 80 ∧ k = j then v else if a = 49 ∧ k = 65 then t.1 else if a = 80 then t.2 k else h.1 a k) = if a = 49 ∧ k = 65 then t.1 else if a = 80 then upd t.2 j v k else h.1 a k
  unfold upd
  by_cases e : a = 80
  · subst e
    simp only [true_and]
    rw [if_neg (show ¬ (80 = 49 ∧ k = 65) from fun q => absurd q.1 (by decide)), if_neg (show ¬ (80 = 49 ∧ k = 65) from fun q => absurd q.1 (by decide))]
    simp
  · rw [if_neg (fun q => e q.1), if_neg e, if_neg e]
theorem c_X6_body {Γ : z_W} {h : z_H} {t : z_Tr} {b : Int32} {B : Nat} (hF : z_F h) (ht : z_cn t.1 B) : z_C Γ M_X6_body (z_rm 1 0 0) [.ref 49, .int b] (z_tr h t) (z_rv (z_tr h (a_pu1 t b))) := by
  refine z_C.of (by decide +kernel) rfl [some (.ref 49), some (.int b)] (Nat.le_of_ble_eq_true rfl) rfl ?_
  refine z_aload_n dX6_body_0 rfl rfl ?_
  refine z_getI dX6_body_1 fl_X6_208_6 (hF.1 49 _ rfl) rfl ?_
  refine z_eqi (t.1) rfl ?_
  refine z_bipush (v := 20) dX6_body_4 rfl ?_
  refine z_icmp_ge 19 dX6_body_6 (by decide) (fun c6 => ?_) (fun c6 => ?_)
  · have c6' : ¬ t.1 < 20 := Int32.not_lt.mpr c6
    refine z_aload_n dX6_body_19 rfl rfl ?_
    refine z_dup dX6_body_20 rfl ?_
    refine z_getI dX6_body_21 fl_X6_208_6 (hF.1 49 _ rfl) rfl ?_
    refine z_eqi (t.1) rfl ?_
    refine z_iconst (v := 1) dX6_body_24 rfl ?_
    refine z_iadd dX6_body_25 ?_
    refine z_putI dX6_body_26 (pl_X6_208_6 rfl) (hF.1 49 _ rfl) (by decide) rfl ?_
    refine z_meq (z_tr h ((t.1 + 1), t.2)) (z_tr_0 _ _ _) ?_
    refine z_vret dX6_body_29 rfl (Nat.le_refl _) (Nat.le_refl _) (z_rv_i ?_)
    unfold a_pu1; rw [if_neg c6']
  · have c6' : t.1 < 20 := Int32.not_le.mp c6
    refine z_aload_n dX6_body_9 rfl rfl ?_
    refine z_getR 80 dX6_body_10 fl_X6_211_6 (hF.1 49 _ rfl) rfl (hF.2.1 49 66 80 rfl) ?_
    refine z_aload_n dX6_body_13 rfl rfl ?_
    refine z_getI dX6_body_14 fl_X6_208_6 (hF.1 49 _ rfl) rfl ?_
    refine z_eqi (t.1) rfl ?_
    refine z_iload_n dX6_body_17 rfl rfl ?_
    refine z_iast (z_c t.1) dX6_body_18 (hF.1 80 _ rfl) (by decide) ht.1 (z_20 ht c6') (by decide) ?_
    refine z_meq (z_tr h (t.1, upd t.2 (z_c t.1) b)) (z_tr_8 _ _ _ _) ?_
    refine z_aload_n dX6_body_19 rfl rfl ?_
    refine z_dup dX6_body_20 rfl ?_
    refine z_getI dX6_body_21 fl_X6_208_6 (hF.1 49 _ rfl) rfl ?_
    refine z_eqi (t.1) rfl ?_
    refine z_iconst (v := 1) dX6_body_24 rfl ?_
    refine z_iadd dX6_body_25 ?_
    refine z_putI dX6_body_26 (pl_X6_208_6 rfl) (hF.1 49 _ rfl) (by decide) rfl ?_
    refine z_meq (z_tr h ((t.1 + 1), (t.1, upd t.2 (z_c t.1) b).2)) (z_tr_0 _ _ _) ?_
    refine z_vret dX6_body_29 rfl (Nat.le_refl _) (Nat.le_refl _) (z_rv_i ?_)
    unfold a_pu1; rw [if_pos c6']
def a_vLT (k v i x : Int32) : Int32 :=
  x + i
def a_bLT (k : Int32) : List Int32 :=
  [10]
theorem a_bLT_len (k : Int32) : (a_bLT k).length ≤ 1 := by
  unfold a_bLT
  
  (repeat' split) <;> (try simp only [List.length_append, List.length_cons, List.length_nil]) <;> omega
theorem c_X6_liftTurns {Γ : z_W} {h : z_H} {t : z_Tr} {i x : Int32} {B : Nat} (hF : z_F h) (hl : i = nI (z_c i) ∧ z_c i < 6) (ht : z_cn t.1 B) (hB : B + 5 < 2 ^ 31) : z_C Γ M_X6_liftTurns (z_rm 2 0 0) [.ref 49, .int i, .int x] (z_tr h t) (z_ri (a_vLT (z_I h 50 (z_c i)) (z_I h 51 (z_c i)) i x) (z_tr h (a_pu t (a_bLT (z_I h 50 (z_c i)))))) := by
  refine z_C.of (by decide +kernel) rfl [some (.ref 49), some (.int i), some (.int x)] (Nat.le_of_ble_eq_true rfl) rfl ?_
  refine z_aload_n dX6_liftTurns_0 rfl rfl ?_
  refine z_bipush (v := 10) dX6_liftTurns_1 rfl ?_
  refine z_vcall vl_X6_376_6 (c_X6_body hF ht) dX6_liftTurns_3 rfl rfl (hF.1 49 _ rfl) ⟨by decide, by decide⟩ (Nat.le_of_ble_eq_true rfl) (Nat.le_refl _) (Nat.le_refl _) (z_cV ?_) z_tV
  refine z_meq (z_tr h (a_pu t ([10]))) rfl ?_
  refine z_iload_n dX6_liftTurns_6 rfl rfl ?_
  refine z_iload_n dX6_liftTurns_7 rfl rfl ?_
  refine z_iadd dX6_liftTurns_8 ?_
  refine z_iret dX6_liftTurns_9 rfl rfl (Nat.le_refl _) (Nat.le_refl _) (z_ri_i ?_ ?_)
  · rfl
  · rfl
def a_vT (k v i x : Int32) : Int32 :=
  if k = 2 then
    a_vLT k v i (x * 3)
  else
    if k = 3 then
      a_vLT k v i x
    else
      if k = 4 then
        -(a_vLT k v i x)
      else
        if k = 5 then
          a_vLT k v i (x * 3)
        else
          if k = 6 then
            (a_vLT k v i x) ^^^ v
          else
            a_vLT k v i x
def a_bT (k : Int32) : List Int32 :=
  if k = 2 then
    [30] ++ a_bLT k
  else
    if k = 3 then
      a_bLT k
    else
      if k = 4 then
        [50] ++ a_bLT k
      else
        if k = 5 then
          [30] ++ a_bLT k
        else
          if k = 6 then
            [71] ++ a_bLT k
          else
            a_bLT k
theorem a_bT_len (k : Int32) : (a_bT k).length ≤ 2 := by
  unfold a_bT
  have := a_bLT_len k; 
  (repeat' split) <;> (try simp only [List.length_append, List.length_cons, List.length_nil]) <;> omega
theorem c_X6_turnsAct {Γ : z_W} {h : z_H} {t : z_Tr} {i x : Int32} {B : Nat} (hF : z_F h) (hl : i = nI (z_c i) ∧ z_c i < 6) (ht : z_cn t.1 B) (hB : B + 10 < 2 ^ 31) : z_C Γ M_X6_turnsAct (z_rm 3 0 0) [.ref 49, .int i, .int x] (z_tr h t) (z_ri (a_vT (z_I h 50 (z_c i)) (z_I h 51 (z_c i)) i x) (z_tr h (a_pu t (a_bT (z_I h 50 (z_c i)))))) := by
  refine z_C.of (by decide +kernel) rfl [some (.ref 49), some (.int i), some (.int x)] (Nat.le_of_ble_eq_true rfl) rfl ?_
  refine z_aload_n dX6_turnsAct_0 rfl rfl ?_
  refine z_getR 50 dX6_turnsAct_1 fl_X6_28_6 (hF.1 49 _ rfl) rfl (hF.2.1 49 6 50 rfl) ?_
  refine z_iload_n dX6_turnsAct_4 rfl rfl ?_
  refine z_iald (z_c i) dX6_turnsAct_5 (hF.1 50 _ rfl) hl.1 hl.2 (by decide) ?_
  refine z_eqi (z_I h 50 (z_c i)) rfl ?_
  by_cases e6_0 : (z_I h 50 (z_c i)) = 2
  · refine z_tableIn 2 40 dX6_turnsAct_6 e6_0 (by decide) (by decide) rfl (by decide) ?_
    refine z_aload_n dX6_turnsAct_40 rfl rfl ?_
    refine z_bipush (v := 30) dX6_turnsAct_41 rfl ?_
    refine z_vcall vl_X6_376_6 (c_X6_body hF ht) dX6_turnsAct_43 rfl rfl (hF.1 49 _ rfl) ⟨by decide, by decide⟩ (Nat.le_of_ble_eq_true rfl) (Nat.le_refl _) (Nat.le_refl _) (z_cV ?_) z_tV
    refine z_meq (z_tr h (a_pu t ([30]))) rfl ?_
    refine z_aload_n dX6_turnsAct_46 rfl rfl ?_
    refine z_iload_n dX6_turnsAct_47 rfl rfl ?_
    refine z_iload_n dX6_turnsAct_48 rfl rfl ?_
    refine z_iconst (v := 3) dX6_turnsAct_49 rfl ?_
    refine z_imul dX6_turnsAct_50 ?_
    refine z_vcall vl_X6_379_6 (c_X6_liftTurns hF hl (a_pu_n _ _ _ ht (by simp only [List.length_append, List.length_cons, List.length_nil]; omega)) (by simp only [List.length_append, List.length_cons, List.length_nil]; omega)) dX6_turnsAct_51 rfl rfl (hF.1 49 _ rfl) ⟨by decide, by decide⟩ (Nat.le_of_ble_eq_true rfl) (Nat.le_refl _) (Nat.le_refl _) (z_cI ?_) z_tI
    refine z_meq (z_tr h (a_pu t ([30] ++ a_bLT (z_I h 50 (z_c i))))) (congrArg (z_tr h) (a_pu_2 _ _ _)) ?_
    refine z_eqi (a_vLT (z_I h 50 (z_c i)) (z_I h 51 (z_c i)) i (x * 3)) rfl ?_
    refine z_iret dX6_turnsAct_54 rfl rfl (Nat.le_refl _) (Nat.le_refl _) (z_ri_i ?_ ?_)
    · unfold a_vT; rw [if_pos (show (z_I h 50 (z_c i)) = 2 from e6_0)]
    · unfold a_bT; rw [if_pos (show (z_I h 50 (z_c i)) = 2 from e6_0)]
  by_cases e6_1 : (z_I h 50 (z_c i)) = 3
  · refine z_tableIn 3 89 dX6_turnsAct_6 e6_1 (by decide) (by decide) rfl (by decide) ?_
    refine z_aload_n dX6_turnsAct_89 rfl rfl ?_
    refine z_iload_n dX6_turnsAct_90 rfl rfl ?_
    refine z_iload_n dX6_turnsAct_91 rfl rfl ?_
    refine z_vcall vl_X6_379_6 (c_X6_liftTurns hF hl ht (by omega)) dX6_turnsAct_92 rfl rfl (hF.1 49 _ rfl) ⟨by decide, by decide⟩ (Nat.le_of_ble_eq_true rfl) (Nat.le_refl _) (Nat.le_refl _) (z_cI ?_) z_tI
    refine z_meq (z_tr h (a_pu t (a_bLT (z_I h 50 (z_c i))))) rfl ?_
    refine z_eqi (a_vLT (z_I h 50 (z_c i)) (z_I h 51 (z_c i)) i x) rfl ?_
    refine z_iret dX6_turnsAct_95 rfl rfl (Nat.le_refl _) (Nat.le_refl _) (z_ri_i ?_ ?_)
    · unfold a_vT; rw [if_neg (show ¬ ((z_I h 50 (z_c i)) = 2) from e6_0), if_pos (show (z_I h 50 (z_c i)) = 3 from e6_1)]
    · unfold a_bT; rw [if_neg (show ¬ ((z_I h 50 (z_c i)) = 2) from e6_0), if_pos (show (z_I h 50 (z_c i)) = 3 from e6_1)]
  by_cases e6_2 : (z_I h 50 (z_c i)) = 4
  · refine z_tableIn 4 55 dX6_turnsAct_6 e6_2 (by decide) (by decide) rfl (by decide) ?_
    refine z_aload_n dX6_turnsAct_55 rfl rfl ?_
    refine z_bipush (v := 50) dX6_turnsAct_56 rfl ?_
    refine z_vcall vl_X6_376_6 (c_X6_body hF ht) dX6_turnsAct_58 rfl rfl (hF.1 49 _ rfl) ⟨by decide, by decide⟩ (Nat.le_of_ble_eq_true rfl) (Nat.le_refl _) (Nat.le_refl _) (z_cV ?_) z_tV
    refine z_meq (z_tr h (a_pu t ([50]))) rfl ?_
    refine z_aload_n dX6_turnsAct_61 rfl rfl ?_
    refine z_iload_n dX6_turnsAct_62 rfl rfl ?_
    refine z_iload_n dX6_turnsAct_63 rfl rfl ?_
    refine z_vcall vl_X6_379_6 (c_X6_liftTurns hF hl (a_pu_n _ _ _ ht (by simp only [List.length_append, List.length_cons, List.length_nil]; omega)) (by simp only [List.length_append, List.length_cons, List.length_nil]; omega)) dX6_turnsAct_64 rfl rfl (hF.1 49 _ rfl) ⟨by decide, by decide⟩ (Nat.le_of_ble_eq_true rfl) (Nat.le_refl _) (Nat.le_refl _) (z_cI ?_) z_tI
    refine z_meq (z_tr h (a_pu t ([50] ++ a_bLT (z_I h 50 (z_c i))))) (congrArg (z_tr h) (a_pu_2 _ _ _)) ?_
    refine z_eqi (a_vLT (z_I h 50 (z_c i)) (z_I h 51 (z_c i)) i x) rfl ?_
    refine z_ineg dX6_turnsAct_67 ?_
    refine z_iret dX6_turnsAct_68 rfl rfl (Nat.le_refl _) (Nat.le_refl _) (z_ri_i ?_ ?_)
    · unfold a_vT; rw [if_neg (show ¬ ((z_I h 50 (z_c i)) = 2) from e6_0), if_neg (show ¬ ((z_I h 50 (z_c i)) = 3) from e6_1), if_pos (show (z_I h 50 (z_c i)) = 4 from e6_2)]
    · unfold a_bT; rw [if_neg (show ¬ ((z_I h 50 (z_c i)) = 2) from e6_0), if_neg (show ¬ ((z_I h 50 (z_c i)) = 3) from e6_1), if_pos (show (z_I h 50 (z_c i)) = 4 from e6_2)]
  by_cases e6_3 : (z_I h 50 (z_c i)) = 5
  · refine z_tableIn 5 40 dX6_turnsAct_6 e6_3 (by decide) (by decide) rfl (by decide) ?_
    refine z_aload_n dX6_turnsAct_40 rfl rfl ?_
    refine z_bipush (v := 30) dX6_turnsAct_41 rfl ?_
    refine z_vcall vl_X6_376_6 (c_X6_body hF ht) dX6_turnsAct_43 rfl rfl (hF.1 49 _ rfl) ⟨by decide, by decide⟩ (Nat.le_of_ble_eq_true rfl) (Nat.le_refl _) (Nat.le_refl _) (z_cV ?_) z_tV
    refine z_meq (z_tr h (a_pu t ([30]))) rfl ?_
    refine z_aload_n dX6_turnsAct_46 rfl rfl ?_
    refine z_iload_n dX6_turnsAct_47 rfl rfl ?_
    refine z_iload_n dX6_turnsAct_48 rfl rfl ?_
    refine z_iconst (v := 3) dX6_turnsAct_49 rfl ?_
    refine z_imul dX6_turnsAct_50 ?_
    refine z_vcall vl_X6_379_6 (c_X6_liftTurns hF hl (a_pu_n _ _ _ ht (by simp only [List.length_append, List.length_cons, List.length_nil]; omega)) (by simp only [List.length_append, List.length_cons, List.length_nil]; omega)) dX6_turnsAct_51 rfl rfl (hF.1 49 _ rfl) ⟨by decide, by decide⟩ (Nat.le_of_ble_eq_true rfl) (Nat.le_refl _) (Nat.le_refl _) (z_cI ?_) z_tI
    refine z_meq (z_tr h (a_pu t ([30] ++ a_bLT (z_I h 50 (z_c i))))) (congrArg (z_tr h) (a_pu_2 _ _ _)) ?_
    refine z_eqi (a_vLT (z_I h 50 (z_c i)) (z_I h 51 (z_c i)) i (x * 3)) rfl ?_
    refine z_iret dX6_turnsAct_54 rfl rfl (Nat.le_refl _) (Nat.le_refl _) (z_ri_i ?_ ?_)
    · unfold a_vT; rw [if_neg (show ¬ ((z_I h 50 (z_c i)) = 2) from e6_0), if_neg (show ¬ ((z_I h 50 (z_c i)) = 3) from e6_1), if_neg (show ¬ ((z_I h 50 (z_c i)) = 4) from e6_2), if_pos (show (z_I h 50 (z_c i)) = 5 from e6_3)]
    · unfold a_bT; rw [if_neg (show ¬ ((z_I h 50 (z_c i)) = 2) from e6_0), if_neg (show ¬ ((z_I h 50 (z_c i)) = 3) from e6_1), if_neg (show ¬ ((z_I h 50 (z_c i)) = 4) from e6_2), if_pos (show (z_I h 50 (z_c i)) = 5 from e6_3)]
  by_cases e6_4 : (z_I h 50 (z_c i)) = 6
  · refine z_tableIn 6 69 dX6_turnsAct_6 e6_4 (by decide) (by decide) rfl (by decide) ?_
    refine z_aload_n dX6_turnsAct_69 rfl rfl ?_
    refine z_bipush (v := 71) dX6_turnsAct_70 rfl ?_
    refine z_vcall vl_X6_376_6 (c_X6_body hF ht) dX6_turnsAct_72 rfl rfl (hF.1 49 _ rfl) ⟨by decide, by decide⟩ (Nat.le_of_ble_eq_true rfl) (Nat.le_refl _) (Nat.le_refl _) (z_cV ?_) z_tV
    refine z_meq (z_tr h (a_pu t ([71]))) rfl ?_
    refine z_aload_n dX6_turnsAct_75 rfl rfl ?_
    refine z_iload_n dX6_turnsAct_76 rfl rfl ?_
    refine z_iload_n dX6_turnsAct_77 rfl rfl ?_
    refine z_vcall vl_X6_379_6 (c_X6_liftTurns hF hl (a_pu_n _ _ _ ht (by simp only [List.length_append, List.length_cons, List.length_nil]; omega)) (by simp only [List.length_append, List.length_cons, List.length_nil]; omega)) dX6_turnsAct_78 rfl rfl (hF.1 49 _ rfl) ⟨by decide, by decide⟩ (Nat.le_of_ble_eq_true rfl) (Nat.le_refl _) (Nat.le_refl _) (z_cI ?_) z_tI
    refine z_meq (z_tr h (a_pu t ([71] ++ a_bLT (z_I h 50 (z_c i))))) (congrArg (z_tr h) (a_pu_2 _ _ _)) ?_
    refine z_eqi (a_vLT (z_I h 50 (z_c i)) (z_I h 51 (z_c i)) i x) rfl ?_
    refine z_aload_n dX6_turnsAct_81 rfl rfl ?_
    refine z_getR 51 dX6_turnsAct_82 fl_X6_32_6 (hF.1 49 _ rfl) rfl (hF.2.1 49 7 51 rfl) ?_
    refine z_iload_n dX6_turnsAct_85 rfl rfl ?_
    refine z_iald (z_c i) dX6_turnsAct_86 (hF.1 51 _ rfl) hl.1 hl.2 (by decide) ?_
    refine z_eqi (z_I h 51 (z_c i)) rfl ?_
    refine z_ixor dX6_turnsAct_87 ?_
    refine z_iret dX6_turnsAct_88 rfl rfl (Nat.le_refl _) (Nat.le_refl _) (z_ri_i ?_ ?_)
    · unfold a_vT; rw [if_neg (show ¬ ((z_I h 50 (z_c i)) = 2) from e6_0), if_neg (show ¬ ((z_I h 50 (z_c i)) = 3) from e6_1), if_neg (show ¬ ((z_I h 50 (z_c i)) = 4) from e6_2), if_neg (show ¬ ((z_I h 50 (z_c i)) = 5) from e6_3), if_pos (show (z_I h 50 (z_c i)) = 6 from e6_4)]
    · unfold a_bT; rw [if_neg (show ¬ ((z_I h 50 (z_c i)) = 2) from e6_0), if_neg (show ¬ ((z_I h 50 (z_c i)) = 3) from e6_1), if_neg (show ¬ ((z_I h 50 (z_c i)) = 4) from e6_2), if_neg (show ¬ ((z_I h 50 (z_c i)) = 5) from e6_3), if_pos (show (z_I h 50 (z_c i)) = 6 from e6_4)]
  refine z_tableD 89 dX6_turnsAct_6 (by decide) (fun i hi hn => match i, hi, hn with | 0, _, hn => (fun q => e6_0 (Int32.toInt_inj.mp (by rw [q]; rfl))) | 1, _, hn => (fun q => e6_1 (Int32.toInt_inj.mp (by rw [q]; rfl))) | 2, _, hn => (fun q => e6_2 (Int32.toInt_inj.mp (by rw [q]; rfl))) | 3, _, hn => (fun q => e6_3 (Int32.toInt_inj.mp (by rw [q]; rfl))) | 4, _, hn => (fun q => e6_4 (Int32.toInt_inj.mp (by rw [q]; rfl))) | n + 5, hi, _ => absurd hi (by show ¬ (n + 5 < 5); omega)) (by decide) ?_
  refine z_aload_n dX6_turnsAct_89 rfl rfl ?_
  refine z_iload_n dX6_turnsAct_90 rfl rfl ?_
  refine z_iload_n dX6_turnsAct_91 rfl rfl ?_
  refine z_vcall vl_X6_379_6 (c_X6_liftTurns hF hl ht (by omega)) dX6_turnsAct_92 rfl rfl (hF.1 49 _ rfl) ⟨by decide, by decide⟩ (Nat.le_of_ble_eq_true rfl) (Nat.le_refl _) (Nat.le_refl _) (z_cI ?_) z_tI
  refine z_meq (z_tr h (a_pu t (a_bLT (z_I h 50 (z_c i))))) rfl ?_
  refine z_eqi (a_vLT (z_I h 50 (z_c i)) (z_I h 51 (z_c i)) i x) rfl ?_
  refine z_iret dX6_turnsAct_95 rfl rfl (Nat.le_refl _) (Nat.le_refl _) (z_ri_i ?_ ?_)
  · unfold a_vT; rw [if_neg (show ¬ ((z_I h 50 (z_c i)) = 2) from e6_0), if_neg (show ¬ ((z_I h 50 (z_c i)) = 3) from e6_1), if_neg (show ¬ ((z_I h 50 (z_c i)) = 4) from e6_2), if_neg (show ¬ ((z_I h 50 (z_c i)) = 5) from e6_3), if_neg (show ¬ ((z_I h 50 (z_c i)) = 6) from e6_4)]
  · unfold a_bT; rw [if_neg (show ¬ ((z_I h 50 (z_c i)) = 2) from e6_0), if_neg (show ¬ ((z_I h 50 (z_c i)) = 3) from e6_1), if_neg (show ¬ ((z_I h 50 (z_c i)) = 4) from e6_2), if_neg (show ¬ ((z_I h 50 (z_c i)) = 5) from e6_3), if_neg (show ¬ ((z_I h 50 (z_c i)) = 6) from e6_4)]
def a_vLC (k v i x : Int32) : Int32 :=
  (a_vT k v i x) - v
def a_bLC (k : Int32) : List Int32 :=
  [11] ++ a_bT k
theorem a_bLC_len (k : Int32) : (a_bLC k).length ≤ 3 := by
  unfold a_bLC
  have := a_bT_len k; 
  (repeat' split) <;> (try simp only [List.length_append, List.length_cons, List.length_nil]) <;> omega
theorem c_X6_liftClimbs {Γ : z_W} {h : z_H} {t : z_Tr} {i x : Int32} {B : Nat} (hF : z_F h) (hl : i = nI (z_c i) ∧ z_c i < 6) (ht : z_cn t.1 B) (hB : B + 15 < 2 ^ 31) : z_C Γ M_X6_liftClimbs (z_rm 4 0 0) [.ref 49, .int i, .int x] (z_tr h t) (z_ri (a_vLC (z_I h 50 (z_c i)) (z_I h 51 (z_c i)) i x) (z_tr h (a_pu t (a_bLC (z_I h 50 (z_c i)))))) := by
  refine z_C.of (by decide +kernel) rfl [some (.ref 49), some (.int i), some (.int x)] (Nat.le_of_ble_eq_true rfl) rfl ?_
  refine z_aload_n dX6_liftClimbs_0 rfl rfl ?_
  refine z_bipush (v := 11) dX6_liftClimbs_1 rfl ?_
  refine z_vcall vl_X6_376_6 (c_X6_body hF ht) dX6_liftClimbs_3 rfl rfl (hF.1 49 _ rfl) ⟨by decide, by decide⟩ (Nat.le_of_ble_eq_true rfl) (Nat.le_refl _) (Nat.le_refl _) (z_cV ?_) z_tV
  refine z_meq (z_tr h (a_pu t ([11]))) rfl ?_
  refine z_aload_n dX6_liftClimbs_6 rfl rfl ?_
  refine z_iload_n dX6_liftClimbs_7 rfl rfl ?_
  refine z_iload_n dX6_liftClimbs_8 rfl rfl ?_
  refine z_vcall vl_X6_382_6 (c_X6_turnsAct hF hl (a_pu_n _ _ _ ht (by simp only [List.length_append, List.length_cons, List.length_nil]; omega)) (by simp only [List.length_append, List.length_cons, List.length_nil]; omega)) dX6_liftClimbs_9 rfl rfl (hF.1 49 _ rfl) ⟨by decide, by decide⟩ (Nat.le_of_ble_eq_true rfl) (Nat.le_refl _) (Nat.le_refl _) (z_cI ?_) z_tI
  refine z_meq (z_tr h (a_pu t ([11] ++ a_bT (z_I h 50 (z_c i))))) (congrArg (z_tr h) (a_pu_2 _ _ _)) ?_
  refine z_eqi (a_vT (z_I h 50 (z_c i)) (z_I h 51 (z_c i)) i x) rfl ?_
  refine z_aload_n dX6_liftClimbs_12 rfl rfl ?_
  refine z_getR 51 dX6_liftClimbs_13 fl_X6_32_6 (hF.1 49 _ rfl) rfl (hF.2.1 49 7 51 rfl) ?_
  refine z_iload_n dX6_liftClimbs_16 rfl rfl ?_
  refine z_iald (z_c i) dX6_liftClimbs_17 (hF.1 51 _ rfl) hl.1 hl.2 (by decide) ?_
  refine z_eqi (z_I h 51 (z_c i)) rfl ?_
  refine z_isub dX6_liftClimbs_18 ?_
  refine z_iret dX6_liftClimbs_19 rfl rfl (Nat.le_refl _) (Nat.le_refl _) (z_ri_i ?_ ?_)
  · rfl
  · rfl
def a_vSC (k v i x : Int32) : Int32 :=
  (a_vLC k v i x) ^^^ 6
def a_bSC (k : Int32) : List Int32 :=
  [20] ++ a_bLC k
theorem a_bSC_len (k : Int32) : (a_bSC k).length ≤ 4 := by
  unfold a_bSC
  have := a_bLC_len k; 
  (repeat' split) <;> (try simp only [List.length_append, List.length_cons, List.length_nil]) <;> omega
theorem c_X6_strongClimbs {Γ : z_W} {h : z_H} {t : z_Tr} {i x : Int32} {B : Nat} (hF : z_F h) (hl : i = nI (z_c i) ∧ z_c i < 6) (ht : z_cn t.1 B) (hB : B + 20 < 2 ^ 31) : z_C Γ M_X6_strongClimbs (z_rm 5 0 0) [.ref 49, .int i, .int x] (z_tr h t) (z_ri (a_vSC (z_I h 50 (z_c i)) (z_I h 51 (z_c i)) i x) (z_tr h (a_pu t (a_bSC (z_I h 50 (z_c i)))))) := by
  refine z_C.of (by decide +kernel) rfl [some (.ref 49), some (.int i), some (.int x)] (Nat.le_of_ble_eq_true rfl) rfl ?_
  refine z_aload_n dX6_strongClimbs_0 rfl rfl ?_
  refine z_bipush (v := 20) dX6_strongClimbs_1 rfl ?_
  refine z_vcall vl_X6_376_6 (c_X6_body hF ht) dX6_strongClimbs_3 rfl rfl (hF.1 49 _ rfl) ⟨by decide, by decide⟩ (Nat.le_of_ble_eq_true rfl) (Nat.le_refl _) (Nat.le_refl _) (z_cV ?_) z_tV
  refine z_meq (z_tr h (a_pu t ([20]))) rfl ?_
  refine z_aload_n dX6_strongClimbs_6 rfl rfl ?_
  refine z_iload_n dX6_strongClimbs_7 rfl rfl ?_
  refine z_iload_n dX6_strongClimbs_8 rfl rfl ?_
  refine z_vcall vl_X6_385_6 (c_X6_liftClimbs hF hl (a_pu_n _ _ _ ht (by simp only [List.length_append, List.length_cons, List.length_nil]; omega)) (by simp only [List.length_append, List.length_cons, List.length_nil]; omega)) dX6_strongClimbs_9 rfl rfl (hF.1 49 _ rfl) ⟨by decide, by decide⟩ (Nat.le_of_ble_eq_true rfl) (Nat.le_refl _) (Nat.le_refl _) (z_cI ?_) z_tI
  refine z_meq (z_tr h (a_pu t ([20] ++ a_bLC (z_I h 50 (z_c i))))) (congrArg (z_tr h) (a_pu_2 _ _ _)) ?_
  refine z_eqi (a_vLC (z_I h 50 (z_c i)) (z_I h 51 (z_c i)) i x) rfl ?_
  refine z_bipush (v := 6) dX6_strongClimbs_12 rfl ?_
  refine z_ixor dX6_strongClimbs_14 ?_
  refine z_iret dX6_strongClimbs_15 rfl rfl (Nat.le_refl _) (Nat.le_refl _) (z_ri_i ?_ ?_)
  · rfl
  · rfl
def a_vC (k v i x : Int32) : Int32 :=
  if k = 1 then
    a_vSC k v i x
  else
    if k = 4 then
      a_vSC k v i (x + 1)
    else
      if k = 6 then
        (a_vLC k v i x) + (a_vLT k v i 2)
      else
        a_vLC k v i x
def a_bC (k : Int32) : List Int32 :=
  if k = 1 then
    a_bSC k
  else
    if k = 4 then
      [51] ++ a_bSC k
    else
      if k = 6 then
        [70] ++ a_bLC k ++ a_bLT k
      else
        a_bLC k
theorem a_bC_len (k : Int32) : (a_bC k).length ≤ 5 := by
  unfold a_bC
  have := a_bLC_len k; have := a_bLT_len k; have := a_bSC_len k; 
  (repeat' split) <;> (try simp only [List.length_append, List.length_cons, List.length_nil]) <;> omega
theorem c_X6_climbsAct {Γ : z_W} {h : z_H} {t : z_Tr} {i x : Int32} {B : Nat} (hF : z_F h) (hl : i = nI (z_c i) ∧ z_c i < 6) (ht : z_cn t.1 B) (hB : B + 30 < 2 ^ 31) : z_C Γ M_X6_climbsAct (z_rm 6 0 0) [.ref 49, .int i, .int x] (z_tr h t) (z_ri (a_vC (z_I h 50 (z_c i)) (z_I h 51 (z_c i)) i x) (z_tr h (a_pu t (a_bC (z_I h 50 (z_c i)))))) := by
  refine z_C.of (by decide +kernel) rfl [some (.ref 49), some (.int i), some (.int x), none] (Nat.le_of_ble_eq_true rfl) rfl ?_
  refine z_aload_n dX6_climbsAct_0 rfl rfl ?_
  refine z_getR 50 dX6_climbsAct_1 fl_X6_28_6 (hF.1 49 _ rfl) rfl (hF.2.1 49 6 50 rfl) ?_
  refine z_iload_n dX6_climbsAct_4 rfl rfl ?_
  refine z_iald (z_c i) dX6_climbsAct_5 (hF.1 50 _ rfl) hl.1 hl.2 (by decide) ?_
  refine z_eqi (z_I h 50 (z_c i)) rfl ?_
  by_cases e6_0 : (z_I h 50 (z_c i)) = 1
  · refine z_lookup 40 dX6_climbsAct_6 (by decide) (by rw [e6_0]; try rfl) (by decide) ?_
    refine z_aload_n dX6_climbsAct_40 rfl rfl ?_
    refine z_iload_n dX6_climbsAct_41 rfl rfl ?_
    refine z_iload_n dX6_climbsAct_42 rfl rfl ?_
    refine z_vcall vl_X6_388_6 (c_X6_strongClimbs hF hl ht (by omega)) dX6_climbsAct_43 rfl rfl (hF.1 49 _ rfl) ⟨by decide, by decide⟩ (Nat.le_of_ble_eq_true rfl) (Nat.le_refl _) (Nat.le_refl _) (z_cI ?_) z_tI
    refine z_meq (z_tr h (a_pu t (a_bSC (z_I h 50 (z_c i))))) rfl ?_
    refine z_eqi (a_vSC (z_I h 50 (z_c i)) (z_I h 51 (z_c i)) i x) rfl ?_
    refine z_iret dX6_climbsAct_46 rfl rfl (Nat.le_refl _) (Nat.le_refl _) (z_ri_i ?_ ?_)
    · unfold a_vC; rw [if_pos (show (z_I h 50 (z_c i)) = 1 from e6_0)]
    · unfold a_bC; rw [if_pos (show (z_I h 50 (z_c i)) = 1 from e6_0)]
  by_cases e6_1 : (z_I h 50 (z_c i)) = 4
  · refine z_lookup 47 dX6_climbsAct_6 (by decide) (by rw [e6_1]; try rfl) (by decide) ?_
    refine z_aload_n dX6_climbsAct_47 rfl rfl ?_
    refine z_bipush (v := 51) dX6_climbsAct_48 rfl ?_
    refine z_vcall vl_X6_376_6 (c_X6_body hF ht) dX6_climbsAct_50 rfl rfl (hF.1 49 _ rfl) ⟨by decide, by decide⟩ (Nat.le_of_ble_eq_true rfl) (Nat.le_refl _) (Nat.le_refl _) (z_cV ?_) z_tV
    refine z_meq (z_tr h (a_pu t ([51]))) rfl ?_
    refine z_aload_n dX6_climbsAct_53 rfl rfl ?_
    refine z_iload_n dX6_climbsAct_54 rfl rfl ?_
    refine z_iload_n dX6_climbsAct_55 rfl rfl ?_
    refine z_iconst (v := 1) dX6_climbsAct_56 rfl ?_
    refine z_iadd dX6_climbsAct_57 ?_
    refine z_vcall vl_X6_388_6 (c_X6_strongClimbs hF hl (a_pu_n _ _ _ ht (by simp only [List.length_append, List.length_cons, List.length_nil]; omega)) (by simp only [List.length_append, List.length_cons, List.length_nil]; omega)) dX6_climbsAct_58 rfl rfl (hF.1 49 _ rfl) ⟨by decide, by decide⟩ (Nat.le_of_ble_eq_true rfl) (Nat.le_refl _) (Nat.le_refl _) (z_cI ?_) z_tI
    refine z_meq (z_tr h (a_pu t ([51] ++ a_bSC (z_I h 50 (z_c i))))) (congrArg (z_tr h) (a_pu_2 _ _ _)) ?_
    refine z_eqi (a_vSC (z_I h 50 (z_c i)) (z_I h 51 (z_c i)) i (x + 1)) rfl ?_
    refine z_iret dX6_climbsAct_61 rfl rfl (Nat.le_refl _) (Nat.le_refl _) (z_ri_i ?_ ?_)
    · unfold a_vC; rw [if_neg (show ¬ ((z_I h 50 (z_c i)) = 1) from e6_0), if_pos (show (z_I h 50 (z_c i)) = 4 from e6_1)]
    · unfold a_bC; rw [if_neg (show ¬ ((z_I h 50 (z_c i)) = 1) from e6_0), if_pos (show (z_I h 50 (z_c i)) = 4 from e6_1)]
  by_cases e6_2 : (z_I h 50 (z_c i)) = 6
  · refine z_lookup 62 dX6_climbsAct_6 (by decide) (by rw [e6_2]; try rfl) (by decide) ?_
    refine z_aload_n dX6_climbsAct_62 rfl rfl ?_
    refine z_bipush (v := 70) dX6_climbsAct_63 rfl ?_
    refine z_vcall vl_X6_376_6 (c_X6_body hF ht) dX6_climbsAct_65 rfl rfl (hF.1 49 _ rfl) ⟨by decide, by decide⟩ (Nat.le_of_ble_eq_true rfl) (Nat.le_refl _) (Nat.le_refl _) (z_cV ?_) z_tV
    refine z_meq (z_tr h (a_pu t ([70]))) rfl ?_
    refine z_aload_n dX6_climbsAct_68 rfl rfl ?_
    refine z_iload_n dX6_climbsAct_69 rfl rfl ?_
    refine z_iload_n dX6_climbsAct_70 rfl rfl ?_
    refine z_vcall vl_X6_385_6 (c_X6_liftClimbs hF hl (a_pu_n _ _ _ ht (by simp only [List.length_append, List.length_cons, List.length_nil]; omega)) (by simp only [List.length_append, List.length_cons, List.length_nil]; omega)) dX6_climbsAct_71 rfl rfl (hF.1 49 _ rfl) ⟨by decide, by decide⟩ (Nat.le_of_ble_eq_true rfl) (Nat.le_refl _) (Nat.le_refl _) (z_cI ?_) z_tI
    refine z_meq (z_tr h (a_pu t ([70] ++ a_bLC (z_I h 50 (z_c i))))) (congrArg (z_tr h) (a_pu_2 _ _ _)) ?_
    refine z_eqi (a_vLC (z_I h 50 (z_c i)) (z_I h 51 (z_c i)) i x) rfl ?_
    refine z_istore_n dX6_climbsAct_74 rfl (by decide) rfl ?_
    refine z_iload_n dX6_climbsAct_75 rfl rfl ?_
    refine z_aload_n dX6_climbsAct_76 rfl rfl ?_
    refine z_iload_n dX6_climbsAct_77 rfl rfl ?_
    refine z_iconst (v := 2) dX6_climbsAct_78 rfl ?_
    refine z_vcall vl_X6_379_6 (c_X6_liftTurns hF hl (a_pu_n _ _ _ ht (by simp only [List.length_append, List.length_cons, List.length_nil]; have := a_bLC_len (z_I h 50 (z_c i)); omega)) (by have := a_bLC_len (z_I h 50 (z_c i)); simp only [List.length_append, List.length_cons, List.length_nil]; omega)) dX6_climbsAct_79 rfl rfl (hF.1 49 _ rfl) ⟨by decide, by decide⟩ (Nat.le_of_ble_eq_true rfl) (Nat.le_refl _) (Nat.le_refl _) (z_cI ?_) z_tI
    refine z_meq (z_tr h (a_pu t ([70] ++ a_bLC (z_I h 50 (z_c i)) ++ a_bLT (z_I h 50 (z_c i))))) (congrArg (z_tr h) (a_pu_2 _ _ _)) ?_
    refine z_eqi (a_vLT (z_I h 50 (z_c i)) (z_I h 51 (z_c i)) i 2) rfl ?_
    refine z_iadd dX6_climbsAct_82 ?_
    refine z_iret dX6_climbsAct_83 rfl rfl (Nat.le_refl _) (Nat.le_refl _) (z_ri_i ?_ ?_)
    · unfold a_vC; rw [if_neg (show ¬ ((z_I h 50 (z_c i)) = 1) from e6_0), if_neg (show ¬ ((z_I h 50 (z_c i)) = 4) from e6_1), if_pos (show (z_I h 50 (z_c i)) = 6 from e6_2)]
    · unfold a_bC; rw [if_neg (show ¬ ((z_I h 50 (z_c i)) = 1) from e6_0), if_neg (show ¬ ((z_I h 50 (z_c i)) = 4) from e6_1), if_pos (show (z_I h 50 (z_c i)) = 6 from e6_2)]
  refine z_lookup (off := 78) 84 dX6_climbsAct_6 (by decide) (((if_neg (z_lkn (v := 1) rfl e6_0)).trans (if_neg (z_lkn (v := 4) rfl e6_1))).trans (if_neg (z_lkn (v := 6) rfl e6_2))) (by decide) ?_
  refine z_aload_n dX6_climbsAct_84 rfl rfl ?_
  refine z_iload_n dX6_climbsAct_85 rfl rfl ?_
  refine z_iload_n dX6_climbsAct_86 rfl rfl ?_
  refine z_vcall vl_X6_385_6 (c_X6_liftClimbs hF hl ht (by omega)) dX6_climbsAct_87 rfl rfl (hF.1 49 _ rfl) ⟨by decide, by decide⟩ (Nat.le_of_ble_eq_true rfl) (Nat.le_refl _) (Nat.le_refl _) (z_cI ?_) z_tI
  refine z_meq (z_tr h (a_pu t (a_bLC (z_I h 50 (z_c i))))) rfl ?_
  refine z_eqi (a_vLC (z_I h 50 (z_c i)) (z_I h 51 (z_c i)) i x) rfl ?_
  refine z_iret dX6_climbsAct_90 rfl rfl (Nat.le_refl _) (Nat.le_refl _) (z_ri_i ?_ ?_)
  · unfold a_vC; rw [if_neg (show ¬ ((z_I h 50 (z_c i)) = 1) from e6_0), if_neg (show ¬ ((z_I h 50 (z_c i)) = 4) from e6_1), if_neg (show ¬ ((z_I h 50 (z_c i)) = 6) from e6_2)]
  · unfold a_bC; rw [if_neg (show ¬ ((z_I h 50 (z_c i)) = 1) from e6_0), if_neg (show ¬ ((z_I h 50 (z_c i)) = 4) from e6_1), if_neg (show ¬ ((z_I h 50 (z_c i)) = 6) from e6_2)]
def a_vLS (k v i x : Int32) : Int32 :=
  (a_vC k v i x) * 2
def a_bLS (k : Int32) : List Int32 :=
  [12] ++ a_bC k
theorem a_bLS_len (k : Int32) : (a_bLS k).length ≤ 6 := by
  unfold a_bLS
  have := a_bC_len k; 
  (repeat' split) <;> (try simp only [List.length_append, List.length_cons, List.length_nil]) <;> omega
theorem c_X6_liftTells {Γ : z_W} {h : z_H} {t : z_Tr} {i x : Int32} {B : Nat} (hF : z_F h) (hl : i = nI (z_c i) ∧ z_c i < 6) (ht : z_cn t.1 B) (hB : B + 40 < 2 ^ 31) : z_C Γ M_X6_liftTells (z_rm 7 0 0) [.ref 49, .int i, .int x] (z_tr h t) (z_ri (a_vLS (z_I h 50 (z_c i)) (z_I h 51 (z_c i)) i x) (z_tr h (a_pu t (a_bLS (z_I h 50 (z_c i)))))) := by
  refine z_C.of (by decide +kernel) rfl [some (.ref 49), some (.int i), some (.int x)] (Nat.le_of_ble_eq_true rfl) rfl ?_
  refine z_aload_n dX6_liftTells_0 rfl rfl ?_
  refine z_bipush (v := 12) dX6_liftTells_1 rfl ?_
  refine z_vcall vl_X6_376_6 (c_X6_body hF ht) dX6_liftTells_3 rfl rfl (hF.1 49 _ rfl) ⟨by decide, by decide⟩ (Nat.le_of_ble_eq_true rfl) (Nat.le_refl _) (Nat.le_refl _) (z_cV ?_) z_tV
  refine z_meq (z_tr h (a_pu t ([12]))) rfl ?_
  refine z_aload_n dX6_liftTells_6 rfl rfl ?_
  refine z_iload_n dX6_liftTells_7 rfl rfl ?_
  refine z_iload_n dX6_liftTells_8 rfl rfl ?_
  refine z_vcall vl_X6_391_6 (c_X6_climbsAct hF hl (a_pu_n _ _ _ ht (by simp only [List.length_append, List.length_cons, List.length_nil]; omega)) (by simp only [List.length_append, List.length_cons, List.length_nil]; omega)) dX6_liftTells_9 rfl rfl (hF.1 49 _ rfl) ⟨by decide, by decide⟩ (Nat.le_of_ble_eq_true rfl) (Nat.le_refl _) (Nat.le_refl _) (z_cI ?_) z_tI
  refine z_meq (z_tr h (a_pu t ([12] ++ a_bC (z_I h 50 (z_c i))))) (congrArg (z_tr h) (a_pu_2 _ _ _)) ?_
  refine z_eqi (a_vC (z_I h 50 (z_c i)) (z_I h 51 (z_c i)) i x) rfl ?_
  refine z_iconst (v := 2) dX6_liftTells_12 rfl ?_
  refine z_imul dX6_liftTells_13 ?_
  refine z_iret dX6_liftTells_14 rfl rfl (Nat.le_refl _) (Nat.le_refl _) (z_ri_i ?_ ?_)
  · rfl
  · rfl
def a_vS (k v i x : Int32) : Int32 :=
  if k = 3 then
    (a_vLS k v i x) + (a_vC k v i 1)
  else
    if k = 4 then
      a_vLS k v i x
    else
      if k = 5 then
        a_vLS k v i (x - i)
      else
        if k = 6 then
          (a_vLS k v i x) + (a_vC k v i 1)
        else
          a_vLS k v i x
def a_bS (k : Int32) : List Int32 :=
  if k = 3 then
    [40] ++ a_bLS k ++ a_bC k
  else
    if k = 4 then
      a_bLS k
    else
      if k = 5 then
        [60] ++ a_bLS k
      else
        if k = 6 then
          [40] ++ a_bLS k ++ a_bC k
        else
          a_bLS k
theorem a_bS_len (k : Int32) : (a_bS k).length ≤ 12 := by
  unfold a_bS
  have := a_bC_len k; have := a_bLS_len k; 
  (repeat' split) <;> (try simp only [List.length_append, List.length_cons, List.length_nil]) <;> omega
theorem c_X6_tellsAct {Γ : z_W} {h : z_H} {t : z_Tr} {i x : Int32} {B : Nat} (hF : z_F h) (hl : i = nI (z_c i) ∧ z_c i < 6) (ht : z_cn t.1 B) (hB : B + 60 < 2 ^ 31) : z_C Γ M_X6_tellsAct (z_rm 8 0 0) [.ref 49, .int i, .int x] (z_tr h t) (z_ri (a_vS (z_I h 50 (z_c i)) (z_I h 51 (z_c i)) i x) (z_tr h (a_pu t (a_bS (z_I h 50 (z_c i)))))) := by
  refine z_C.of (by decide +kernel) rfl [some (.ref 49), some (.int i), some (.int x), none] (Nat.le_of_ble_eq_true rfl) rfl ?_
  refine z_aload_n dX6_tellsAct_0 rfl rfl ?_
  refine z_getR 50 dX6_tellsAct_1 fl_X6_28_6 (hF.1 49 _ rfl) rfl (hF.2.1 49 6 50 rfl) ?_
  refine z_iload_n dX6_tellsAct_4 rfl rfl ?_
  refine z_iald (z_c i) dX6_tellsAct_5 (hF.1 50 _ rfl) hl.1 hl.2 (by decide) ?_
  refine z_eqi (z_I h 50 (z_c i)) rfl ?_
  by_cases e6_0 : (z_I h 50 (z_c i)) = 3
  · refine z_tableIn 3 36 dX6_tellsAct_6 e6_0 (by decide) (by decide) rfl (by decide) ?_
    refine z_aload_n dX6_tellsAct_36 rfl rfl ?_
    refine z_bipush (v := 40) dX6_tellsAct_37 rfl ?_
    refine z_vcall vl_X6_376_6 (c_X6_body hF ht) dX6_tellsAct_39 rfl rfl (hF.1 49 _ rfl) ⟨by decide, by decide⟩ (Nat.le_of_ble_eq_true rfl) (Nat.le_refl _) (Nat.le_refl _) (z_cV ?_) z_tV
    refine z_meq (z_tr h (a_pu t ([40]))) rfl ?_
    refine z_aload_n dX6_tellsAct_42 rfl rfl ?_
    refine z_iload_n dX6_tellsAct_43 rfl rfl ?_
    refine z_iload_n dX6_tellsAct_44 rfl rfl ?_
    refine z_vcall vl_X6_394_6 (c_X6_liftTells hF hl (a_pu_n _ _ _ ht (by simp only [List.length_append, List.length_cons, List.length_nil]; omega)) (by simp only [List.length_append, List.length_cons, List.length_nil]; omega)) dX6_tellsAct_45 rfl rfl (hF.1 49 _ rfl) ⟨by decide, by decide⟩ (Nat.le_of_ble_eq_true rfl) (Nat.le_refl _) (Nat.le_refl _) (z_cI ?_) z_tI
    refine z_meq (z_tr h (a_pu t ([40] ++ a_bLS (z_I h 50 (z_c i))))) (congrArg (z_tr h) (a_pu_2 _ _ _)) ?_
    refine z_eqi (a_vLS (z_I h 50 (z_c i)) (z_I h 51 (z_c i)) i x) rfl ?_
    refine z_istore_n dX6_tellsAct_48 rfl (by decide) rfl ?_
    refine z_iload_n dX6_tellsAct_49 rfl rfl ?_
    refine z_aload_n dX6_tellsAct_50 rfl rfl ?_
    refine z_iload_n dX6_tellsAct_51 rfl rfl ?_
    refine z_iconst (v := 1) dX6_tellsAct_52 rfl ?_
    refine z_vcall vl_X6_391_6 (c_X6_climbsAct hF hl (a_pu_n _ _ _ ht (by simp only [List.length_append, List.length_cons, List.length_nil]; have := a_bLS_len (z_I h 50 (z_c i)); omega)) (by have := a_bLS_len (z_I h 50 (z_c i)); simp only [List.length_append, List.length_cons, List.length_nil]; omega)) dX6_tellsAct_53 rfl rfl (hF.1 49 _ rfl) ⟨by decide, by decide⟩ (Nat.le_of_ble_eq_true rfl) (Nat.le_refl _) (Nat.le_refl _) (z_cI ?_) z_tI
    refine z_meq (z_tr h (a_pu t ([40] ++ a_bLS (z_I h 50 (z_c i)) ++ a_bC (z_I h 50 (z_c i))))) (congrArg (z_tr h) (a_pu_2 _ _ _)) ?_
    refine z_eqi (a_vC (z_I h 50 (z_c i)) (z_I h 51 (z_c i)) i 1) rfl ?_
    refine z_iadd dX6_tellsAct_56 ?_
    refine z_iret dX6_tellsAct_57 rfl rfl (Nat.le_refl _) (Nat.le_refl _) (z_ri_i ?_ ?_)
    · unfold a_vS; rw [if_pos (show (z_I h 50 (z_c i)) = 3 from e6_0)]
    · unfold a_bS; rw [if_pos (show (z_I h 50 (z_c i)) = 3 from e6_0)]
  by_cases e6_1 : (z_I h 50 (z_c i)) = 4
  · refine z_tableIn 4 73 dX6_tellsAct_6 e6_1 (by decide) (by decide) rfl (by decide) ?_
    refine z_aload_n dX6_tellsAct_73 rfl rfl ?_
    refine z_iload_n dX6_tellsAct_74 rfl rfl ?_
    refine z_iload_n dX6_tellsAct_75 rfl rfl ?_
    refine z_vcall vl_X6_394_6 (c_X6_liftTells hF hl ht (by omega)) dX6_tellsAct_76 rfl rfl (hF.1 49 _ rfl) ⟨by decide, by decide⟩ (Nat.le_of_ble_eq_true rfl) (Nat.le_refl _) (Nat.le_refl _) (z_cI ?_) z_tI
    refine z_meq (z_tr h (a_pu t (a_bLS (z_I h 50 (z_c i))))) rfl ?_
    refine z_eqi (a_vLS (z_I h 50 (z_c i)) (z_I h 51 (z_c i)) i x) rfl ?_
    refine z_iret dX6_tellsAct_79 rfl rfl (Nat.le_refl _) (Nat.le_refl _) (z_ri_i ?_ ?_)
    · unfold a_vS; rw [if_neg (show ¬ ((z_I h 50 (z_c i)) = 3) from e6_0), if_pos (show (z_I h 50 (z_c i)) = 4 from e6_1)]
    · unfold a_bS; rw [if_neg (show ¬ ((z_I h 50 (z_c i)) = 3) from e6_0), if_pos (show (z_I h 50 (z_c i)) = 4 from e6_1)]
  by_cases e6_2 : (z_I h 50 (z_c i)) = 5
  · refine z_tableIn 5 58 dX6_tellsAct_6 e6_2 (by decide) (by decide) rfl (by decide) ?_
    refine z_aload_n dX6_tellsAct_58 rfl rfl ?_
    refine z_bipush (v := 60) dX6_tellsAct_59 rfl ?_
    refine z_vcall vl_X6_376_6 (c_X6_body hF ht) dX6_tellsAct_61 rfl rfl (hF.1 49 _ rfl) ⟨by decide, by decide⟩ (Nat.le_of_ble_eq_true rfl) (Nat.le_refl _) (Nat.le_refl _) (z_cV ?_) z_tV
    refine z_meq (z_tr h (a_pu t ([60]))) rfl ?_
    refine z_aload_n dX6_tellsAct_64 rfl rfl ?_
    refine z_iload_n dX6_tellsAct_65 rfl rfl ?_
    refine z_iload_n dX6_tellsAct_66 rfl rfl ?_
    refine z_iload_n dX6_tellsAct_67 rfl rfl ?_
    refine z_isub dX6_tellsAct_68 ?_
    refine z_vcall vl_X6_394_6 (c_X6_liftTells hF hl (a_pu_n _ _ _ ht (by simp only [List.length_append, List.length_cons, List.length_nil]; omega)) (by simp only [List.length_append, List.length_cons, List.length_nil]; omega)) dX6_tellsAct_69 rfl rfl (hF.1 49 _ rfl) ⟨by decide, by decide⟩ (Nat.le_of_ble_eq_true rfl) (Nat.le_refl _) (Nat.le_refl _) (z_cI ?_) z_tI
    refine z_meq (z_tr h (a_pu t ([60] ++ a_bLS (z_I h 50 (z_c i))))) (congrArg (z_tr h) (a_pu_2 _ _ _)) ?_
    refine z_eqi (a_vLS (z_I h 50 (z_c i)) (z_I h 51 (z_c i)) i (x - i)) rfl ?_
    refine z_iret dX6_tellsAct_72 rfl rfl (Nat.le_refl _) (Nat.le_refl _) (z_ri_i ?_ ?_)
    · unfold a_vS; rw [if_neg (show ¬ ((z_I h 50 (z_c i)) = 3) from e6_0), if_neg (show ¬ ((z_I h 50 (z_c i)) = 4) from e6_1), if_pos (show (z_I h 50 (z_c i)) = 5 from e6_2)]
    · unfold a_bS; rw [if_neg (show ¬ ((z_I h 50 (z_c i)) = 3) from e6_0), if_neg (show ¬ ((z_I h 50 (z_c i)) = 4) from e6_1), if_pos (show (z_I h 50 (z_c i)) = 5 from e6_2)]
  by_cases e6_3 : (z_I h 50 (z_c i)) = 6
  · refine z_tableIn 6 36 dX6_tellsAct_6 e6_3 (by decide) (by decide) rfl (by decide) ?_
    refine z_aload_n dX6_tellsAct_36 rfl rfl ?_
    refine z_bipush (v := 40) dX6_tellsAct_37 rfl ?_
    refine z_vcall vl_X6_376_6 (c_X6_body hF ht) dX6_tellsAct_39 rfl rfl (hF.1 49 _ rfl) ⟨by decide, by decide⟩ (Nat.le_of_ble_eq_true rfl) (Nat.le_refl _) (Nat.le_refl _) (z_cV ?_) z_tV
    refine z_meq (z_tr h (a_pu t ([40]))) rfl ?_
    refine z_aload_n dX6_tellsAct_42 rfl rfl ?_
    refine z_iload_n dX6_tellsAct_43 rfl rfl ?_
    refine z_iload_n dX6_tellsAct_44 rfl rfl ?_
    refine z_vcall vl_X6_394_6 (c_X6_liftTells hF hl (a_pu_n _ _ _ ht (by simp only [List.length_append, List.length_cons, List.length_nil]; omega)) (by simp only [List.length_append, List.length_cons, List.length_nil]; omega)) dX6_tellsAct_45 rfl rfl (hF.1 49 _ rfl) ⟨by decide, by decide⟩ (Nat.le_of_ble_eq_true rfl) (Nat.le_refl _) (Nat.le_refl _) (z_cI ?_) z_tI
    refine z_meq (z_tr h (a_pu t ([40] ++ a_bLS (z_I h 50 (z_c i))))) (congrArg (z_tr h) (a_pu_2 _ _ _)) ?_
    refine z_eqi (a_vLS (z_I h 50 (z_c i)) (z_I h 51 (z_c i)) i x) rfl ?_
    refine z_istore_n dX6_tellsAct_48 rfl (by decide) rfl ?_
    refine z_iload_n dX6_tellsAct_49 rfl rfl ?_
    refine z_aload_n dX6_tellsAct_50 rfl rfl ?_
    refine z_iload_n dX6_tellsAct_51 rfl rfl ?_
    refine z_iconst (v := 1) dX6_tellsAct_52 rfl ?_
    refine z_vcall vl_X6_391_6 (c_X6_climbsAct hF hl (a_pu_n _ _ _ ht (by simp only [List.length_append, List.length_cons, List.length_nil]; have := a_bLS_len (z_I h 50 (z_c i)); omega)) (by have := a_bLS_len (z_I h 50 (z_c i)); simp only [List.length_append, List.length_cons, List.length_nil]; omega)) dX6_tellsAct_53 rfl rfl (hF.1 49 _ rfl) ⟨by decide, by decide⟩ (Nat.le_of_ble_eq_true rfl) (Nat.le_refl _) (Nat.le_refl _) (z_cI ?_) z_tI
    refine z_meq (z_tr h (a_pu t ([40] ++ a_bLS (z_I h 50 (z_c i)) ++ a_bC (z_I h 50 (z_c i))))) (congrArg (z_tr h) (a_pu_2 _ _ _)) ?_
    refine z_eqi (a_vC (z_I h 50 (z_c i)) (z_I h 51 (z_c i)) i 1) rfl ?_
    refine z_iadd dX6_tellsAct_56 ?_
    refine z_iret dX6_tellsAct_57 rfl rfl (Nat.le_refl _) (Nat.le_refl _) (z_ri_i ?_ ?_)
    · unfold a_vS; rw [if_neg (show ¬ ((z_I h 50 (z_c i)) = 3) from e6_0), if_neg (show ¬ ((z_I h 50 (z_c i)) = 4) from e6_1), if_neg (show ¬ ((z_I h 50 (z_c i)) = 5) from e6_2), if_pos (show (z_I h 50 (z_c i)) = 6 from e6_3)]
    · unfold a_bS; rw [if_neg (show ¬ ((z_I h 50 (z_c i)) = 3) from e6_0), if_neg (show ¬ ((z_I h 50 (z_c i)) = 4) from e6_1), if_neg (show ¬ ((z_I h 50 (z_c i)) = 5) from e6_2), if_pos (show (z_I h 50 (z_c i)) = 6 from e6_3)]
  refine z_tableD 73 dX6_tellsAct_6 (by decide) (fun i hi hn => match i, hi, hn with | 0, _, hn => (fun q => e6_0 (Int32.toInt_inj.mp (by rw [q]; rfl))) | 1, _, hn => (fun q => e6_1 (Int32.toInt_inj.mp (by rw [q]; rfl))) | 2, _, hn => (fun q => e6_2 (Int32.toInt_inj.mp (by rw [q]; rfl))) | 3, _, hn => (fun q => e6_3 (Int32.toInt_inj.mp (by rw [q]; rfl))) | n + 4, hi, _ => absurd hi (by show ¬ (n + 4 < 4); omega)) (by decide) ?_
  refine z_aload_n dX6_tellsAct_73 rfl rfl ?_
  refine z_iload_n dX6_tellsAct_74 rfl rfl ?_
  refine z_iload_n dX6_tellsAct_75 rfl rfl ?_
  refine z_vcall vl_X6_394_6 (c_X6_liftTells hF hl ht (by omega)) dX6_tellsAct_76 rfl rfl (hF.1 49 _ rfl) ⟨by decide, by decide⟩ (Nat.le_of_ble_eq_true rfl) (Nat.le_refl _) (Nat.le_refl _) (z_cI ?_) z_tI
  refine z_meq (z_tr h (a_pu t (a_bLS (z_I h 50 (z_c i))))) rfl ?_
  refine z_eqi (a_vLS (z_I h 50 (z_c i)) (z_I h 51 (z_c i)) i x) rfl ?_
  refine z_iret dX6_tellsAct_79 rfl rfl (Nat.le_refl _) (Nat.le_refl _) (z_ri_i ?_ ?_)
  · unfold a_vS; rw [if_neg (show ¬ ((z_I h 50 (z_c i)) = 3) from e6_0), if_neg (show ¬ ((z_I h 50 (z_c i)) = 4) from e6_1), if_neg (show ¬ ((z_I h 50 (z_c i)) = 5) from e6_2), if_neg (show ¬ ((z_I h 50 (z_c i)) = 6) from e6_3)]
  · unfold a_bS; rw [if_neg (show ¬ ((z_I h 50 (z_c i)) = 3) from e6_0), if_neg (show ¬ ((z_I h 50 (z_c i)) = 4) from e6_1), if_neg (show ¬ ((z_I h 50 (z_c i)) = 5) from e6_2), if_neg (show ¬ ((z_I h 50 (z_c i)) = 6) from e6_3)]
