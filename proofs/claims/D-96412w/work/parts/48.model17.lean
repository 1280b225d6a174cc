/-! THE REFERENCE: image, undo (printed by model17.py) -/
set_option maxRecDepth 20000
/-- a memory with these ints -/
def z_ci (h : z_H) (f : Nat → Nat → Int32) : z_H := (f, h.2)
/-- the first n of s are copied to d -/
def a_cp (f : Nat → Nat → Int32) (d s n : Nat) : Nat → Nat → Int32 := fun a k => if a = d ∧ k < n then f s k else f a k
theorem a_cp_0 (f : Nat → Nat → Int32) (d s : Nat) : a_cp f d s 0 = f := funext fun a => funext fun k => if_neg (fun q => absurd q.2 (Nat.not_lt_zero _))
theorem a_cp_s {f : Nat → Nat → Int32} {d s n : Nat} {v : Int32} (hv : v = f s n) : z_u (a_cp f d s n) d n v = a_cp f d s (n + 1) := by
  funext a k
  unfold z_u a_cp
  by_cases e : a = d
  · subst e
    simp only [true_and]
    by_cases e2 : k = n
    · subst e2; rw [if_pos rfl, if_pos (Nat.lt_succ_self _), hv]
    · rw [if_neg e2]
      by_cases e3 : k < n
      · rw [if_pos e3, if_pos (Nat.lt_succ_of_lt e3)]
      · rw [if_neg e3, if_neg (by omega)]
  · rw [if_neg (fun q => e q.1), if_neg (fun q => e q.1), if_neg (fun q => e q.1)]
theorem a_cp_c {f : Nat → Nat → Int32} {d s n b j : Nat} {v : Int32} (h1 : b ≠ d) (h2 : b ≠ s) : z_u (a_cp f d s n) b j v = a_cp (z_u f b j v) d s n := by
  funext a k
  show (if a = b ∧ k = j then v else if a = d ∧ k < n then f s k else f a k) = if a = d ∧ k < n then (if s = b ∧ k = j then v else f s k) else (if a = b ∧ k = j then v else f a k)
  by_cases e : a = b ∧ k = j
  · rw [if_pos e, if_neg (fun q => h1 (e.1.symm.trans q.1)), if_pos e]
  · rw [if_neg e, if_neg e]
    by_cases e2 : a = d ∧ k < n
    · rw [if_pos e2, if_pos e2, if_neg (fun q => h2 q.1.symm)]
    · rw [if_neg e2, if_neg e2]
theorem lp0_X6_image {Γ : z_W} {h : z_H} {Q : Outcome → z_H → Prop} {f : Nat → Nat → Int32} (hF : z_F h) (k : ∀ o, z_G Γ M_X6_image (z_rm 1 0 0) Q 0 0 147 [some (.ref 49), o] [] (z_ci h (a_cp (a_cp (a_cp (a_cp f 70 50 6) 71 51 6) 72 52 6) 73 53 6))) : ∀ (r i : Nat), i + r = 6 → z_G Γ M_X6_image (z_rm 1 0 0) Q 0 0 87 [some (.ref 49), some (.int (nI i))] [] (z_ci h (a_cp (a_cp (a_cp (a_cp f 70 50 i) 71 51 i) 72 52 i) 73 53 i)) := by
  intro r
  induction r with
  | zero =>
    intro i hi0
    have hi1 : i = 6 := by omega
    subst hi1
    refine z_iload_n dX6_image_87 rfl rfl ?_
    refine z_bipush (v := 6) dX6_image_88 rfl ?_
    refine z_icmp_ge 147 dX6_image_90 (by decide) (fun _ => ?_) (fun q => by first | exact absurd (show (6 : Int32) ≤ nI 6 by decide) q | exact absurd q (show (6 : Int32) ≤ nI 6 by decide))
    exact k _
  | succ r ih =>
    intro i hi0
    refine z_iload_n dX6_image_87 rfl rfl ?_
    refine z_bipush (v := 6) dX6_image_88 rfl ?_
    refine z_icmp_ge 147 dX6_image_90 (by decide) (fun q => by first | exact absurd q (show ¬ (6 : Int32) ≤ nI i from nI_ge (b := 6) (by omega) (by decide)) | exact absurd (show ¬ (6 : Int32) ≤ nI i from nI_ge (b := 6) (by omega) (by decide)) q) (fun _ => ?_)
    refine z_aload_n dX6_image_93 rfl rfl ?_
    refine z_getR 70 dX6_image_94 fl_X6_178_6 (hF.1 49 _ rfl) rfl (hF.2.1 49 55 70 rfl) ?_
    refine z_iload_n dX6_image_97 rfl rfl ?_
    refine z_aload_n dX6_image_98 rfl rfl ?_
    refine z_getR 50 dX6_image_99 fl_X6_28_6 (hF.1 49 _ rfl) rfl (hF.2.1 49 6 50 rfl) ?_
    refine z_iload_n dX6_image_102 rfl rfl ?_
    refine z_iald i dX6_image_103 (hF.1 50 _ rfl) rfl (by omega) (by decide) ?_
    refine z_eqi (f 50 i) rfl ?_
    refine z_iast i dX6_image_104 (hF.1 70 _ rfl) (by decide) rfl (by omega) (by decide) ?_
    refine z_meq (z_ci h (a_cp (a_cp (a_cp (a_cp f 70 50 (i + 1)) 71 51 i) 72 52 i) 73 53 i)) (congrArg (z_ci h) ((a_cp_c (by decide) (by decide)).trans (congrArg (fun q => a_cp q 73 53 i) ((a_cp_c (by decide) (by decide)).trans (congrArg (fun q => a_cp q 72 52 i) ((a_cp_c (by decide) (by decide)).trans (congrArg (fun q => a_cp q 71 51 i) (a_cp_s rfl)))))))) ?_
    refine z_aload_n dX6_image_105 rfl rfl ?_
    refine z_getR 71 dX6_image_106 fl_X6_181_6 (hF.1 49 _ rfl) rfl (hF.2.1 49 56 71 rfl) ?_
    refine z_iload_n dX6_image_109 rfl rfl ?_
    refine z_aload_n dX6_image_110 rfl rfl ?_
    refine z_getR 51 dX6_image_111 fl_X6_32_6 (hF.1 49 _ rfl) rfl (hF.2.1 49 7 51 rfl) ?_
    refine z_iload_n dX6_image_114 rfl rfl ?_
    refine z_iald i dX6_image_115 (hF.1 51 _ rfl) rfl (by omega) (by decide) ?_
    refine z_eqi (f 51 i) rfl ?_
    refine z_iast i dX6_image_116 (hF.1 71 _ rfl) (by decide) rfl (by omega) (by decide) ?_
    refine z_meq (z_ci h (a_cp (a_cp (a_cp (a_cp f 70 50 (i + 1)) 71 51 (i + 1)) 72 52 i) 73 53 i)) (congrArg (z_ci h) ((a_cp_c (by decide) (by decide)).trans (congrArg (fun q => a_cp q 73 53 i) ((a_cp_c (by decide) (by decide)).trans (congrArg (fun q => a_cp q 72 52 i) (a_cp_s rfl)))))) ?_
    refine z_aload_n dX6_image_117 rfl rfl ?_
    refine z_getR 72 dX6_image_118 fl_X6_184_6 (hF.1 49 _ rfl) rfl (hF.2.1 49 57 72 rfl) ?_
    refine z_iload_n dX6_image_121 rfl rfl ?_
    refine z_aload_n dX6_image_122 rfl rfl ?_
    refine z_getR 52 dX6_image_123 fl_X6_35_6 (hF.1 49 _ rfl) rfl (hF.2.1 49 8 52 rfl) ?_
    refine z_iload_n dX6_image_126 rfl rfl ?_
    refine z_iald i dX6_image_127 (hF.1 52 _ rfl) rfl (by omega) (by decide) ?_
    refine z_eqi (f 52 i) rfl ?_
    refine z_iast i dX6_image_128 (hF.1 72 _ rfl) (by decide) rfl (by omega) (by decide) ?_
    refine z_meq (z_ci h (a_cp (a_cp (a_cp (a_cp f 70 50 (i + 1)) 71 51 (i + 1)) 72 52 (i + 1)) 73 53 i)) (congrArg (z_ci h) ((a_cp_c (by decide) (by decide)).trans (congrArg (fun q => a_cp q 73 53 i) (a_cp_s rfl)))) ?_
    refine z_aload_n dX6_image_129 rfl rfl ?_
    refine z_getR 73 dX6_image_130 fl_X6_187_6 (hF.1 49 _ rfl) rfl (hF.2.1 49 58 73 rfl) ?_
    refine z_iload_n dX6_image_133 rfl rfl ?_
    refine z_aload_n dX6_image_134 rfl rfl ?_
    refine z_getR 53 dX6_image_135 fl_X6_38_6 (hF.1 49 _ rfl) rfl (hF.2.1 49 9 53 rfl) ?_
    refine z_iload_n dX6_image_138 rfl rfl ?_
    refine z_iald i dX6_image_139 (hF.1 53 _ rfl) rfl (by omega) (by decide) ?_
    refine z_eqi (f 53 i) rfl ?_
    refine z_iast i dX6_image_140 (hF.1 73 _ rfl) (by decide) rfl (by omega) (by decide) ?_
    refine z_meq (z_ci h (a_cp (a_cp (a_cp (a_cp f 70 50 (i + 1)) 71 51 (i + 1)) 72 52 (i + 1)) 73 53 (i + 1))) (congrArg (z_ci h) (a_cp_s rfl)) ?_
    refine z_iinc (v := nI (i + 1)) dX6_image_141 rfl (nI_succ _).symm (by decide) rfl ?_
    refine z_goto 87 dX6_image_144 (by decide) ?_
    exact ih (i + 1) (by omega)
theorem lp1_X6_image {Γ : z_W} {h : z_H} {Q : Outcome → z_H → Prop} {f : Nat → Nat → Int32} (hF : z_F h) (k : ∀ o, z_G Γ M_X6_image (z_rm 1 0 0) Q 0 0 173 [some (.ref 49), o] [] (z_ci h (a_cp f 74 54 24))) : ∀ (r i : Nat), i + r = 24 → z_G Γ M_X6_image (z_rm 1 0 0) Q 0 0 149 [some (.ref 49), some (.int (nI i))] [] (z_ci h (a_cp f 74 54 i)) := by
  intro r
  induction r with
  | zero =>
    intro i hi0
    have hi1 : i = 24 := by omega
    subst hi1
    refine z_iload_n dX6_image_149 rfl rfl ?_
    refine z_bipush (v := 24) dX6_image_150 rfl ?_
    refine z_icmp_ge 173 dX6_image_152 (by decide) (fun _ => ?_) (fun q => by first | exact absurd (show (24 : Int32) ≤ nI 24 by decide) q | exact absurd q (show (24 : Int32) ≤ nI 24 by decide))
    exact k _
  | succ r ih =>
    intro i hi0
    refine z_iload_n dX6_image_149 rfl rfl ?_
    refine z_bipush (v := 24) dX6_image_150 rfl ?_
    refine z_icmp_ge 173 dX6_image_152 (by decide) (fun q => by first | exact absurd q (show ¬ (24 : Int32) ≤ nI i from nI_ge (b := 24) (by omega) (by decide)) | exact absurd (show ¬ (24 : Int32) ≤ nI i from nI_ge (b := 24) (by omega) (by decide)) q) (fun _ => ?_)
    refine z_aload_n dX6_image_155 rfl rfl ?_
    refine z_getR 74 dX6_image_156 fl_X6_190_6 (hF.1 49 _ rfl) rfl (hF.2.1 49 59 74 rfl) ?_
    refine z_iload_n dX6_image_159 rfl rfl ?_
    refine z_aload_n dX6_image_160 rfl rfl ?_
    refine z_getR 54 dX6_image_161 fl_X6_41_6 (hF.1 49 _ rfl) rfl (hF.2.1 49 10 54 rfl) ?_
    refine z_iload_n dX6_image_164 rfl rfl ?_
    refine z_iald i dX6_image_165 (hF.1 54 _ rfl) rfl (by omega) (by decide) ?_
    refine z_eqi (f 54 i) rfl ?_
    refine z_iast i dX6_image_166 (hF.1 74 _ rfl) (by decide) rfl (by omega) (by decide) ?_
    refine z_meq (z_ci h (a_cp f 74 54 (i + 1))) (congrArg (z_ci h) (a_cp_s rfl)) ?_
    refine z_iinc (v := nI (i + 1)) dX6_image_167 rfl (nI_succ _).symm (by decide) rfl ?_
    refine z_goto 149 dX6_image_170 (by decide) ?_
    exact ih (i + 1) (by omega)
theorem lp2_X6_image {Γ : z_W} {h : z_H} {Q : Outcome → z_H → Prop} {f : Nat → Nat → Int32} (hF : z_F h) (k : ∀ o, z_G Γ M_X6_image (z_rm 1 0 0) Q 0 0 210 [some (.ref 49), o] [] (z_ci h (a_cp (a_cp f 75 65 4) 76 66 4))) : ∀ (r i : Nat), i + r = 4 → z_G Γ M_X6_image (z_rm 1 0 0) Q 0 0 175 [some (.ref 49), some (.int (nI i))] [] (z_ci h (a_cp (a_cp f 75 65 i) 76 66 i)) := by
  intro r
  induction r with
  | zero =>
    intro i hi0
    have hi1 : i = 4 := by omega
    subst hi1
    refine z_iload_n dX6_image_175 rfl rfl ?_
    refine z_iconst (v := 4) dX6_image_176 rfl ?_
    refine z_icmp_ge 210 dX6_image_177 (by decide) (fun _ => ?_) (fun q => by first | exact absurd (show (4 : Int32) ≤ nI 4 by decide) q | exact absurd q (show (4 : Int32) ≤ nI 4 by decide))
    exact k _
  | succ r ih =>
    intro i hi0
    refine z_iload_n dX6_image_175 rfl rfl ?_
    refine z_iconst (v := 4) dX6_image_176 rfl ?_
    refine z_icmp_ge 210 dX6_image_177 (by decide) (fun q => by first | exact absurd q (show ¬ (4 : Int32) ≤ nI i from nI_ge (b := 4) (by omega) (by decide)) | exact absurd (show ¬ (4 : Int32) ≤ nI i from nI_ge (b := 4) (by omega) (by decide)) q) (fun _ => ?_)
    refine z_aload_n dX6_image_180 rfl rfl ?_
    refine z_getR 75 dX6_image_181 fl_X6_193_6 (hF.1 49 _ rfl) rfl (hF.2.1 49 60 75 rfl) ?_
    refine z_iload_n dX6_image_184 rfl rfl ?_
    refine z_aload_n dX6_image_185 rfl rfl ?_
    refine z_getR 65 dX6_image_186 fl_X6_123_6 (hF.1 49 _ rfl) rfl (hF.2.1 49 37 65 rfl) ?_
    refine z_iload_n dX6_image_189 rfl rfl ?_
    refine z_iald i dX6_image_190 (hF.1 65 _ rfl) rfl (by omega) (by decide) ?_
    refine z_eqi (f 65 i) rfl ?_
    refine z_iast i dX6_image_191 (hF.1 75 _ rfl) (by decide) rfl (by omega) (by decide) ?_
    refine z_meq (z_ci h (a_cp (a_cp f 75 65 (i + 1)) 76 66 i)) (congrArg (z_ci h) ((a_cp_c (by decide) (by decide)).trans (congrArg (fun q => a_cp q 76 66 i) (a_cp_s rfl)))) ?_
    refine z_aload_n dX6_image_192 rfl rfl ?_
    refine z_getR 76 dX6_image_193 fl_X6_196_6 (hF.1 49 _ rfl) rfl (hF.2.1 49 61 76 rfl) ?_
    refine z_iload_n dX6_image_196 rfl rfl ?_
    refine z_aload_n dX6_image_197 rfl rfl ?_
    refine z_getR 66 dX6_image_198 fl_X6_126_6 (hF.1 49 _ rfl) rfl (hF.2.1 49 38 66 rfl) ?_
    refine z_iload_n dX6_image_201 rfl rfl ?_
    refine z_iald i dX6_image_202 (hF.1 66 _ rfl) rfl (by omega) (by decide) ?_
    refine z_eqi (f 66 i) rfl ?_
    refine z_iast i dX6_image_203 (hF.1 76 _ rfl) (by decide) rfl (by omega) (by decide) ?_
    refine z_meq (z_ci h (a_cp (a_cp f 75 65 (i + 1)) 76 66 (i + 1))) (congrArg (z_ci h) (a_cp_s rfl)) ?_
    refine z_iinc (v := nI (i + 1)) dX6_image_204 rfl (nI_succ _).symm (by decide) rfl ?_
    refine z_goto 175 dX6_image_207 (by decide) ?_
    exact ih (i + 1) (by omega)
theorem lp3_X6_image {Γ : z_W} {h : z_H} {Q : Outcome → z_H → Prop} {f : Nat → Nat → Int32} (hF : z_F h) (k : ∀ o, z_G Γ M_X6_image (z_rm 1 0 0) Q 0 0 235 [some (.ref 49), o] [] (z_ci h (a_cp f 77 67 5))) : ∀ (r i : Nat), i + r = 5 → z_G Γ M_X6_image (z_rm 1 0 0) Q 0 0 212 [some (.ref 49), some (.int (nI i))] [] (z_ci h (a_cp f 77 67 i)) := by
  intro r
  induction r with
  | zero =>
    intro i hi0
    have hi1 : i = 5 := by omega
    subst hi1
    refine z_iload_n dX6_image_212 rfl rfl ?_
    refine z_iconst (v := 5) dX6_image_213 rfl ?_
    refine z_icmp_ge 235 dX6_image_214 (by decide) (fun _ => ?_) (fun q => by first | exact absurd (show (5 : Int32) ≤ nI 5 by decide) q | exact absurd q (show (5 : Int32) ≤ nI 5 by decide))
    exact k _
  | succ r ih =>
    intro i hi0
    refine z_iload_n dX6_image_212 rfl rfl ?_
    refine z_iconst (v := 5) dX6_image_213 rfl ?_
    refine z_icmp_ge 235 dX6_image_214 (by decide) (fun q => by first | exact absurd q (show ¬ (5 : Int32) ≤ nI i from nI_ge (b := 5) (by omega) (by decide)) | exact absurd (show ¬ (5 : Int32) ≤ nI i from nI_ge (b := 5) (by omega) (by decide)) q) (fun _ => ?_)
    refine z_aload_n dX6_image_217 rfl rfl ?_
    refine z_getR 77 dX6_image_218 fl_X6_199_6 (hF.1 49 _ rfl) rfl (hF.2.1 49 62 77 rfl) ?_
    refine z_iload_n dX6_image_221 rfl rfl ?_
    refine z_aload_n dX6_image_222 rfl rfl ?_
    refine z_getR 67 dX6_image_223 fl_X6_132_6 (hF.1 49 _ rfl) rfl (hF.2.1 49 40 67 rfl) ?_
    refine z_iload_n dX6_image_226 rfl rfl ?_
    refine z_iald i dX6_image_227 (hF.1 67 _ rfl) rfl (by omega) (by decide) ?_
    refine z_eqi (f 67 i) rfl ?_
    refine z_iast i dX6_image_228 (hF.1 77 _ rfl) (by decide) rfl (by omega) (by decide) ?_
    refine z_meq (z_ci h (a_cp f 77 67 (i + 1))) (congrArg (z_ci h) (a_cp_s rfl)) ?_
    refine z_iinc (v := nI (i + 1)) dX6_image_229 rfl (nI_succ _).symm (by decide) rfl ?_
    refine z_goto 212 dX6_image_232 (by decide) ?_
    exact ih (i + 1) (by omega)
theorem lp4_X6_image {Γ : z_W} {h : z_H} {Q : Outcome → z_H → Prop} {f : Nat → Nat → Int32} (hF : z_F h) (k : ∀ o, z_G Γ M_X6_image (z_rm 1 0 0) Q 0 0 273 [some (.ref 49), o] [] (z_ci h (a_cp (a_cp f 78 68 8) 79 69 8))) : ∀ (r i : Nat), i + r = 8 → z_G Γ M_X6_image (z_rm 1 0 0) Q 0 0 237 [some (.ref 49), some (.int (nI i))] [] (z_ci h (a_cp (a_cp f 78 68 i) 79 69 i)) := by
  intro r
  induction r with
  | zero =>
    intro i hi0
    have hi1 : i = 8 := by omega
    subst hi1
    refine z_iload_n dX6_image_237 rfl rfl ?_
    refine z_bipush (v := 8) dX6_image_238 rfl ?_
    refine z_icmp_ge 273 dX6_image_240 (by decide) (fun _ => ?_) (fun q => by first | exact absurd (show (8 : Int32) ≤ nI 8 by decide) q | exact absurd q (show (8 : Int32) ≤ nI 8 by decide))
    exact k _
  | succ r ih =>
    intro i hi0
    refine z_iload_n dX6_image_237 rfl rfl ?_
    refine z_bipush (v := 8) dX6_image_238 rfl ?_
    refine z_icmp_ge 273 dX6_image_240 (by decide) (fun q => by first | exact absurd q (show ¬ (8 : Int32) ≤ nI i from nI_ge (b := 8) (by omega) (by decide)) | exact absurd (show ¬ (8 : Int32) ≤ nI i from nI_ge (b := 8) (by omega) (by decide)) q) (fun _ => ?_)
    refine z_aload_n dX6_image_243 rfl rfl ?_
    refine z_getR 78 dX6_image_244 fl_X6_202_6 (hF.1 49 _ rfl) rfl (hF.2.1 49 63 78 rfl) ?_
    refine z_iload_n dX6_image_247 rfl rfl ?_
    refine z_aload_n dX6_image_248 rfl rfl ?_
    refine z_getR 68 dX6_image_249 fl_X6_138_6 (hF.1 49 _ rfl) rfl (hF.2.1 49 42 68 rfl) ?_
    refine z_iload_n dX6_image_252 rfl rfl ?_
    refine z_iald i dX6_image_253 (hF.1 68 _ rfl) rfl (by omega) (by decide) ?_
    refine z_eqi (f 68 i) rfl ?_
    refine z_iast i dX6_image_254 (hF.1 78 _ rfl) (by decide) rfl (by omega) (by decide) ?_
    refine z_meq (z_ci h (a_cp (a_cp f 78 68 (i + 1)) 79 69 i)) (congrArg (z_ci h) ((a_cp_c (by decide) (by decide)).trans (congrArg (fun q => a_cp q 79 69 i) (a_cp_s rfl)))) ?_
    refine z_aload_n dX6_image_255 rfl rfl ?_
    refine z_getR 79 dX6_image_256 fl_X6_205_6 (hF.1 49 _ rfl) rfl (hF.2.1 49 64 79 rfl) ?_
    refine z_iload_n dX6_image_259 rfl rfl ?_
    refine z_aload_n dX6_image_260 rfl rfl ?_
    refine z_getR 69 dX6_image_261 fl_X6_141_6 (hF.1 49 _ rfl) rfl (hF.2.1 49 43 69 rfl) ?_
    refine z_iload_n dX6_image_264 rfl rfl ?_
    refine z_iald i dX6_image_265 (hF.1 69 _ rfl) rfl (by omega) (by decide) ?_
    refine z_eqi (f 69 i) rfl ?_
    refine z_iast i dX6_image_266 (hF.1 79 _ rfl) (by decide) rfl (by omega) (by decide) ?_
    refine z_meq (z_ci h (a_cp (a_cp f 78 68 (i + 1)) 79 69 (i + 1))) (congrArg (z_ci h) (a_cp_s rfl)) ?_
    refine z_iinc (v := nI (i + 1)) dX6_image_267 rfl (nI_succ _).symm (by decide) rfl ?_
    refine z_goto 237 dX6_image_270 (by decide) ?_
    exact ih (i + 1) (by omega)
def a_im0 (f : Nat → Nat → Int32) : Nat → Nat → Int32 := z_u (z_u (z_u (z_u (z_u (z_u (z_u (z_u (z_u (z_u (z_u f 49 44 1) 49 45 (f 49 12)) 49 46 (f 49 0)) 49 47 (f 49 1)) 49 48 (f 49 2)) 49 49 (f 49 3)) 49 50 (f 49 4)) 49 51 (f 49 5)) 49 52 (f 49 36)) 49 53 (f 49 39)) 49 54 (f 49 41)
def a_im (f : Nat → Nat → Int32) : Nat → Nat → Int32 := a_cp (a_cp (a_cp (a_cp (a_cp (a_cp (a_cp (a_cp (a_cp (a_cp (a_im0 f) 70 50 6) 71 51 6) 72 52 6) 73 53 6) 74 54 24) 75 65 4) 76 66 4) 77 67 5) 78 68 8) 79 69 8
theorem c_X6_image {Γ : z_W} {h : z_H} {f : Nat → Nat → Int32} (hF : z_F h) : z_C Γ M_X6_image (z_rm 1 0 0) [.ref 49] (z_ci h f) (z_ri (f 49 0) (z_ci h (a_im f))) := by
  refine z_C.of (by decide +kernel) rfl [some (.ref 49), none] (Nat.le_of_ble_eq_true rfl) rfl ?_
  refine z_aload_n dX6_image_0 rfl rfl ?_
  refine z_iconst (v := 1) dX6_image_1 rfl ?_
  refine z_putZ dX6_image_2 (pl_X6_144_6 rfl) (hF.1 49 _ rfl) (by decide) rfl ⟨rfl, rfl⟩ ?_
  refine z_aload_n dX6_image_5 rfl rfl ?_
  refine z_aload_n dX6_image_6 rfl rfl ?_
  refine z_getI dX6_image_7 fl_X6_47_6 (hF.1 49 _ rfl) rfl ?_
  refine z_eqi (f 49 12) rfl ?_
  refine z_putI dX6_image_10 (pl_X6_148_6 rfl) (hF.1 49 _ rfl) (by decide) rfl ?_
  refine z_aload_n dX6_image_13 rfl rfl ?_
  refine z_aload_n dX6_image_14 rfl rfl ?_
  refine z_getI dX6_image_15 fl_X6_7_6 (hF.1 49 _ rfl) rfl ?_
  refine z_eqi (f 49 0) rfl ?_
  refine z_putI dX6_image_18 (pl_X6_151_6 rfl) (hF.1 49 _ rfl) (by decide) rfl ?_
  refine z_aload_n dX6_image_21 rfl rfl ?_
  refine z_aload_n dX6_image_22 rfl rfl ?_
  refine z_getI dX6_image_23 fl_X6_13_6 (hF.1 49 _ rfl) rfl ?_
  refine z_eqi (f 49 1) rfl ?_
  refine z_putI dX6_image_26 (pl_X6_154_6 rfl) (hF.1 49 _ rfl) (by decide) rfl ?_
  refine z_aload_n dX6_image_29 rfl rfl ?_
  refine z_aload_n dX6_image_30 rfl rfl ?_
  refine z_getI dX6_image_31 fl_X6_16_6 (hF.1 49 _ rfl) rfl ?_
  refine z_eqi (f 49 2) rfl ?_
  refine z_putI dX6_image_34 (pl_X6_157_6 rfl) (hF.1 49 _ rfl) (by decide) rfl ?_
  refine z_aload_n dX6_image_37 rfl rfl ?_
  refine z_aload_n dX6_image_38 rfl rfl ?_
  refine z_getI dX6_image_39 fl_X6_19_6 (hF.1 49 _ rfl) rfl ?_
  refine z_eqi (f 49 3) rfl ?_
  refine z_putI dX6_image_42 (pl_X6_160_6 rfl) (hF.1 49 _ rfl) (by decide) rfl ?_
  refine z_aload_n dX6_image_45 rfl rfl ?_
  refine z_aload_n dX6_image_46 rfl rfl ?_
  refine z_getI dX6_image_47 fl_X6_22_6 (hF.1 49 _ rfl) rfl ?_
  refine z_eqi (f 49 4) rfl ?_
  refine z_putI dX6_image_50 (pl_X6_163_6 rfl) (hF.1 49 _ rfl) (by decide) rfl ?_
  refine z_aload_n dX6_image_53 rfl rfl ?_
  refine z_aload_n dX6_image_54 rfl rfl ?_
  refine z_getI dX6_image_55 fl_X6_25_6 (hF.1 49 _ rfl) rfl ?_
  refine z_eqi (f 49 5) rfl ?_
  refine z_putI dX6_image_58 (pl_X6_166_6 rfl) (hF.1 49 _ rfl) (by decide) rfl ?_
  refine z_aload_n dX6_image_61 rfl rfl ?_
  refine z_aload_n dX6_image_62 rfl rfl ?_
  refine z_getI dX6_image_63 fl_X6_120_6 (hF.1 49 _ rfl) rfl ?_
  refine z_eqi (f 49 36) rfl ?_
  refine z_putI dX6_image_66 (pl_X6_169_6 rfl) (hF.1 49 _ rfl) (by decide) rfl ?_
  refine z_aload_n dX6_image_69 rfl rfl ?_
  refine z_aload_n dX6_image_70 rfl rfl ?_
  refine z_getI dX6_image_71 fl_X6_129_6 (hF.1 49 _ rfl) rfl ?_
  refine z_eqi (f 49 39) rfl ?_
  refine z_putI dX6_image_74 (pl_X6_172_6 rfl) (hF.1 49 _ rfl) (by decide) rfl ?_
  refine z_aload_n dX6_image_77 rfl rfl ?_
  refine z_aload_n dX6_image_78 rfl rfl ?_
  refine z_getI dX6_image_79 fl_X6_135_6 (hF.1 49 _ rfl) rfl ?_
  refine z_eqi (f 49 41) rfl ?_
  refine z_putI dX6_image_82 (pl_X6_175_6 rfl) (hF.1 49 _ rfl) (by decide) rfl ?_
  refine z_iconst (v := 0) dX6_image_85 rfl ?_
  refine z_istore_n dX6_image_86 rfl (by decide) rfl ?_
  refine z_meq (z_ci h (a_im0 f)) rfl ?_
  refine z_meq (z_ci h (a_cp (a_cp (a_cp (a_cp (a_im0 f) 70 50 0) 71 51 0) 72 52 0) 73 53 0)) (by rw [a_cp_0, a_cp_0, a_cp_0, a_cp_0]) ?_
  refine lp0_X6_image (f := a_im0 f) hF (fun o0 => ?_) 6 0 (by omega)
  refine z_iconst (v := 0) dX6_image_147 rfl ?_
  refine z_istore_n dX6_image_148 rfl (by decide) rfl ?_
  refine z_meq (z_ci h (a_cp (a_cp (a_cp (a_cp (a_cp (a_im0 f) 70 50 6) 71 51 6) 72 52 6) 73 53 6) 74 54 0)) (by rw [a_cp_0]) ?_
  refine lp1_X6_image (f := a_cp (a_cp (a_cp (a_cp (a_im0 f) 70 50 6) 71 51 6) 72 52 6) 73 53 6) hF (fun o1 => ?_) 24 0 (by omega)
  refine z_iconst (v := 0) dX6_image_173 rfl ?_
  refine z_istore_n dX6_image_174 rfl (by decide) rfl ?_
  refine z_meq (z_ci h (a_cp (a_cp (a_cp (a_cp (a_cp (a_cp (a_cp (a_im0 f) 70 50 6) 71 51 6) 72 52 6) 73 53 6) 74 54 24) 75 65 0) 76 66 0)) (by rw [a_cp_0, a_cp_0]) ?_
  refine lp2_X6_image (f := a_cp (a_cp (a_cp (a_cp (a_cp (a_im0 f) 70 50 6) 71 51 6) 72 52 6) 73 53 6) 74 54 24) hF (fun o2 => ?_) 4 0 (by omega)
  refine z_iconst (v := 0) dX6_image_210 rfl ?_
  refine z_istore_n dX6_image_211 rfl (by decide) rfl ?_
  refine z_meq (z_ci h (a_cp (a_cp (a_cp (a_cp (a_cp (a_cp (a_cp (a_cp (a_im0 f) 70 50 6) 71 51 6) 72 52 6) 73 53 6) 74 54 24) 75 65 4) 76 66 4) 77 67 0)) (by rw [a_cp_0]) ?_
  refine lp3_X6_image (f := a_cp (a_cp (a_cp (a_cp (a_cp (a_cp (a_cp (a_im0 f) 70 50 6) 71 51 6) 72 52 6) 73 53 6) 74 54 24) 75 65 4) 76 66 4) hF (fun o3 => ?_) 5 0 (by omega)
  refine z_iconst (v := 0) dX6_image_235 rfl ?_
  refine z_istore_n dX6_image_236 rfl (by decide) rfl ?_
  refine z_meq (z_ci h (a_cp (a_cp (a_cp (a_cp (a_cp (a_cp (a_cp (a_cp (a_cp (a_cp (a_im0 f) 70 50 6) 71 51 6) 72 52 6) 73 53 6) 74 54 24) 75 65 4) 76 66 4) 77 67 5) 78 68 0) 79 69 0)) (by rw [a_cp_0, a_cp_0]) ?_
  refine lp4_X6_image (f := a_cp (a_cp (a_cp (a_cp (a_cp (a_cp (a_cp (a_cp (a_im0 f) 70 50 6) 71 51 6) 72 52 6) 73 53 6) 74 54 24) 75 65 4) 76 66 4) 77 67 5) hF (fun o4 => ?_) 8 0 (by omega)
  refine z_aload_n dX6_image_273 rfl rfl ?_
  refine z_getI dX6_image_274 fl_X6_7_6 (hF.1 49 _ rfl) rfl ?_
  refine z_eqi (f 49 0) rfl ?_
  refine z_iret dX6_image_277 rfl rfl (Nat.le_refl _) (Nat.le_refl _) (z_ri_i ?_ ?_)
  · rfl
  · rfl
theorem lp0_X6_undo {Γ : z_W} {h : z_H} {Q : Outcome → z_H → Prop} {f : Nat → Nat → Int32} (hF : z_F h) (k : ∀ o, z_G Γ M_X6_undo (z_rm 1 0 0) Q 0 0 152 [some (.ref 49), o] [] (z_ci h (a_cp (a_cp (a_cp (a_cp f 50 70 6) 51 71 6) 52 72 6) 53 73 6))) : ∀ (r i : Nat), i + r = 6 → z_G Γ M_X6_undo (z_rm 1 0 0) Q 0 0 92 [some (.ref 49), some (.int (nI i))] [] (z_ci h (a_cp (a_cp (a_cp (a_cp f 50 70 i) 51 71 i) 52 72 i) 53 73 i)) := by
  intro r
  induction r with
  | zero =>
    intro i hi0
    have hi1 : i = 6 := by omega
    subst hi1
    refine z_iload_n dX6_undo_92 rfl rfl ?_
    refine z_bipush (v := 6) dX6_undo_93 rfl ?_
    refine z_icmp_ge 152 dX6_undo_95 (by decide) (fun _ => ?_) (fun q => by first | exact absurd (show (6 : Int32) ≤ nI 6 by decide) q | exact absurd q (show (6 : Int32) ≤ nI 6 by decide))
    exact k _
  | succ r ih =>
    intro i hi0
    refine z_iload_n dX6_undo_92 rfl rfl ?_
    refine z_bipush (v := 6) dX6_undo_93 rfl ?_
    refine z_icmp_ge 152 dX6_undo_95 (by decide) (fun q => by first | exact absurd q (show ¬ (6 : Int32) ≤ nI i from nI_ge (b := 6) (by omega) (by decide)) | exact absurd (show ¬ (6 : Int32) ≤ nI i from nI_ge (b := 6) (by omega) (by decide)) q) (fun _ => ?_)
    refine z_aload_n dX6_undo_98 rfl rfl ?_
    refine z_getR 50 dX6_undo_99 fl_X6_28_6 (hF.1 49 _ rfl) rfl (hF.2.1 49 6 50 rfl) ?_
    refine z_iload_n dX6_undo_102 rfl rfl ?_
    refine z_aload_n dX6_undo_103 rfl rfl ?_
    refine z_getR 70 dX6_undo_104 fl_X6_178_6 (hF.1 49 _ rfl) rfl (hF.2.1 49 55 70 rfl) ?_
    refine z_iload_n dX6_undo_107 rfl rfl ?_
    refine z_iald i dX6_undo_108 (hF.1 70 _ rfl) rfl (by omega) (by decide) ?_
    refine z_eqi (f 70 i) rfl ?_
    refine z_iast i dX6_undo_109 (hF.1 50 _ rfl) (by decide) rfl (by omega) (by decide) ?_
    refine z_meq (z_ci h (a_cp (a_cp (a_cp (a_cp f 50 70 (i + 1)) 51 71 i) 52 72 i) 53 73 i)) (congrArg (z_ci h) ((a_cp_c (by decide) (by decide)).trans (congrArg (fun q => a_cp q 53 73 i) ((a_cp_c (by decide) (by decide)).trans (congrArg (fun q => a_cp q 52 72 i) ((a_cp_c (by decide) (by decide)).trans (congrArg (fun q => a_cp q 51 71 i) (a_cp_s rfl)))))))) ?_
    refine z_aload_n dX6_undo_110 rfl rfl ?_
    refine z_getR 51 dX6_undo_111 fl_X6_32_6 (hF.1 49 _ rfl) rfl (hF.2.1 49 7 51 rfl) ?_
    refine z_iload_n dX6_undo_114 rfl rfl ?_
    refine z_aload_n dX6_undo_115 rfl rfl ?_
    refine z_getR 71 dX6_undo_116 fl_X6_181_6 (hF.1 49 _ rfl) rfl (hF.2.1 49 56 71 rfl) ?_
    refine z_iload_n dX6_undo_119 rfl rfl ?_
    refine z_iald i dX6_undo_120 (hF.1 71 _ rfl) rfl (by omega) (by decide) ?_
    refine z_eqi (f 71 i) rfl ?_
    refine z_iast i dX6_undo_121 (hF.1 51 _ rfl) (by decide) rfl (by omega) (by decide) ?_
    refine z_meq (z_ci h (a_cp (a_cp (a_cp (a_cp f 50 70 (i + 1)) 51 71 (i + 1)) 52 72 i) 53 73 i)) (congrArg (z_ci h) ((a_cp_c (by decide) (by decide)).trans (congrArg (fun q => a_cp q 53 73 i) ((a_cp_c (by decide) (by decide)).trans (congrArg (fun q => a_cp q 52 72 i) (a_cp_s rfl)))))) ?_
    refine z_aload_n dX6_undo_122 rfl rfl ?_
    refine z_getR 52 dX6_undo_123 fl_X6_35_6 (hF.1 49 _ rfl) rfl (hF.2.1 49 8 52 rfl) ?_
    refine z_iload_n dX6_undo_126 rfl rfl ?_
    refine z_aload_n dX6_undo_127 rfl rfl ?_
    refine z_getR 72 dX6_undo_128 fl_X6_184_6 (hF.1 49 _ rfl) rfl (hF.2.1 49 57 72 rfl) ?_
    refine z_iload_n dX6_undo_131 rfl rfl ?_
    refine z_iald i dX6_undo_132 (hF.1 72 _ rfl) rfl (by omega) (by decide) ?_
    refine z_eqi (f 72 i) rfl ?_
    refine z_iast i dX6_undo_133 (hF.1 52 _ rfl) (by decide) rfl (by omega) (by decide) ?_
    refine z_meq (z_ci h (a_cp (a_cp (a_cp (a_cp f 50 70 (i + 1)) 51 71 (i + 1)) 52 72 (i + 1)) 53 73 i)) (congrArg (z_ci h) ((a_cp_c (by decide) (by decide)).trans (congrArg (fun q => a_cp q 53 73 i) (a_cp_s rfl)))) ?_
    refine z_aload_n dX6_undo_134 rfl rfl ?_
    refine z_getR 53 dX6_undo_135 fl_X6_38_6 (hF.1 49 _ rfl) rfl (hF.2.1 49 9 53 rfl) ?_
    refine z_iload_n dX6_undo_138 rfl rfl ?_
    refine z_aload_n dX6_undo_139 rfl rfl ?_
    refine z_getR 73 dX6_undo_140 fl_X6_187_6 (hF.1 49 _ rfl) rfl (hF.2.1 49 58 73 rfl) ?_
    refine z_iload_n dX6_undo_143 rfl rfl ?_
    refine z_iald i dX6_undo_144 (hF.1 73 _ rfl) rfl (by omega) (by decide) ?_
    refine z_eqi (f 73 i) rfl ?_
    refine z_iast i dX6_undo_145 (hF.1 53 _ rfl) (by decide) rfl (by omega) (by decide) ?_
    refine z_meq (z_ci h (a_cp (a_cp (a_cp (a_cp f 50 70 (i + 1)) 51 71 (i + 1)) 52 72 (i + 1)) 53 73 (i + 1))) (congrArg (z_ci h) (a_cp_s rfl)) ?_
    refine z_iinc (v := nI (i + 1)) dX6_undo_146 rfl (nI_succ _).symm (by decide) rfl ?_
    refine z_goto 92 dX6_undo_149 (by decide) ?_
    exact ih (i + 1) (by omega)
theorem lp1_X6_undo {Γ : z_W} {h : z_H} {Q : Outcome → z_H → Prop} {f : Nat → Nat → Int32} (hF : z_F h) (k : ∀ o, z_G Γ M_X6_undo (z_rm 1 0 0) Q 0 0 178 [some (.ref 49), o] [] (z_ci h (a_cp f 54 74 24))) : ∀ (r i : Nat), i + r = 24 → z_G Γ M_X6_undo (z_rm 1 0 0) Q 0 0 154 [some (.ref 49), some (.int (nI i))] [] (z_ci h (a_cp f 54 74 i)) := by
  intro r
  induction r with
  | zero =>
    intro i hi0
    have hi1 : i = 24 := by omega
    subst hi1
    refine z_iload_n dX6_undo_154 rfl rfl ?_
    refine z_bipush (v := 24) dX6_undo_155 rfl ?_
    refine z_icmp_ge 178 dX6_undo_157 (by decide) (fun _ => ?_) (fun q => by first | exact absurd (show (24 : Int32) ≤ nI 24 by decide) q | exact absurd q (show (24 : Int32) ≤ nI 24 by decide))
    exact k _
  | succ r ih =>
    intro i hi0
    refine z_iload_n dX6_undo_154 rfl rfl ?_
    refine z_bipush (v := 24) dX6_undo_155 rfl ?_
    refine z_icmp_ge 178 dX6_undo_157 (by decide) (fun q => by first | exact absurd q (show ¬ (24 : Int32) ≤ nI i from nI_ge (b := 24) (by omega) (by decide)) | exact absurd (show ¬ (24 : Int32) ≤ nI i from nI_ge (b := 24) (by omega) (by decide)) q) (fun _ => ?_)
    refine z_aload_n dX6_undo_160 rfl rfl ?_
    refine z_getR 54 dX6_undo_161 fl_X6_41_6 (hF.1 49 _ rfl) rfl (hF.2.1 49 10 54 rfl) ?_
    refine z_iload_n dX6_undo_164 rfl rfl ?_
    refine z_aload_n dX6_undo_165 rfl rfl ?_
    refine z_getR 74 dX6_undo_166 fl_X6_190_6 (hF.1 49 _ rfl) rfl (hF.2.1 49 59 74 rfl) ?_
    refine z_iload_n dX6_undo_169 rfl rfl ?_
    refine z_iald i dX6_undo_170 (hF.1 74 _ rfl) rfl (by omega) (by decide) ?_
    refine z_eqi (f 74 i) rfl ?_
    refine z_iast i dX6_undo_171 (hF.1 54 _ rfl) (by decide) rfl (by omega) (by decide) ?_
    refine z_meq (z_ci h (a_cp f 54 74 (i + 1))) (congrArg (z_ci h) (a_cp_s rfl)) ?_
    refine z_iinc (v := nI (i + 1)) dX6_undo_172 rfl (nI_succ _).symm (by decide) rfl ?_
    refine z_goto 154 dX6_undo_175 (by decide) ?_
    exact ih (i + 1) (by omega)
theorem lp2_X6_undo {Γ : z_W} {h : z_H} {Q : Outcome → z_H → Prop} {f : Nat → Nat → Int32} (hF : z_F h) (k : ∀ o, z_G Γ M_X6_undo (z_rm 1 0 0) Q 0 0 215 [some (.ref 49), o] [] (z_ci h (a_cp (a_cp f 65 75 4) 66 76 4))) : ∀ (r i : Nat), i + r = 4 → z_G Γ M_X6_undo (z_rm 1 0 0) Q 0 0 180 [some (.ref 49), some (.int (nI i))] [] (z_ci h (a_cp (a_cp f 65 75 i) 66 76 i)) := by
  intro r
  induction r with
  | zero =>
    intro i hi0
    have hi1 : i = 4 := by omega
    subst hi1
    refine z_iload_n dX6_undo_180 rfl rfl ?_
    refine z_iconst (v := 4) dX6_undo_181 rfl ?_
    refine z_icmp_ge 215 dX6_undo_182 (by decide) (fun _ => ?_) (fun q => by first | exact absurd (show (4 : Int32) ≤ nI 4 by decide) q | exact absurd q (show (4 : Int32) ≤ nI 4 by decide))
    exact k _
  | succ r ih =>
    intro i hi0
    refine z_iload_n dX6_undo_180 rfl rfl ?_
    refine z_iconst (v := 4) dX6_undo_181 rfl ?_
    refine z_icmp_ge 215 dX6_undo_182 (by decide) (fun q => by first | exact absurd q (show ¬ (4 : Int32) ≤ nI i from nI_ge (b := 4) (by omega) (by decide)) | exact absurd (show ¬ (4 : Int32) ≤ nI i from nI_ge (b := 4) (by omega) (by decide)) q) (fun _ => ?_)
    refine z_aload_n dX6_undo_185 rfl rfl ?_
    refine z_getR 65 dX6_undo_186 fl_X6_123_6 (hF.1 49 _ rfl) rfl (hF.2.1 49 37 65 rfl) ?_
    refine z_iload_n dX6_undo_189 rfl rfl ?_
    refine z_aload_n dX6_undo_190 rfl rfl ?_
    refine z_getR 75 dX6_undo_191 fl_X6_193_6 (hF.1 49 _ rfl) rfl (hF.2.1 49 60 75 rfl) ?_
    refine z_iload_n dX6_undo_194 rfl rfl ?_
    refine z_iald i dX6_undo_195 (hF.1 75 _ rfl) rfl (by omega) (by decide) ?_
    refine z_eqi (f 75 i) rfl ?_
    refine z_iast i dX6_undo_196 (hF.1 65 _ rfl) (by decide) rfl (by omega) (by decide) ?_
    refine z_meq (z_ci h (a_cp (a_cp f 65 75 (i + 1)) 66 76 i)) (congrArg (z_ci h) ((a_cp_c (by decide) (by decide)).trans (congrArg (fun q => a_cp q 66 76 i) (a_cp_s rfl)))) ?_
    refine z_aload_n dX6_undo_197 rfl rfl ?_
    refine z_getR 66 dX6_undo_198 fl_X6_126_6 (hF.1 49 _ rfl) rfl (hF.2.1 49 38 66 rfl) ?_
    refine z_iload_n dX6_undo_201 rfl rfl ?_
    refine z_aload_n dX6_undo_202 rfl rfl ?_
    refine z_getR 76 dX6_undo_203 fl_X6_196_6 (hF.1 49 _ rfl) rfl (hF.2.1 49 61 76 rfl) ?_
    refine z_iload_n dX6_undo_206 rfl rfl ?_
    refine z_iald i dX6_undo_207 (hF.1 76 _ rfl) rfl (by omega) (by decide) ?_
    refine z_eqi (f 76 i) rfl ?_
    refine z_iast i dX6_undo_208 (hF.1 66 _ rfl) (by decide) rfl (by omega) (by decide) ?_
    refine z_meq (z_ci h (a_cp (a_cp f 65 75 (i + 1)) 66 76 (i + 1))) (congrArg (z_ci h) (a_cp_s rfl)) ?_
    refine z_iinc (v := nI (i + 1)) dX6_undo_209 rfl (nI_succ _).symm (by decide) rfl ?_
    refine z_goto 180 dX6_undo_212 (by decide) ?_
    exact ih (i + 1) (by omega)
theorem lp3_X6_undo {Γ : z_W} {h : z_H} {Q : Outcome → z_H → Prop} {f : Nat → Nat → Int32} (hF : z_F h) (k : ∀ o, z_G Γ M_X6_undo (z_rm 1 0 0) Q 0 0 240 [some (.ref 49), o] [] (z_ci h (a_cp f 67 77 5))) : ∀ (r i : Nat), i + r = 5 → z_G Γ M_X6_undo (z_rm 1 0 0) Q 0 0 217 [some (.ref 49), some (.int (nI i))] [] (z_ci h (a_cp f 67 77 i)) := by
  intro r
  induction r with
  | zero =>
    intro i hi0
    have hi1 : i = 5 := by omega
    subst hi1
    refine z_iload_n dX6_undo_217 rfl rfl ?_
    refine z_iconst (v := 5) dX6_undo_218 rfl ?_
    refine z_icmp_ge 240 dX6_undo_219 (by decide) (fun _ => ?_) (fun q => by first | exact absurd (show (5 : Int32) ≤ nI 5 by decide) q | exact absurd q (show (5 : Int32) ≤ nI 5 by decide))
    exact k _
  | succ r ih =>
    intro i hi0
    refine z_iload_n dX6_undo_217 rfl rfl ?_
    refine z_iconst (v := 5) dX6_undo_218 rfl ?_
    refine z_icmp_ge 240 dX6_undo_219 (by decide) (fun q => by first | exact absurd q (show ¬ (5 : Int32) ≤ nI i from nI_ge (b := 5) (by omega) (by decide)) | exact absurd (show ¬ (5 : Int32) ≤ nI i from nI_ge (b := 5) (by omega) (by decide)) q) (fun _ => ?_)
    refine z_aload_n dX6_undo_222 rfl rfl ?_
    refine z_getR 67 dX6_undo_223 fl_X6_132_6 (hF.1 49 _ rfl) rfl (hF.2.1 49 40 67 rfl) ?_
    refine z_iload_n dX6_undo_226 rfl rfl ?_
    refine z_aload_n dX6_undo_227 rfl rfl ?_
    refine z_getR 77 dX6_undo_228 fl_X6_199_6 (hF.1 49 _ rfl) rfl (hF.2.1 49 62 77 rfl) ?_
    refine z_iload_n dX6_undo_231 rfl rfl ?_
    refine z_iald i dX6_undo_232 (hF.1 77 _ rfl) rfl (by omega) (by decide) ?_
    refine z_eqi (f 77 i) rfl ?_
    refine z_iast i dX6_undo_233 (hF.1 67 _ rfl) (by decide) rfl (by omega) (by decide) ?_
    refine z_meq (z_ci h (a_cp f 67 77 (i + 1))) (congrArg (z_ci h) (a_cp_s rfl)) ?_
    refine z_iinc (v := nI (i + 1)) dX6_undo_234 rfl (nI_succ _).symm (by decide) rfl ?_
    refine z_goto 217 dX6_undo_237 (by decide) ?_
    exact ih (i + 1) (by omega)
theorem lp4_X6_undo {Γ : z_W} {h : z_H} {Q : Outcome → z_H → Prop} {f : Nat → Nat → Int32} (hF : z_F h) (k : ∀ o, z_G Γ M_X6_undo (z_rm 1 0 0) Q 0 0 278 [some (.ref 49), o] [] (z_ci h (a_cp (a_cp f 68 78 8) 69 79 8))) : ∀ (r i : Nat), i + r = 8 → z_G Γ M_X6_undo (z_rm 1 0 0) Q 0 0 242 [some (.ref 49), some (.int (nI i))] [] (z_ci h (a_cp (a_cp f 68 78 i) 69 79 i)) := by
  intro r
  induction r with
  | zero =>
    intro i hi0
    have hi1 : i = 8 := by omega
    subst hi1
    refine z_iload_n dX6_undo_242 rfl rfl ?_
    refine z_bipush (v := 8) dX6_undo_243 rfl ?_
    refine z_icmp_ge 278 dX6_undo_245 (by decide) (fun _ => ?_) (fun q => by first | exact absurd (show (8 : Int32) ≤ nI 8 by decide) q | exact absurd q (show (8 : Int32) ≤ nI 8 by decide))
    exact k _
  | succ r ih =>
    intro i hi0
    refine z_iload_n dX6_undo_242 rfl rfl ?_
    refine z_bipush (v := 8) dX6_undo_243 rfl ?_
    refine z_icmp_ge 278 dX6_undo_245 (by decide) (fun q => by first | exact absurd q (show ¬ (8 : Int32) ≤ nI i from nI_ge (b := 8) (by omega) (by decide)) | exact absurd (show ¬ (8 : Int32) ≤ nI i from nI_ge (b := 8) (by omega) (by decide)) q) (fun _ => ?_)
    refine z_aload_n dX6_undo_248 rfl rfl ?_
    refine z_getR 68 dX6_undo_249 fl_X6_138_6 (hF.1 49 _ rfl) rfl (hF.2.1 49 42 68 rfl) ?_
    refine z_iload_n dX6_undo_252 rfl rfl ?_
    refine z_aload_n dX6_undo_253 rfl rfl ?_
    refine z_getR 78 dX6_undo_254 fl_X6_202_6 (hF.1 49 _ rfl) rfl (hF.2.1 49 63 78 rfl) ?_
    refine z_iload_n dX6_undo_257 rfl rfl ?_
    refine z_iald i dX6_undo_258 (hF.1 78 _ rfl) rfl (by omega) (by decide) ?_
    refine z_eqi (f 78 i) rfl ?_
    refine z_iast i dX6_undo_259 (hF.1 68 _ rfl) (by decide) rfl (by omega) (by decide) ?_
    refine z_meq (z_ci h (a_cp (a_cp f 68 78 (i + 1)) 69 79 i)) (congrArg (z_ci h) ((a_cp_c (by decide) (by decide)).trans (congrArg (fun q => a_cp q 69 79 i) (a_cp_s rfl)))) ?_
    refine z_aload_n dX6_undo_260 rfl rfl ?_
    refine z_getR 69 dX6_undo_261 fl_X6_141_6 (hF.1 49 _ rfl) rfl (hF.2.1 49 43 69 rfl) ?_
    refine z_iload_n dX6_undo_264 rfl rfl ?_
    refine z_aload_n dX6_undo_265 rfl rfl ?_
    refine z_getR 79 dX6_undo_266 fl_X6_205_6 (hF.1 49 _ rfl) rfl (hF.2.1 49 64 79 rfl) ?_
    refine z_iload_n dX6_undo_269 rfl rfl ?_
    refine z_iald i dX6_undo_270 (hF.1 79 _ rfl) rfl (by omega) (by decide) ?_
    refine z_eqi (f 79 i) rfl ?_
    refine z_iast i dX6_undo_271 (hF.1 69 _ rfl) (by decide) rfl (by omega) (by decide) ?_
    refine z_meq (z_ci h (a_cp (a_cp f 68 78 (i + 1)) 69 79 (i + 1))) (congrArg (z_ci h) (a_cp_s rfl)) ?_
    refine z_iinc (v := nI (i + 1)) dX6_undo_272 rfl (nI_succ _).symm (by decide) rfl ?_
    refine z_goto 242 dX6_undo_275 (by decide) ?_
    exact ih (i + 1) (by omega)
def a_un0 (f : Nat → Nat → Int32) : Nat → Nat → Int32 := z_u (z_u (z_u (z_u (z_u (z_u (z_u (z_u (z_u (z_u (f) 49 12 (f 49 45)) 49 0 (f 49 46)) 49 1 (f 49 47)) 49 2 (f 49 48)) 49 3 (f 49 49)) 49 4 (f 49 50)) 49 5 (f 49 51)) 49 36 (f 49 52)) 49 39 (f 49 53)) 49 41 (f 49 54)
def a_un (f : Nat → Nat → Int32) : Nat → Nat → Int32 := a_cp (a_cp (a_cp (a_cp (a_cp (a_cp (a_cp (a_cp (a_cp (a_cp (a_un0 f) 50 70 6) 51 71 6) 52 72 6) 53 73 6) 54 74 24) 65 75 4) 66 76 4) 67 77 5) 68 78 8) 69 79 8
theorem c_X6_undo {Γ : z_W} {h : z_H} {f : Nat → Nat → Int32} (hF : z_F h) : z_C Γ M_X6_undo (z_rm 1 0 0) [.ref 49] (z_ci h f) (z_ri (if f 49 44 = 0 then -3 else f 49 46) (z_ci h (if f 49 44 = 0 then f else a_un f))) := by
  refine z_C.of (by decide +kernel) rfl [some (.ref 49), none] (Nat.le_of_ble_eq_true rfl) rfl ?_
  refine z_aload_n dX6_undo_0 rfl rfl ?_
  refine z_getI dX6_undo_1 fl_X6_144_6 (hF.1 49 _ rfl) rfl ?_
  refine z_eqi (f 49 44) rfl ?_
  refine z_if_ne 10 dX6_undo_4 (by decide) (fun c4 => ?_) (fun c4 => ?_)
  · rw [if_neg c4, if_neg c4]
    refine z_aload_n dX6_undo_10 rfl rfl ?_
    refine z_aload_n dX6_undo_11 rfl rfl ?_
    refine z_getI dX6_undo_12 fl_X6_148_6 (hF.1 49 _ rfl) rfl ?_
    refine z_eqi (f 49 45) rfl ?_
    refine z_putI dX6_undo_15 (pl_X6_47_6 rfl) (hF.1 49 _ rfl) (by decide) rfl ?_
    refine z_aload_n dX6_undo_18 rfl rfl ?_
    refine z_aload_n dX6_undo_19 rfl rfl ?_
    refine z_getI dX6_undo_20 fl_X6_151_6 (hF.1 49 _ rfl) rfl ?_
    refine z_eqi (f 49 46) rfl ?_
    refine z_putI dX6_undo_23 (pl_X6_7_6 rfl) (hF.1 49 _ rfl) (by decide) rfl ?_
    refine z_aload_n dX6_undo_26 rfl rfl ?_
    refine z_aload_n dX6_undo_27 rfl rfl ?_
    refine z_getI dX6_undo_28 fl_X6_154_6 (hF.1 49 _ rfl) rfl ?_
    refine z_eqi (f 49 47) rfl ?_
    refine z_putI dX6_undo_31 (pl_X6_13_6 rfl) (hF.1 49 _ rfl) (by decide) rfl ?_
    refine z_aload_n dX6_undo_34 rfl rfl ?_
    refine z_aload_n dX6_undo_35 rfl rfl ?_
    refine z_getI dX6_undo_36 fl_X6_157_6 (hF.1 49 _ rfl) rfl ?_
    refine z_eqi (f 49 48) rfl ?_
    refine z_putI dX6_undo_39 (pl_X6_16_6 rfl) (hF.1 49 _ rfl) (by decide) rfl ?_
    refine z_aload_n dX6_undo_42 rfl rfl ?_
    refine z_aload_n dX6_undo_43 rfl rfl ?_
    refine z_getI dX6_undo_44 fl_X6_160_6 (hF.1 49 _ rfl) rfl ?_
    refine z_eqi (f 49 49) rfl ?_
    refine z_putI dX6_undo_47 (pl_X6_19_6 rfl) (hF.1 49 _ rfl) (by decide) rfl ?_
    refine z_aload_n dX6_undo_50 rfl rfl ?_
    refine z_aload_n dX6_undo_51 rfl rfl ?_
    refine z_getI dX6_undo_52 fl_X6_163_6 (hF.1 49 _ rfl) rfl ?_
    refine z_eqi (f 49 50) rfl ?_
    refine z_putI dX6_undo_55 (pl_X6_22_6 rfl) (hF.1 49 _ rfl) (by decide) rfl ?_
    refine z_aload_n dX6_undo_58 rfl rfl ?_
    refine z_aload_n dX6_undo_59 rfl rfl ?_
    refine z_getI dX6_undo_60 fl_X6_166_6 (hF.1 49 _ rfl) rfl ?_
    refine z_eqi (f 49 51) rfl ?_
    refine z_putI dX6_undo_63 (pl_X6_25_6 rfl) (hF.1 49 _ rfl) (by decide) rfl ?_
    refine z_aload_n dX6_undo_66 rfl rfl ?_
    refine z_aload_n dX6_undo_67 rfl rfl ?_
    refine z_getI dX6_undo_68 fl_X6_169_6 (hF.1 49 _ rfl) rfl ?_
    refine z_eqi (f 49 52) rfl ?_
    refine z_putI dX6_undo_71 (pl_X6_120_6 rfl) (hF.1 49 _ rfl) (by decide) rfl ?_
    refine z_aload_n dX6_undo_74 rfl rfl ?_
    refine z_aload_n dX6_undo_75 rfl rfl ?_
    refine z_getI dX6_undo_76 fl_X6_172_6 (hF.1 49 _ rfl) rfl ?_
    refine z_eqi (f 49 53) rfl ?_
    refine z_putI dX6_undo_79 (pl_X6_129_6 rfl) (hF.1 49 _ rfl) (by decide) rfl ?_
    refine z_aload_n dX6_undo_82 rfl rfl ?_
    refine z_aload_n dX6_undo_83 rfl rfl ?_
    refine z_getI dX6_undo_84 fl_X6_175_6 (hF.1 49 _ rfl) rfl ?_
    refine z_eqi (f 49 54) rfl ?_
    refine z_putI dX6_undo_87 (pl_X6_135_6 rfl) (hF.1 49 _ rfl) (by decide) rfl ?_
    refine z_iconst (v := 0) dX6_undo_90 rfl ?_
    refine z_istore_n dX6_undo_91 rfl (by decide) rfl ?_
    refine z_meq (z_ci h (a_un0 f)) rfl ?_
    refine z_meq (z_ci h (a_cp (a_cp (a_cp (a_cp (a_un0 f) 50 70 0) 51 71 0) 52 72 0) 53 73 0)) (by rw [a_cp_0, a_cp_0, a_cp_0, a_cp_0]) ?_
    refine lp0_X6_undo (f := a_un0 f) hF (fun o0 => ?_) 6 0 (by omega)
    refine z_iconst (v := 0) dX6_undo_152 rfl ?_
    refine z_istore_n dX6_undo_153 rfl (by decide) rfl ?_
    refine z_meq (z_ci h (a_cp (a_cp (a_cp (a_cp (a_cp (a_un0 f) 50 70 6) 51 71 6) 52 72 6) 53 73 6) 54 74 0)) (by rw [a_cp_0]) ?_
    refine lp1_X6_undo (f := a_cp (a_cp (a_cp (a_cp (a_un0 f) 50 70 6) 51 71 6) 52 72 6) 53 73 6) hF (fun o1 => ?_) 24 0 (by omega)
    refine z_iconst (v := 0) dX6_undo_178 rfl ?_
    refine z_istore_n dX6_undo_179 rfl (by decide) rfl ?_
    refine z_meq (z_ci h (a_cp (a_cp (a_cp (a_cp (a_cp (a_cp (a_cp (a_un0 f) 50 70 6) 51 71 6) 52 72 6) 53 73 6) 54 74 24) 65 75 0) 66 76 0)) (by rw [a_cp_0, a_cp_0]) ?_
    refine lp2_X6_undo (f := a_cp (a_cp (a_cp (a_cp (a_cp (a_un0 f) 50 70 6) 51 71 6) 52 72 6) 53 73 6) 54 74 24) hF (fun o2 => ?_) 4 0 (by omega)
    refine z_iconst (v := 0) dX6_undo_215 rfl ?_
    refine z_istore_n dX6_undo_216 rfl (by decide) rfl ?_
    refine z_meq (z_ci h (a_cp (a_cp (a_cp (a_cp (a_cp (a_cp (a_cp (a_cp (a_un0 f) 50 70 6) 51 71 6) 52 72 6) 53 73 6) 54 74 24) 65 75 4) 66 76 4) 67 77 0)) (by rw [a_cp_0]) ?_
    refine lp3_X6_undo (f := a_cp (a_cp (a_cp (a_cp (a_cp (a_cp (a_cp (a_un0 f) 50 70 6) 51 71 6) 52 72 6) 53 73 6) 54 74 24) 65 75 4) 66 76 4) hF (fun o3 => ?_) 5 0 (by omega)
    refine z_iconst (v := 0) dX6_undo_240 rfl ?_
    refine z_istore_n dX6_undo_241 rfl (by decide) rfl ?_
    refine z_meq (z_ci h (a_cp (a_cp (a_cp (a_cp (a_cp (a_cp (a_cp (a_cp (a_cp (a_cp (a_un0 f) 50 70 6) 51 71 6) 52 72 6) 53 73 6) 54 74 24) 65 75 4) 66 76 4) 67 77 5) 68 78 0) 69 79 0)) (by rw [a_cp_0, a_cp_0]) ?_
    refine lp4_X6_undo (f := a_cp (a_cp (a_cp (a_cp (a_cp (a_cp (a_cp (a_cp (a_un0 f) 50 70 6) 51 71 6) 52 72 6) 53 73 6) 54 74 24) 65 75 4) 66 76 4) 67 77 5) hF (fun o4 => ?_) 8 0 (by omega)
    refine z_aload_n dX6_undo_278 rfl rfl ?_
    refine z_getI dX6_undo_279 fl_X6_7_6 (hF.1 49 _ rfl) rfl ?_
    refine z_eqi (f 49 46) rfl ?_
    refine z_iret dX6_undo_282 rfl rfl (Nat.le_refl _) (Nat.le_refl _) (z_ri_i ?_ ?_)
    · rfl
    · rfl
  · refine z_bipush (v := (-3)) dX6_undo_7 rfl ?_
    refine z_iret dX6_undo_9 rfl rfl (Nat.le_refl _) (Nat.le_refl _) (z_ri_i ?_ ?_)
    · rw [if_pos c4]
    · rw [if_pos c4]
