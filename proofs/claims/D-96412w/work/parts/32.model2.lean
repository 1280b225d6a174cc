/-! THE REFERENCE: what a clause's signs say (printed by model2.py) -/
set_option maxRecDepth 20000
/-- the fixed part but for the scratch array -/
def z_Fw (h : z_H) : Prop := (∀ a t, a ≠ 64 → z_tab[a]? = some (some t) → z_T h a = some t) ∧ (∀ a k b, (z_rt a)[k]? = some (some b) → z_R h a k = some b) ∧ 85 ≤ z_n h
theorem z_F.w {h : z_H} (hF : z_F h) : z_Fw h := ⟨fun a t _ ht => hF.1 a t ht, hF.2⟩
theorem z_F.opn {h : z_H} (hF : z_F h) (f : Nat → Int32) : z_Fw (z_opn h 64 100 f) := ⟨fun a t hb ht => (if_neg hb).trans (hF.1 a t ht), hF.2⟩
/-- a test: what is against its number, by its sign -/
def a_tst (is t : Int32) : Bool := if t / 100 - t / 100 / 10 * 10 = 0 then decide (is < t - t / 100 * 100) else if t / 100 - t / 100 / 10 * 10 = 1 then decide (is = t - t / 100 * 100) else decide (t - t / 100 * 100 < is)
/-- a sign: -33 not, -38 and, else below 0 or, else a test -/
def a_ev1 (fact : Int32 → Int32) (t : Int32) (st : List Bool) : List Bool :=
  if t = -33 then (match st with | b :: r => (!b) :: r | [] => []) else if 0 ≤ t then a_tst (fact (t / 1000)) t :: st else (match st with | b :: a :: r => (if t = -38 then (a && b) else (a || b)) :: r | s => s)
def a_ev (fact : Int32 → Int32) (sg : Nat → Int32) (k : Nat) : Nat → List Bool
  | 0 => []
  | n + 1 => a_ev1 fact (sg (k + n)) (a_ev fact sg k n)
/-- how many values lie on the pile -/
def a_dp (sg : Nat → Int32) (k : Nat) : Nat → Nat
  | 0 => 0
  | n + 1 => if sg (k + n) = -33 then a_dp sg k n else if 0 ≤ sg (k + n) then a_dp sg k n + 1 else a_dp sg k n - 1
def a_wf (sg : Nat → Int32) (k n : Nat) : Prop := ∀ i, i < n → (sg (k + i) = -33 → 1 ≤ a_dp sg k i) ∧ (¬ sg (k + i) = -33 → 0 ≤ sg (k + i) → a_dp sg k i < 100) ∧ (¬ sg (k + i) = -33 → ¬ 0 ≤ sg (k + i) → 2 ≤ a_dp sg k i)
theorem a_len {fact : Int32 → Int32} {sg : Nat → Int32} {k n : Nat} (h : a_wf sg k n) : ∀ i, i ≤ n → (a_ev fact sg k i).length = a_dp sg k i := by
  intro i
  induction i with
  | zero => intro _; rfl
  | succ i ih =>
    intro hi
    have h1 := ih (by omega)
    obtain ⟨w1, w2, w3⟩ := h i (by omega)
    simp only [a_ev, a_dp, a_ev1]
    by_cases c1 : sg (k + i) = -33
    · have h2 := w1 c1
      rw [if_pos c1, if_pos c1, ← h1]
      cases hs : a_ev fact sg k i with
      | nil => rw [hs, List.length_nil] at h1 <;> omega
      | cons b r => rfl
    · rw [if_neg c1, if_neg c1]
      by_cases c2 : 0 ≤ sg (k + i)
      · rw [if_pos c2, if_pos c2, ← h1]
        rfl
      · have h2 := w3 c1 c2
        rw [if_neg c2, if_neg c2, ← h1]
        cases hs : a_ev fact sg k i with
        | nil => rw [hs, List.length_nil] at h1 <;> omega
        | cons b r =>
          cases r with
          | nil => rw [hs] at h1; simp only [List.length_nil, List.length_cons] at h1; omega
          | cons a r2 => rfl
theorem a_dp100 {sg : Nat → Int32} {k n : Nat} (h : a_wf sg k n) : ∀ i, i ≤ n → a_dp sg k i ≤ 100 := by
  intro i
  induction i with
  | zero => intro _; exact Nat.zero_le _
  | succ i ih =>
    intro hi
    have h1 := ih (by omega)
    obtain ⟨w1, w2, w3⟩ := h i (by omega)
    simp only [a_dp]
    split
    · omega
    · rename_i c1
      split
      · rename_i c2
        have := w2 c1 c2
        omega
      · omega
/-- the pile in the array: the top of the list at its length -/
def a_pl (f : Nat → Int32) : List Bool → Prop
  | [] => True
  | b :: r => f r.length = (if b = true then 1 else 0) ∧ a_pl f r
theorem a_pl_upd {f : Nat → Int32} {j : Nat} {v : Int32} : ∀ st : List Bool, a_pl f st → st.length ≤ j → a_pl (upd f j v) st
  | [], _, _ => trivial
  | b :: r, h, hj => by
    rw [List.length_cons] at hj
    refine ⟨?_, a_pl_upd r h.2 (by omega)⟩
    unfold upd
    rw [if_neg (by omega)]
    exact h.1
theorem a_pl_push {f : Nat → Int32} {st : List Bool} (b : Bool) {v : Int32} (h : a_pl f st) (hv : v = if b = true then 1 else 0) : a_pl (upd f st.length v) (b :: st) := ⟨by unfold upd; rw [if_pos rfl, hv], a_pl_upd st h (Nat.le_refl _)⟩
theorem a_pl_last {f : Nat → Int32} : ∀ (st : List Bool), a_pl f st → 1 ≤ st.length → f 0 = z_b (st.getLastD false = true)
  | [], _, hl => by simp at hl
  | [b], h, _ => by
    have := h.1
    simp only [List.length_nil] at this
    rw [this]
    rfl
  | b :: c :: r, h, _ => by
    have := a_pl_last (c :: r) h.2 (by simp)
    rw [this]
    rfl
theorem z_opn_s (h : z_H) (a n j : Nat) (f : Nat → Int32) (v : Int32) : z_sI (z_opn h a n f) a j v = z_opn h a n (upd f j v) := by
  unfold z_sI z_opn z_u upd
  simp only [Prod.mk.injEq, and_true]
  funext b k
  by_cases e : b = a
  · subst e
    simp
  · simp [e]
theorem z_tout5 {x : Int32} (h0 : ¬ x = 0) (h1 : ¬ x = 1) (h2 : ¬ x = 2) (h3 : ¬ x = 3) (h4 : ¬ x = 4) : x.toInt < 0 ∨ 4 < x.toInt := by
  simp only [← Int32.toInt_inj] at h0 h1 h2 h3 h4
  simp only [show (0 : Int32).toInt = 0 from rfl, show (1 : Int32).toInt = 1 from rfl, show (2 : Int32).toInt = 2 from rfl, show (3 : Int32).toInt = 3 from rfl, show (4 : Int32).toInt = 4 from rfl] at h0 h1 h2 h3 h4
  omega
def m_X6_factOf (h : z_H) (f : Int32) (l : Int32) : Int32 :=
  if f = 0 then
    l
  else
    if f = 1 then
      z_I h 50 (z_c l)
    else
      if f = 2 then
        (z_I h 49 3) / 50
      else
        if f = 3 then
          if ((z_I h 49 1) / 10) ≤ 99 then
            (z_I h 49 1) / 10
          else
            99
        else
          if f = 4 then
            z_I h 51 (z_c l)
          else
            (z_I h 52 (z_c l)) / 10
theorem c_X6_factOf {Γ : z_W} {h : z_H} {f : Int32} {l : Int32} (hF : z_Fw h) (hl : l = nI (z_c l) ∧ z_c l < 6) : z_C Γ M_X6_factOf (z_rm 1 0 0) [.ref 49, .int f, .int l] h (z_ri (m_X6_factOf h f l) h) := by
  refine z_C.of (by decide +kernel) rfl [some (.ref 49), some (.int f), some (.int l)] (Nat.le_of_ble_eq_true rfl) rfl ?_
  refine z_iload_n dX6_factOf_0 rfl rfl ?_
  by_cases e1_0 : f = 0
  · refine z_tableIn 0 36 dX6_factOf_1 e1_0 (by decide) (by decide) rfl (by decide) ?_
    refine z_iload_n dX6_factOf_36 rfl rfl ?_
    refine z_iret dX6_factOf_37 rfl rfl (Nat.le_refl _) (Nat.le_refl _) (z_ri_i ?_ ?_)
    · first | rfl | (unfold m_X6_factOf; rw [if_pos (show f = 0 from e1_0)]; first | done | rfl)
    · first | rfl | (unfold m_X6_factOf; rw [if_pos (show f = 0 from e1_0)]; first | done | rfl)
  by_cases e1_1 : f = 1
  · refine z_tableIn 1 38 dX6_factOf_1 e1_1 (by decide) (by decide) rfl (by decide) ?_
    refine z_aload_n dX6_factOf_38 rfl rfl ?_
    refine z_getR 50 dX6_factOf_39 fl_X6_28_6 (hF.1 49 _ (by decide) rfl) rfl (hF.2.1 49 6 50 rfl) ?_
    refine z_iload_n dX6_factOf_42 rfl rfl ?_
    refine z_iald (z_c l) dX6_factOf_43 (hF.1 50 _ (by decide) rfl) (hl).1 (by have := (hl).2; omega) (by decide) ?_
    refine z_iret dX6_factOf_44 rfl rfl (Nat.le_refl _) (Nat.le_refl _) (z_ri_i ?_ ?_)
    · first | rfl | (unfold m_X6_factOf; rw [if_neg (show ¬ (f = 0) from e1_0), if_pos (show f = 1 from e1_1)]; first | done | rfl)
    · first | rfl | (unfold m_X6_factOf; rw [if_neg (show ¬ (f = 0) from e1_0), if_pos (show f = 1 from e1_1)]; first | done | rfl)
  by_cases e1_2 : f = 2
  · refine z_tableIn 2 45 dX6_factOf_1 e1_2 (by decide) (by decide) rfl (by decide) ?_
    refine z_aload_n dX6_factOf_45 rfl rfl ?_
    refine z_getI dX6_factOf_46 fl_X6_19_6 (hF.1 49 _ (by decide) rfl) rfl ?_
    refine z_bipush (v := 50) dX6_factOf_49 rfl ?_
    refine z_idiv dX6_factOf_51 (by decide) ?_
    refine z_iret dX6_factOf_52 rfl rfl (Nat.le_refl _) (Nat.le_refl _) (z_ri_i ?_ ?_)
    · first | rfl | (unfold m_X6_factOf; rw [if_neg (show ¬ (f = 0) from e1_0), if_neg (show ¬ (f = 1) from e1_1), if_pos (show f = 2 from e1_2)]; first | done | rfl)
    · first | rfl | (unfold m_X6_factOf; rw [if_neg (show ¬ (f = 0) from e1_0), if_neg (show ¬ (f = 1) from e1_1), if_pos (show f = 2 from e1_2)]; first | done | rfl)
  by_cases e1_3 : f = 3
  · refine z_tableIn 3 53 dX6_factOf_1 e1_3 (by decide) (by decide) rfl (by decide) ?_
    refine z_aload_n dX6_factOf_53 rfl rfl ?_
    refine z_getI dX6_factOf_54 fl_X6_13_6 (hF.1 49 _ (by decide) rfl) rfl ?_
    refine z_bipush (v := 10) dX6_factOf_57 rfl ?_
    refine z_idiv dX6_factOf_59 (by decide) ?_
    refine z_bipush (v := 99) dX6_factOf_60 rfl ?_
    refine z_icmp_le 70 dX6_factOf_62 (by decide) (fun c62 => ?_) (fun c62 => ?_)
    · refine z_aload_n dX6_factOf_70 rfl rfl ?_
      refine z_getI dX6_factOf_71 fl_X6_13_6 (hF.1 49 _ (by decide) rfl) rfl ?_
      refine z_bipush (v := 10) dX6_factOf_74 rfl ?_
      refine z_idiv dX6_factOf_76 (by decide) ?_
      refine z_iret dX6_factOf_77 rfl rfl (Nat.le_refl _) (Nat.le_refl _) (z_ri_i ?_ ?_)
      · first | rfl | (unfold m_X6_factOf; rw [if_neg (show ¬ (f = 0) from e1_0), if_neg (show ¬ (f = 1) from e1_1), if_neg (show ¬ (f = 2) from e1_2), if_pos (show f = 3 from e1_3), if_pos (show ((z_I h 49 1) / 10) ≤ 99 from c62)]; first | done | rfl)
      · first | rfl | (unfold m_X6_factOf; rw [if_neg (show ¬ (f = 0) from e1_0), if_neg (show ¬ (f = 1) from e1_1), if_neg (show ¬ (f = 2) from e1_2), if_pos (show f = 3 from e1_3), if_pos (show ((z_I h 49 1) / 10) ≤ 99 from c62)]; first | done | rfl)
    · refine z_bipush (v := 99) dX6_factOf_65 rfl ?_
      refine z_goto 77 dX6_factOf_67 (by decide) ?_
      refine z_iret dX6_factOf_77 rfl rfl (Nat.le_refl _) (Nat.le_refl _) (z_ri_i ?_ ?_)
      · first | rfl | (unfold m_X6_factOf; rw [if_neg (show ¬ (f = 0) from e1_0), if_neg (show ¬ (f = 1) from e1_1), if_neg (show ¬ (f = 2) from e1_2), if_pos (show f = 3 from e1_3), if_neg (show ¬ (((z_I h 49 1) / 10) ≤ 99) from c62)]; first | done | rfl)
      · first | rfl | (unfold m_X6_factOf; rw [if_neg (show ¬ (f = 0) from e1_0), if_neg (show ¬ (f = 1) from e1_1), if_neg (show ¬ (f = 2) from e1_2), if_pos (show f = 3 from e1_3), if_neg (show ¬ (((z_I h 49 1) / 10) ≤ 99) from c62)]; first | done | rfl)
  by_cases e1_4 : f = 4
  · refine z_tableIn 4 78 dX6_factOf_1 e1_4 (by decide) (by decide) rfl (by decide) ?_
    refine z_aload_n dX6_factOf_78 rfl rfl ?_
    refine z_getR 51 dX6_factOf_79 fl_X6_32_6 (hF.1 49 _ (by decide) rfl) rfl (hF.2.1 49 7 51 rfl) ?_
    refine z_iload_n dX6_factOf_82 rfl rfl ?_
    refine z_iald (z_c l) dX6_factOf_83 (hF.1 51 _ (by decide) rfl) (hl).1 (by have := (hl).2; omega) (by decide) ?_
    refine z_iret dX6_factOf_84 rfl rfl (Nat.le_refl _) (Nat.le_refl _) (z_ri_i ?_ ?_)
    · first | rfl | (unfold m_X6_factOf; rw [if_neg (show ¬ (f = 0) from e1_0), if_neg (show ¬ (f = 1) from e1_1), if_neg (show ¬ (f = 2) from e1_2), if_neg (show ¬ (f = 3) from e1_3), if_pos (show f = 4 from e1_4)]; first | done | rfl)
    · first | rfl | (unfold m_X6_factOf; rw [if_neg (show ¬ (f = 0) from e1_0), if_neg (show ¬ (f = 1) from e1_1), if_neg (show ¬ (f = 2) from e1_2), if_neg (show ¬ (f = 3) from e1_3), if_pos (show f = 4 from e1_4)]; first | done | rfl)
  refine z_tableOut 85 dX6_factOf_1 (z_tout5 e1_0 e1_1 e1_2 e1_3 e1_4) (by decide) ?_
  refine z_aload_n dX6_factOf_85 rfl rfl ?_
  refine z_getR 52 dX6_factOf_86 fl_X6_35_6 (hF.1 49 _ (by decide) rfl) rfl (hF.2.1 49 8 52 rfl) ?_
  refine z_iload_n dX6_factOf_89 rfl rfl ?_
  refine z_iald (z_c l) dX6_factOf_90 (hF.1 52 _ (by decide) rfl) (hl).1 (by have := (hl).2; omega) (by decide) ?_
  refine z_bipush (v := 10) dX6_factOf_91 rfl ?_
  refine z_idiv dX6_factOf_93 (by decide) ?_
  refine z_iret dX6_factOf_94 rfl rfl (Nat.le_refl _) (Nat.le_refl _) (z_ri_i ?_ ?_)
  · first | rfl | (unfold m_X6_factOf; rw [if_neg (show ¬ (f = 0) from e1_0), if_neg (show ¬ (f = 1) from e1_1), if_neg (show ¬ (f = 2) from e1_2), if_neg (show ¬ (f = 3) from e1_3), if_neg (show ¬ (f = 4) from e1_4)]; first | done | rfl)
  · first | rfl | (unfold m_X6_factOf; rw [if_neg (show ¬ (f = 0) from e1_0), if_neg (show ¬ (f = 1) from e1_1), if_neg (show ¬ (f = 2) from e1_2), if_neg (show ¬ (f = 3) from e1_3), if_neg (show ¬ (f = 4) from e1_4)]; first | done | rfl)
/-- whether the clause c holds for the lift l -/
def m_X6_holds (h : z_H) (c l : Int32) : Bool := (a_ev (fun f => m_X6_factOf h f l) (z_I h 61) (z_c (z_I h 59 (z_c c))) (z_c (z_I h 60 (z_c c)) - z_c (z_I h 59 (z_c c)))).getLastD false
/-- the signs of a clause can be gone through -/
def a_ok (h : z_H) (c : Nat) : Prop := z_cn (z_I h 59 c) 600 ∧ z_cn (z_I h 60 c) 600 ∧ z_c (z_I h 59 c) ≤ z_c (z_I h 60 c) ∧ a_wf (z_I h 61) (z_c (z_I h 59 c)) (z_c (z_I h 60 c) - z_c (z_I h 59 c)) ∧ 1 ≤ a_dp (z_I h 61) (z_c (z_I h 59 c)) (z_c (z_I h 60 c) - z_c (z_I h 59 c))
theorem lp_X6_holds {Γ : z_W} {h : z_H} (hF : z_F h) {c l : Int32} (hc : c = nI (z_c c) ∧ z_c c < 60) (hl : l = nI (z_c l) ∧ z_c l < 6) (ho : a_ok h (z_c c)) : ∀ (n i : Nat) (f : Nat → Int32) (o5 o6 o7 : Option Value), i + n = z_c (z_I h 60 (z_c c)) - z_c (z_I h 59 (z_c c)) → a_pl f (a_ev (fun f => m_X6_factOf h f l) (z_I h 61) (z_c (z_I h 59 (z_c c))) i) →
    z_G Γ M_X6_holds (z_rm 2 0 0) (z_ri (z_b (m_X6_holds h c l = true)) h) 0 0 10 [some (.ref 49), some (.int c), some (.int l), some (.int (nI (a_dp (z_I h 61) (z_c (z_I h 59 (z_c c))) i))), some (.int (nI (z_c (z_I h 59 (z_c c)) + i))), o5, o6, o7] [] (z_opn h 64 100 f) := by
  intro n
  obtain ⟨ho1, ho2, ho3, ho4, ho5⟩ := ho
  have b1 := ho1.2
  have b2 := ho2.2
  have hFw : ∀ {f}, z_Fw (z_opn h 64 100 f) := fun {f} => hF.opn f
  have hT49 : ∀ f, z_T (z_opn h 64 100 f) 49 = some (.inl 6) := fun f => hF.1 49 _ rfl
  have hT64 : ∀ f, z_T (z_opn h 64 100 f) 64 = some (.inr (.boolean, 100)) := fun f => rfl
  have hTo : ∀ f b t, b ≠ 64 → z_tab[b]? = some (some t) → z_T (z_opn h 64 100 f) b = some t := fun f b t hb ht => (if_neg hb).trans (hF.1 b t ht)
  induction n with
  | zero =>
    intro i f o5 o6 o7 hin hp
    have hi : i = z_c (z_I h 60 (z_c c)) - z_c (z_I h 59 (z_c c)) := by omega
    refine z_iload dX6_holds_10 rfl ?_
    refine z_aload_n dX6_holds_12 rfl rfl ?_
    refine z_getR 60 dX6_holds_13 fl_X6_74_6 (hT49 _) rfl (hF.2.1 49 21 60 rfl) ?_
    refine z_iload_n dX6_holds_16 rfl rfl ?_
    refine z_iald (z_c c) dX6_holds_17 (hTo _ 60 _ (by decide) rfl) (hc).1 (by have := (hc).2; omega) (by decide) ?_
    refine z_icmp_ge 243 dX6_holds_18 (by decide) (fun _ => ?_) (fun q => by first | exact absurd (show z_I h 60 (z_c c) ≤ _ by rw [ho2.1]; exact nI_le (by omega) (by omega)) q | exact absurd q (show z_I h 60 (z_c c) ≤ _ by rw [ho2.1]; exact nI_le (by omega) (by omega)))
    refine z_aload_n dX6_holds_243 rfl rfl ?_
    refine z_getR 64 dX6_holds_244 fl_X6_95_6 (hT49 _) rfl (hF.2.1 49 28 64 rfl) ?_
    refine z_iconst (v := 0) dX6_holds_247 rfl ?_
    refine z_zald 0 dX6_holds_248 (hT64 _) rfl (by decide) (by decide) ?_
    refine z_mem h (z_clo (hF.1 64 _ rfl) (hT64 f) rfl (fun b hb => if_neg hb) (fun b j hb => if_neg hb) (fun b j hb => rfl) (fun b j hb => rfl)) ?_
    have hv : z_I (z_opn h 64 100 f) 64 0 = z_b (m_X6_holds h c l = true) := by
      show f 0 = _
      rw [a_pl_last _ hp (by rw [a_len ho4 i (by omega), hi]; exact ho5), hi]
      rfl
    rw [hv]
    exact z_iret dX6_holds_249 rfl (z_bz _) (Nat.le_refl _) (Nat.le_refl _) (z_ri_i rfl rfl)
  | succ n ih =>
    intro i f o5 o6 o7 hin hp
    have hlt : i < z_c (z_I h 60 (z_c c)) - z_c (z_I h 59 (z_c c)) := by omega
    obtain ⟨w1, w2, w3⟩ := ho4 i hlt
    have hlen := a_len (fact := fun f => m_X6_factOf h f l) ho4 i (by omega)
    have hdp := a_dp100 ho4 i (by omega)
    refine z_iload dX6_holds_10 rfl ?_
    refine z_aload_n dX6_holds_12 rfl rfl ?_
    refine z_getR 60 dX6_holds_13 fl_X6_74_6 (hT49 _) rfl (hF.2.1 49 21 60 rfl) ?_
    refine z_iload_n dX6_holds_16 rfl rfl ?_
    refine z_iald (z_c c) dX6_holds_17 (hTo _ 60 _ (by decide) rfl) (hc).1 (by have := (hc).2; omega) (by decide) ?_
    refine z_icmp_ge 243 dX6_holds_18 (by decide) (fun q => by first | exact absurd q (show ¬ z_I h 60 (z_c c) ≤ _ by rw [ho2.1]; exact nI_ge (by omega) (by omega)) | exact absurd (show ¬ z_I h 60 (z_c c) ≤ _ by rw [ho2.1]; exact nI_ge (by omega) (by omega)) q) (fun _ => ?_)
    refine z_aload_n dX6_holds_21 rfl rfl ?_
    refine z_getR 61 dX6_holds_22 fl_X6_77_6 (hT49 _) rfl (hF.2.1 49 22 61 rfl) ?_
    refine z_iload dX6_holds_25 rfl ?_
    refine z_iald (z_c (z_I h 59 (z_c c)) + i) dX6_holds_27 (hTo _ 61 _ (by decide) rfl) rfl (by omega) (by decide) ?_
    refine z_eqi (z_I h 61 (z_c (z_I h 59 (z_c c)) + i)) rfl ?_
    refine z_istore dX6_holds_28 (by decide) rfl ?_
    refine z_iload dX6_holds_30 rfl ?_
    refine z_bipush (v := (-33)) dX6_holds_32 rfl ?_
    refine z_icmp_ne 64 dX6_holds_34 (by decide) (fun c34 => ?_) (fun c34 => ?_)
    · skip
      refine z_iload dX6_holds_64 rfl ?_
      refine z_if_ge 143 dX6_holds_66 (by decide) (fun c66 => ?_) (fun c66 => ?_)
      · skip
        refine z_aload_n dX6_holds_143 rfl rfl ?_
        refine z_iload dX6_holds_144 rfl ?_
        refine z_sipush (v := 1000) dX6_holds_146 rfl ?_
        refine z_idiv dX6_holds_149 (by decide) ?_
        refine z_iload_n dX6_holds_150 rfl rfl ?_
        refine z_vcall vl_X6_295_6 (c_X6_factOf hFw hl) dX6_holds_151 rfl rfl (hT49 _) ⟨by decide, by decide⟩ (Nat.le_of_ble_eq_true rfl) (Nat.le_refl _) (Nat.le_refl _) (z_cI ?_) z_tI
        refine z_eqi (m_X6_factOf h (z_I h 61 (z_c (z_I h 59 (z_c c)) + i) / 1000) l) rfl ?_
        refine z_istore dX6_holds_154 (by decide) rfl ?_
        refine z_iload dX6_holds_156 rfl ?_
        refine z_bipush (v := 100) dX6_holds_158 rfl ?_
        refine z_idiv dX6_holds_160 (by decide) ?_
        refine z_bipush (v := 10) dX6_holds_161 rfl ?_
        refine z_irem dX6_holds_163 (by decide) ?_
        refine z_istore dX6_holds_164 (by decide) rfl ?_
        refine z_aload_n dX6_holds_166 rfl rfl ?_
        refine z_getR 64 dX6_holds_167 fl_X6_95_6 (hT49 _) rfl (hF.2.1 49 28 64 rfl) ?_
        refine z_iload_n dX6_holds_170 rfl rfl ?_
        refine z_iload dX6_holds_171 rfl ?_
        refine z_if_ne 194 dX6_holds_173 (by decide) (fun c173 => ?_) (fun c173 => ?_)
        · refine z_iload dX6_holds_194 rfl ?_
          refine z_iconst (v := 1) dX6_holds_196 rfl ?_
          refine z_icmp_ne 218 dX6_holds_197 (by decide) (fun c197 => ?_) (fun c197 => ?_)
          · refine z_iload dX6_holds_218 rfl ?_
            refine z_iload dX6_holds_220 rfl ?_
            refine z_bipush (v := 100) dX6_holds_222 rfl ?_
            refine z_irem dX6_holds_224 (by decide) ?_
            refine z_icmp_le 232 dX6_holds_225 (by decide) (fun c225 => ?_) (fun c225 => ?_)
            · refine z_iconst (v := 0) dX6_holds_232 rfl ?_
              refine z_zast (a_dp (z_I h 61) (z_c (z_I h 59 (z_c c))) i) dX6_holds_233 (hT64 _) (by decide) rfl (by have := w2 c34 c66; omega) (by decide) rfl ?_
              rw [z_opn_s]
              refine z_iinc (v := nI (a_dp (z_I h 61) (z_c (z_I h 59 (z_c c))) i + 1)) dX6_holds_234 rfl (nI_succ _).symm (by decide) rfl ?_
              have ht : a_tst (m_X6_factOf h (z_I h 61 (z_c (z_I h 59 (z_c c)) + i) / 1000) l) (z_I h 61 (z_c (z_I h 59 (z_c c)) + i)) = false := by unfold a_tst; rw [if_neg c173, if_neg c197]; exact decide_eq_false (Int32.not_lt.mpr c225)
              refine z_iinc (v := nI (z_c (z_I h 59 (z_c c)) + (i + 1))) dX6_holds_237 rfl (by rw [← Nat.add_assoc]; exact (nI_succ _).symm) (by decide) rfl ?_
              refine z_goto 10 dX6_holds_240 (by decide) ?_
              have e1 : a_dp (z_I h 61) (z_c (z_I h 59 (z_c c))) (i + 1) = a_dp (z_I h 61) (z_c (z_I h 59 (z_c c))) i + 1 := by simp only [a_dp]; rw [if_neg c34, if_pos c66]
              have e2 : a_ev (fun f => m_X6_factOf h f l) (z_I h 61) (z_c (z_I h 59 (z_c c))) (i + 1) = a_tst (m_X6_factOf h (z_I h 61 (z_c (z_I h 59 (z_c c)) + i) / 1000) l) (z_I h 61 (z_c (z_I h 59 (z_c c)) + i)) :: a_ev (fun f => m_X6_factOf h f l) (z_I h 61) (z_c (z_I h 59 (z_c c))) i := by simp only [a_ev, a_ev1]; rw [if_neg c34, if_pos c66]
              have hp2 : a_pl (upd f (a_dp (z_I h 61) (z_c (z_I h 59 (z_c c))) i) 0) (a_ev (fun f => m_X6_factOf h f l) (z_I h 61) (z_c (z_I h 59 (z_c c))) (i + 1)) := by rw [e2]; rw [← hlen]; exact a_pl_push _ hp (by rw [ht]; rfl)
              have fin := ih (i + 1) _ (some (.int (z_I h 61 (z_c (z_I h 59 (z_c c)) + i)))) (some (.int (m_X6_factOf h (z_I h 61 (z_c (z_I h 59 (z_c c)) + i) / 1000) l))) (some (.int (z_I h 61 (z_c (z_I h 59 (z_c c)) + i) / 100 - z_I h 61 (z_c (z_I h 59 (z_c c)) + i) / 100 / 10 * 10))) (by omega) hp2
              rw [e1] at fin
              exact fin
            · refine z_iconst (v := 1) dX6_holds_228 rfl ?_
              refine z_goto 233 dX6_holds_229 (by decide) ?_
              refine z_zast (a_dp (z_I h 61) (z_c (z_I h 59 (z_c c))) i) dX6_holds_233 (hT64 _) (by decide) rfl (by have := w2 c34 c66; omega) (by decide) rfl ?_
              rw [z_opn_s]
              refine z_iinc (v := nI (a_dp (z_I h 61) (z_c (z_I h 59 (z_c c))) i + 1)) dX6_holds_234 rfl (nI_succ _).symm (by decide) rfl ?_
              have ht : a_tst (m_X6_factOf h (z_I h 61 (z_c (z_I h 59 (z_c c)) + i) / 1000) l) (z_I h 61 (z_c (z_I h 59 (z_c c)) + i)) = true := by unfold a_tst; rw [if_neg c173, if_neg c197]; exact decide_eq_true (Int32.not_le.mp c225)
              refine z_iinc (v := nI (z_c (z_I h 59 (z_c c)) + (i + 1))) dX6_holds_237 rfl (by rw [← Nat.add_assoc]; exact (nI_succ _).symm) (by decide) rfl ?_
              refine z_goto 10 dX6_holds_240 (by decide) ?_
              have e1 : a_dp (z_I h 61) (z_c (z_I h 59 (z_c c))) (i + 1) = a_dp (z_I h 61) (z_c (z_I h 59 (z_c c))) i + 1 := by simp only [a_dp]; rw [if_neg c34, if_pos c66]
              have e2 : a_ev (fun f => m_X6_factOf h f l) (z_I h 61) (z_c (z_I h 59 (z_c c))) (i + 1) = a_tst (m_X6_factOf h (z_I h 61 (z_c (z_I h 59 (z_c c)) + i) / 1000) l) (z_I h 61 (z_c (z_I h 59 (z_c c)) + i)) :: a_ev (fun f => m_X6_factOf h f l) (z_I h 61) (z_c (z_I h 59 (z_c c))) i := by simp only [a_ev, a_ev1]; rw [if_neg c34, if_pos c66]
              have hp2 : a_pl (upd f (a_dp (z_I h 61) (z_c (z_I h 59 (z_c c))) i) 1) (a_ev (fun f => m_X6_factOf h f l) (z_I h 61) (z_c (z_I h 59 (z_c c))) (i + 1)) := by rw [e2]; rw [← hlen]; exact a_pl_push _ hp (by rw [ht]; rfl)
              have fin := ih (i + 1) _ (some (.int (z_I h 61 (z_c (z_I h 59 (z_c c)) + i)))) (some (.int (m_X6_factOf h (z_I h 61 (z_c (z_I h 59 (z_c c)) + i) / 1000) l))) (some (.int (z_I h 61 (z_c (z_I h 59 (z_c c)) + i) / 100 - z_I h 61 (z_c (z_I h 59 (z_c c)) + i) / 100 / 10 * 10))) (by omega) hp2
              rw [e1] at fin
              exact fin
          · refine z_iload dX6_holds_200 rfl ?_
            refine z_iload dX6_holds_202 rfl ?_
            refine z_bipush (v := 100) dX6_holds_204 rfl ?_
            refine z_irem dX6_holds_206 (by decide) ?_
            refine z_icmp_ne 214 dX6_holds_207 (by decide) (fun c207 => ?_) (fun c207 => ?_)
            · refine z_iconst (v := 0) dX6_holds_214 rfl ?_
              refine z_goto 233 dX6_holds_215 (by decide) ?_
              refine z_zast (a_dp (z_I h 61) (z_c (z_I h 59 (z_c c))) i) dX6_holds_233 (hT64 _) (by decide) rfl (by have := w2 c34 c66; omega) (by decide) rfl ?_
              rw [z_opn_s]
              refine z_iinc (v := nI (a_dp (z_I h 61) (z_c (z_I h 59 (z_c c))) i + 1)) dX6_holds_234 rfl (nI_succ _).symm (by decide) rfl ?_
              have ht : a_tst (m_X6_factOf h (z_I h 61 (z_c (z_I h 59 (z_c c)) + i) / 1000) l) (z_I h 61 (z_c (z_I h 59 (z_c c)) + i)) = false := by unfold a_tst; rw [if_neg c173, if_pos c197]; exact decide_eq_false c207
              refine z_iinc (v := nI (z_c (z_I h 59 (z_c c)) + (i + 1))) dX6_holds_237 rfl (by rw [← Nat.add_assoc]; exact (nI_succ _).symm) (by decide) rfl ?_
              refine z_goto 10 dX6_holds_240 (by decide) ?_
              have e1 : a_dp (z_I h 61) (z_c (z_I h 59 (z_c c))) (i + 1) = a_dp (z_I h 61) (z_c (z_I h 59 (z_c c))) i + 1 := by simp only [a_dp]; rw [if_neg c34, if_pos c66]
              have e2 : a_ev (fun f => m_X6_factOf h f l) (z_I h 61) (z_c (z_I h 59 (z_c c))) (i + 1) = a_tst (m_X6_factOf h (z_I h 61 (z_c (z_I h 59 (z_c c)) + i) / 1000) l) (z_I h 61 (z_c (z_I h 59 (z_c c)) + i)) :: a_ev (fun f => m_X6_factOf h f l) (z_I h 61) (z_c (z_I h 59 (z_c c))) i := by simp only [a_ev, a_ev1]; rw [if_neg c34, if_pos c66]
              have hp2 : a_pl (upd f (a_dp (z_I h 61) (z_c (z_I h 59 (z_c c))) i) 0) (a_ev (fun f => m_X6_factOf h f l) (z_I h 61) (z_c (z_I h 59 (z_c c))) (i + 1)) := by rw [e2]; rw [← hlen]; exact a_pl_push _ hp (by rw [ht]; rfl)
              have fin := ih (i + 1) _ (some (.int (z_I h 61 (z_c (z_I h 59 (z_c c)) + i)))) (some (.int (m_X6_factOf h (z_I h 61 (z_c (z_I h 59 (z_c c)) + i) / 1000) l))) (some (.int (z_I h 61 (z_c (z_I h 59 (z_c c)) + i) / 100 - z_I h 61 (z_c (z_I h 59 (z_c c)) + i) / 100 / 10 * 10))) (by omega) hp2
              rw [e1] at fin
              exact fin
            · refine z_iconst (v := 1) dX6_holds_210 rfl ?_
              refine z_goto 233 dX6_holds_211 (by decide) ?_
              refine z_zast (a_dp (z_I h 61) (z_c (z_I h 59 (z_c c))) i) dX6_holds_233 (hT64 _) (by decide) rfl (by have := w2 c34 c66; omega) (by decide) rfl ?_
              rw [z_opn_s]
              refine z_iinc (v := nI (a_dp (z_I h 61) (z_c (z_I h 59 (z_c c))) i + 1)) dX6_holds_234 rfl (nI_succ _).symm (by decide) rfl ?_
              have ht : a_tst (m_X6_factOf h (z_I h 61 (z_c (z_I h 59 (z_c c)) + i) / 1000) l) (z_I h 61 (z_c (z_I h 59 (z_c c)) + i)) = true := by unfold a_tst; rw [if_neg c173, if_pos c197]; exact decide_eq_true c207
              refine z_iinc (v := nI (z_c (z_I h 59 (z_c c)) + (i + 1))) dX6_holds_237 rfl (by rw [← Nat.add_assoc]; exact (nI_succ _).symm) (by decide) rfl ?_
              refine z_goto 10 dX6_holds_240 (by decide) ?_
              have e1 : a_dp (z_I h 61) (z_c (z_I h 59 (z_c c))) (i + 1) = a_dp (z_I h 61) (z_c (z_I h 59 (z_c c))) i + 1 := by simp only [a_dp]; rw [if_neg c34, if_pos c66]
              have e2 : a_ev (fun f => m_X6_factOf h f l) (z_I h 61) (z_c (z_I h 59 (z_c c))) (i + 1) = a_tst (m_X6_factOf h (z_I h 61 (z_c (z_I h 59 (z_c c)) + i) / 1000) l) (z_I h 61 (z_c (z_I h 59 (z_c c)) + i)) :: a_ev (fun f => m_X6_factOf h f l) (z_I h 61) (z_c (z_I h 59 (z_c c))) i := by simp only [a_ev, a_ev1]; rw [if_neg c34, if_pos c66]
              have hp2 : a_pl (upd f (a_dp (z_I h 61) (z_c (z_I h 59 (z_c c))) i) 1) (a_ev (fun f => m_X6_factOf h f l) (z_I h 61) (z_c (z_I h 59 (z_c c))) (i + 1)) := by rw [e2]; rw [← hlen]; exact a_pl_push _ hp (by rw [ht]; rfl)
              have fin := ih (i + 1) _ (some (.int (z_I h 61 (z_c (z_I h 59 (z_c c)) + i)))) (some (.int (m_X6_factOf h (z_I h 61 (z_c (z_I h 59 (z_c c)) + i) / 1000) l))) (some (.int (z_I h 61 (z_c (z_I h 59 (z_c c)) + i) / 100 - z_I h 61 (z_c (z_I h 59 (z_c c)) + i) / 100 / 10 * 10))) (by omega) hp2
              rw [e1] at fin
              exact fin
        · refine z_iload dX6_holds_176 rfl ?_
          refine z_iload dX6_holds_178 rfl ?_
          refine z_bipush (v := 100) dX6_holds_180 rfl ?_
          refine z_irem dX6_holds_182 (by decide) ?_
          refine z_icmp_ge 190 dX6_holds_183 (by decide) (fun c183 => ?_) (fun c183 => ?_)
          · refine z_iconst (v := 0) dX6_holds_190 rfl ?_
            refine z_goto 233 dX6_holds_191 (by decide) ?_
            refine z_zast (a_dp (z_I h 61) (z_c (z_I h 59 (z_c c))) i) dX6_holds_233 (hT64 _) (by decide) rfl (by have := w2 c34 c66; omega) (by decide) rfl ?_
            rw [z_opn_s]
            refine z_iinc (v := nI (a_dp (z_I h 61) (z_c (z_I h 59 (z_c c))) i + 1)) dX6_holds_234 rfl (nI_succ _).symm (by decide) rfl ?_
            have ht : a_tst (m_X6_factOf h (z_I h 61 (z_c (z_I h 59 (z_c c)) + i) / 1000) l) (z_I h 61 (z_c (z_I h 59 (z_c c)) + i)) = false := by unfold a_tst; rw [if_pos c173]; exact decide_eq_false (Int32.not_lt.mpr c183)
            refine z_iinc (v := nI (z_c (z_I h 59 (z_c c)) + (i + 1))) dX6_holds_237 rfl (by rw [← Nat.add_assoc]; exact (nI_succ _).symm) (by decide) rfl ?_
            refine z_goto 10 dX6_holds_240 (by decide) ?_
            have e1 : a_dp (z_I h 61) (z_c (z_I h 59 (z_c c))) (i + 1) = a_dp (z_I h 61) (z_c (z_I h 59 (z_c c))) i + 1 := by simp only [a_dp]; rw [if_neg c34, if_pos c66]
            have e2 : a_ev (fun f => m_X6_factOf h f l) (z_I h 61) (z_c (z_I h 59 (z_c c))) (i + 1) = a_tst (m_X6_factOf h (z_I h 61 (z_c (z_I h 59 (z_c c)) + i) / 1000) l) (z_I h 61 (z_c (z_I h 59 (z_c c)) + i)) :: a_ev (fun f => m_X6_factOf h f l) (z_I h 61) (z_c (z_I h 59 (z_c c))) i := by simp only [a_ev, a_ev1]; rw [if_neg c34, if_pos c66]
            have hp2 : a_pl (upd f (a_dp (z_I h 61) (z_c (z_I h 59 (z_c c))) i) 0) (a_ev (fun f => m_X6_factOf h f l) (z_I h 61) (z_c (z_I h 59 (z_c c))) (i + 1)) := by rw [e2]; rw [← hlen]; exact a_pl_push _ hp (by rw [ht]; rfl)
            have fin := ih (i + 1) _ (some (.int (z_I h 61 (z_c (z_I h 59 (z_c c)) + i)))) (some (.int (m_X6_factOf h (z_I h 61 (z_c (z_I h 59 (z_c c)) + i) / 1000) l))) (some (.int (z_I h 61 (z_c (z_I h 59 (z_c c)) + i) / 100 - z_I h 61 (z_c (z_I h 59 (z_c c)) + i) / 100 / 10 * 10))) (by omega) hp2
            rw [e1] at fin
            exact fin
          · refine z_iconst (v := 1) dX6_holds_186 rfl ?_
            refine z_goto 233 dX6_holds_187 (by decide) ?_
            refine z_zast (a_dp (z_I h 61) (z_c (z_I h 59 (z_c c))) i) dX6_holds_233 (hT64 _) (by decide) rfl (by have := w2 c34 c66; omega) (by decide) rfl ?_
            rw [z_opn_s]
            refine z_iinc (v := nI (a_dp (z_I h 61) (z_c (z_I h 59 (z_c c))) i + 1)) dX6_holds_234 rfl (nI_succ _).symm (by decide) rfl ?_
            have ht : a_tst (m_X6_factOf h (z_I h 61 (z_c (z_I h 59 (z_c c)) + i) / 1000) l) (z_I h 61 (z_c (z_I h 59 (z_c c)) + i)) = true := by unfold a_tst; rw [if_pos c173]; exact decide_eq_true (Int32.not_le.mp c183)
            refine z_iinc (v := nI (z_c (z_I h 59 (z_c c)) + (i + 1))) dX6_holds_237 rfl (by rw [← Nat.add_assoc]; exact (nI_succ _).symm) (by decide) rfl ?_
            refine z_goto 10 dX6_holds_240 (by decide) ?_
            have e1 : a_dp (z_I h 61) (z_c (z_I h 59 (z_c c))) (i + 1) = a_dp (z_I h 61) (z_c (z_I h 59 (z_c c))) i + 1 := by simp only [a_dp]; rw [if_neg c34, if_pos c66]
            have e2 : a_ev (fun f => m_X6_factOf h f l) (z_I h 61) (z_c (z_I h 59 (z_c c))) (i + 1) = a_tst (m_X6_factOf h (z_I h 61 (z_c (z_I h 59 (z_c c)) + i) / 1000) l) (z_I h 61 (z_c (z_I h 59 (z_c c)) + i)) :: a_ev (fun f => m_X6_factOf h f l) (z_I h 61) (z_c (z_I h 59 (z_c c))) i := by simp only [a_ev, a_ev1]; rw [if_neg c34, if_pos c66]
            have hp2 : a_pl (upd f (a_dp (z_I h 61) (z_c (z_I h 59 (z_c c))) i) 1) (a_ev (fun f => m_X6_factOf h f l) (z_I h 61) (z_c (z_I h 59 (z_c c))) (i + 1)) := by rw [e2]; rw [← hlen]; exact a_pl_push _ hp (by rw [ht]; rfl)
            have fin := ih (i + 1) _ (some (.int (z_I h 61 (z_c (z_I h 59 (z_c c)) + i)))) (some (.int (m_X6_factOf h (z_I h 61 (z_c (z_I h 59 (z_c c)) + i) / 1000) l))) (some (.int (z_I h 61 (z_c (z_I h 59 (z_c c)) + i) / 100 - z_I h 61 (z_c (z_I h 59 (z_c c)) + i) / 100 / 10 * 10))) (by omega) hp2
            rw [e1] at fin
            exact fin
      · skip
        obtain ⟨b, a, r, hs⟩ : ∃ b a r, a_ev (fun f => m_X6_factOf h f l) (z_I h 61) (z_c (z_I h 59 (z_c c))) i = b :: a :: r := by
          cases hs : a_ev (fun f => m_X6_factOf h f l) (z_I h 61) (z_c (z_I h 59 (z_c c))) i with
          | nil => rw [hs] at hlen; have := w3 c34 c66; simp only [List.length_nil, List.length_cons] at hlen; omega
          | cons b r =>
            cases r with
            | nil => rw [hs] at hlen; have := w3 c34 c66; simp only [List.length_nil, List.length_cons] at hlen; omega
            | cons a r => exact ⟨b, a, r, rfl⟩
        rw [hs] at hlen hp
        rw [List.length_cons, List.length_cons] at hlen
        rw [← hlen]
        have hpb := hp.1
        have hpa := hp.2.1
        rw [List.length_cons] at hpb
        by_cases c38 : z_I h 61 (z_c (z_I h 59 (z_c c)) + i) = -38
        · cases a with
          | true =>
            cases b with
            | true =>
              have ha1 : ¬ z_I (z_opn h 64 100 f) 64 r.length = 0 := by show ¬ f r.length = 0; rw [hpa]; decide
              have ha2 : ¬ z_I (z_opn h 64 100 f) 64 r.length = 0 := by show ¬ f r.length = 0; rw [hpa]; decide
              have hb1 : ¬ z_I (z_opn h 64 100 f) 64 (r.length + 1) = 0 := by show ¬ f (r.length + 1) = 0; rw [hpb]; decide
              refine z_iinc (v := nI (r.length + 1)) dX6_holds_69 rfl (pk_m1 _) (by decide) rfl ?_
              refine z_aload_n dX6_holds_72 rfl rfl ?_
              refine z_getR 64 dX6_holds_73 fl_X6_95_6 (hT49 _) rfl (hF.2.1 49 28 64 rfl) ?_
              refine z_iload_n dX6_holds_76 rfl rfl ?_
              refine z_iconst (v := 1) dX6_holds_77 rfl ?_
              refine z_isub dX6_holds_78 ?_
              refine z_iload dX6_holds_79 rfl ?_
              refine z_bipush (v := (-38)) dX6_holds_81 rfl ?_
              refine z_icmp_ne 114 dX6_holds_83 (by decide) (fun q => by first | exact absurd q (fun q => q c38) | exact absurd (fun q => q c38) q) (fun _ => ?_)
              refine z_aload_n dX6_holds_86 rfl rfl ?_
              refine z_getR 64 dX6_holds_87 fl_X6_95_6 (hT49 _) rfl (hF.2.1 49 28 64 rfl) ?_
              refine z_iload_n dX6_holds_90 rfl rfl ?_
              refine z_iconst (v := 1) dX6_holds_91 rfl ?_
              refine z_isub dX6_holds_92 ?_
              refine z_zald r.length dX6_holds_93 (hT64 _) (nI_pred _) (by omega) (by decide) ?_
              refine z_if_eq 110 dX6_holds_94 (by decide) (fun q => by first | exact absurd q ha1 | exact absurd ha1 q) (fun _ => ?_)
              refine z_aload_n dX6_holds_97 rfl rfl ?_
              refine z_getR 64 dX6_holds_98 fl_X6_95_6 (hT49 _) rfl (hF.2.1 49 28 64 rfl) ?_
              refine z_iload_n dX6_holds_101 rfl rfl ?_
              refine z_zald (r.length + 1) dX6_holds_102 (hT64 _) rfl (by omega) (by decide) ?_
              refine z_if_eq 110 dX6_holds_103 (by decide) (fun q => by first | exact absurd q hb1 | exact absurd hb1 q) (fun _ => ?_)
              refine z_iconst (v := 1) dX6_holds_106 rfl ?_
              refine z_goto 139 dX6_holds_107 (by decide) ?_
              refine z_zast r.length dX6_holds_139 (hT64 _) (by decide) (nI_pred _) (by omega) (by decide) rfl ?_
              rw [z_opn_s]
              refine z_goto 237 dX6_holds_140 (by decide) ?_
              refine z_iinc (v := nI (z_c (z_I h 59 (z_c c)) + (i + 1))) dX6_holds_237 rfl (by rw [← Nat.add_assoc]; exact (nI_succ _).symm) (by decide) rfl ?_
              refine z_goto 10 dX6_holds_240 (by decide) ?_
              have e1 : a_dp (z_I h 61) (z_c (z_I h 59 (z_c c))) (i + 1) = r.length + 1 := by simp only [a_dp]; rw [if_neg c34, if_neg c66, ← hlen]; rfl
              have e2 : a_ev (fun f => m_X6_factOf h f l) (z_I h 61) (z_c (z_I h 59 (z_c c))) (i + 1) = (if z_I h 61 (z_c (z_I h 59 (z_c c)) + i) = -38 then (true && true) else (true || true)) :: r := by simp only [a_ev, a_ev1]; rw [if_neg c34, if_neg c66, hs]
              have hp2 : a_pl (upd f r.length 1) (a_ev (fun f => m_X6_factOf h f l) (z_I h 61) (z_c (z_I h 59 (z_c c))) (i + 1)) := by rw [e2]; exact a_pl_push _ hp.2.2 (by rw [if_pos c38]; rfl)
              have fin := ih (i + 1) _ (some (.int (z_I h 61 (z_c (z_I h 59 (z_c c)) + i)))) o6 o7 (by omega) hp2
              rw [e1] at fin
              exact fin
            | false =>
              have ha1 : ¬ z_I (z_opn h 64 100 f) 64 r.length = 0 := by show ¬ f r.length = 0; rw [hpa]; decide
              have ha2 : ¬ z_I (z_opn h 64 100 f) 64 r.length = 0 := by show ¬ f r.length = 0; rw [hpa]; decide
              have hb1 : z_I (z_opn h 64 100 f) 64 (r.length + 1) = 0 := by show f (r.length + 1) = 0; rw [hpb]; decide
              refine z_iinc (v := nI (r.length + 1)) dX6_holds_69 rfl (pk_m1 _) (by decide) rfl ?_
              refine z_aload_n dX6_holds_72 rfl rfl ?_
              refine z_getR 64 dX6_holds_73 fl_X6_95_6 (hT49 _) rfl (hF.2.1 49 28 64 rfl) ?_
              refine z_iload_n dX6_holds_76 rfl rfl ?_
              refine z_iconst (v := 1) dX6_holds_77 rfl ?_
              refine z_isub dX6_holds_78 ?_
              refine z_iload dX6_holds_79 rfl ?_
              refine z_bipush (v := (-38)) dX6_holds_81 rfl ?_
              refine z_icmp_ne 114 dX6_holds_83 (by decide) (fun q => by first | exact absurd q (fun q => q c38) | exact absurd (fun q => q c38) q) (fun _ => ?_)
              refine z_aload_n dX6_holds_86 rfl rfl ?_
              refine z_getR 64 dX6_holds_87 fl_X6_95_6 (hT49 _) rfl (hF.2.1 49 28 64 rfl) ?_
              refine z_iload_n dX6_holds_90 rfl rfl ?_
              refine z_iconst (v := 1) dX6_holds_91 rfl ?_
              refine z_isub dX6_holds_92 ?_
              refine z_zald r.length dX6_holds_93 (hT64 _) (nI_pred _) (by omega) (by decide) ?_
              refine z_if_eq 110 dX6_holds_94 (by decide) (fun q => by first | exact absurd q ha1 | exact absurd ha1 q) (fun _ => ?_)
              refine z_aload_n dX6_holds_97 rfl rfl ?_
              refine z_getR 64 dX6_holds_98 fl_X6_95_6 (hT49 _) rfl (hF.2.1 49 28 64 rfl) ?_
              refine z_iload_n dX6_holds_101 rfl rfl ?_
              refine z_zald (r.length + 1) dX6_holds_102 (hT64 _) rfl (by omega) (by decide) ?_
              refine z_if_eq 110 dX6_holds_103 (by decide) (fun _ => ?_) (fun q => by first | exact absurd hb1 q | exact absurd q hb1)
              refine z_iconst (v := 0) dX6_holds_110 rfl ?_
              refine z_goto 139 dX6_holds_111 (by decide) ?_
              refine z_zast r.length dX6_holds_139 (hT64 _) (by decide) (nI_pred _) (by omega) (by decide) rfl ?_
              rw [z_opn_s]
              refine z_goto 237 dX6_holds_140 (by decide) ?_
              refine z_iinc (v := nI (z_c (z_I h 59 (z_c c)) + (i + 1))) dX6_holds_237 rfl (by rw [← Nat.add_assoc]; exact (nI_succ _).symm) (by decide) rfl ?_
              refine z_goto 10 dX6_holds_240 (by decide) ?_
              have e1 : a_dp (z_I h 61) (z_c (z_I h 59 (z_c c))) (i + 1) = r.length + 1 := by simp only [a_dp]; rw [if_neg c34, if_neg c66, ← hlen]; rfl
              have e2 : a_ev (fun f => m_X6_factOf h f l) (z_I h 61) (z_c (z_I h 59 (z_c c))) (i + 1) = (if z_I h 61 (z_c (z_I h 59 (z_c c)) + i) = -38 then (true && false) else (true || false)) :: r := by simp only [a_ev, a_ev1]; rw [if_neg c34, if_neg c66, hs]
              have hp2 : a_pl (upd f r.length 0) (a_ev (fun f => m_X6_factOf h f l) (z_I h 61) (z_c (z_I h 59 (z_c c))) (i + 1)) := by rw [e2]; exact a_pl_push _ hp.2.2 (by rw [if_pos c38]; rfl)
              have fin := ih (i + 1) _ (some (.int (z_I h 61 (z_c (z_I h 59 (z_c c)) + i)))) o6 o7 (by omega) hp2
              rw [e1] at fin
              exact fin
          | false =>
            cases b with
            | true =>
              have ha1 : z_I (z_opn h 64 100 f) 64 r.length = 0 := by show f r.length = 0; rw [hpa]; decide
              have ha2 : ¬ ¬ z_I (z_opn h 64 100 f) 64 r.length = 0 := by show ¬ ¬ f r.length = 0; rw [hpa]; decide
              have hb1 : ¬ z_I (z_opn h 64 100 f) 64 (r.length + 1) = 0 := by show ¬ f (r.length + 1) = 0; rw [hpb]; decide
              refine z_iinc (v := nI (r.length + 1)) dX6_holds_69 rfl (pk_m1 _) (by decide) rfl ?_
              refine z_aload_n dX6_holds_72 rfl rfl ?_
              refine z_getR 64 dX6_holds_73 fl_X6_95_6 (hT49 _) rfl (hF.2.1 49 28 64 rfl) ?_
              refine z_iload_n dX6_holds_76 rfl rfl ?_
              refine z_iconst (v := 1) dX6_holds_77 rfl ?_
              refine z_isub dX6_holds_78 ?_
              refine z_iload dX6_holds_79 rfl ?_
              refine z_bipush (v := (-38)) dX6_holds_81 rfl ?_
              refine z_icmp_ne 114 dX6_holds_83 (by decide) (fun q => by first | exact absurd q (fun q => q c38) | exact absurd (fun q => q c38) q) (fun _ => ?_)
              refine z_aload_n dX6_holds_86 rfl rfl ?_
              refine z_getR 64 dX6_holds_87 fl_X6_95_6 (hT49 _) rfl (hF.2.1 49 28 64 rfl) ?_
              refine z_iload_n dX6_holds_90 rfl rfl ?_
              refine z_iconst (v := 1) dX6_holds_91 rfl ?_
              refine z_isub dX6_holds_92 ?_
              refine z_zald r.length dX6_holds_93 (hT64 _) (nI_pred _) (by omega) (by decide) ?_
              refine z_if_eq 110 dX6_holds_94 (by decide) (fun _ => ?_) (fun q => by first | exact absurd ha1 q | exact absurd q ha1)
              refine z_iconst (v := 0) dX6_holds_110 rfl ?_
              refine z_goto 139 dX6_holds_111 (by decide) ?_
              refine z_zast r.length dX6_holds_139 (hT64 _) (by decide) (nI_pred _) (by omega) (by decide) rfl ?_
              rw [z_opn_s]
              refine z_goto 237 dX6_holds_140 (by decide) ?_
              refine z_iinc (v := nI (z_c (z_I h 59 (z_c c)) + (i + 1))) dX6_holds_237 rfl (by rw [← Nat.add_assoc]; exact (nI_succ _).symm) (by decide) rfl ?_
              refine z_goto 10 dX6_holds_240 (by decide) ?_
              have e1 : a_dp (z_I h 61) (z_c (z_I h 59 (z_c c))) (i + 1) = r.length + 1 := by simp only [a_dp]; rw [if_neg c34, if_neg c66, ← hlen]; rfl
              have e2 : a_ev (fun f => m_X6_factOf h f l) (z_I h 61) (z_c (z_I h 59 (z_c c))) (i + 1) = (if z_I h 61 (z_c (z_I h 59 (z_c c)) + i) = -38 then (false && true) else (false || true)) :: r := by simp only [a_ev, a_ev1]; rw [if_neg c34, if_neg c66, hs]
              have hp2 : a_pl (upd f r.length 0) (a_ev (fun f => m_X6_factOf h f l) (z_I h 61) (z_c (z_I h 59 (z_c c))) (i + 1)) := by rw [e2]; exact a_pl_push _ hp.2.2 (by rw [if_pos c38]; rfl)
              have fin := ih (i + 1) _ (some (.int (z_I h 61 (z_c (z_I h 59 (z_c c)) + i)))) o6 o7 (by omega) hp2
              rw [e1] at fin
              exact fin
            | false =>
              have ha1 : z_I (z_opn h 64 100 f) 64 r.length = 0 := by show f r.length = 0; rw [hpa]; decide
              have ha2 : ¬ ¬ z_I (z_opn h 64 100 f) 64 r.length = 0 := by show ¬ ¬ f r.length = 0; rw [hpa]; decide
              have hb1 : z_I (z_opn h 64 100 f) 64 (r.length + 1) = 0 := by show f (r.length + 1) = 0; rw [hpb]; decide
              refine z_iinc (v := nI (r.length + 1)) dX6_holds_69 rfl (pk_m1 _) (by decide) rfl ?_
              refine z_aload_n dX6_holds_72 rfl rfl ?_
              refine z_getR 64 dX6_holds_73 fl_X6_95_6 (hT49 _) rfl (hF.2.1 49 28 64 rfl) ?_
              refine z_iload_n dX6_holds_76 rfl rfl ?_
              refine z_iconst (v := 1) dX6_holds_77 rfl ?_
              refine z_isub dX6_holds_78 ?_
              refine z_iload dX6_holds_79 rfl ?_
              refine z_bipush (v := (-38)) dX6_holds_81 rfl ?_
              refine z_icmp_ne 114 dX6_holds_83 (by decide) (fun q => by first | exact absurd q (fun q => q c38) | exact absurd (fun q => q c38) q) (fun _ => ?_)
              refine z_aload_n dX6_holds_86 rfl rfl ?_
              refine z_getR 64 dX6_holds_87 fl_X6_95_6 (hT49 _) rfl (hF.2.1 49 28 64 rfl) ?_
              refine z_iload_n dX6_holds_90 rfl rfl ?_
              refine z_iconst (v := 1) dX6_holds_91 rfl ?_
              refine z_isub dX6_holds_92 ?_
              refine z_zald r.length dX6_holds_93 (hT64 _) (nI_pred _) (by omega) (by decide) ?_
              refine z_if_eq 110 dX6_holds_94 (by decide) (fun _ => ?_) (fun q => by first | exact absurd ha1 q | exact absurd q ha1)
              refine z_iconst (v := 0) dX6_holds_110 rfl ?_
              refine z_goto 139 dX6_holds_111 (by decide) ?_
              refine z_zast r.length dX6_holds_139 (hT64 _) (by decide) (nI_pred _) (by omega) (by decide) rfl ?_
              rw [z_opn_s]
              refine z_goto 237 dX6_holds_140 (by decide) ?_
              refine z_iinc (v := nI (z_c (z_I h 59 (z_c c)) + (i + 1))) dX6_holds_237 rfl (by rw [← Nat.add_assoc]; exact (nI_succ _).symm) (by decide) rfl ?_
              refine z_goto 10 dX6_holds_240 (by decide) ?_
              have e1 : a_dp (z_I h 61) (z_c (z_I h 59 (z_c c))) (i + 1) = r.length + 1 := by simp only [a_dp]; rw [if_neg c34, if_neg c66, ← hlen]; rfl
              have e2 : a_ev (fun f => m_X6_factOf h f l) (z_I h 61) (z_c (z_I h 59 (z_c c))) (i + 1) = (if z_I h 61 (z_c (z_I h 59 (z_c c)) + i) = -38 then (false && false) else (false || false)) :: r := by simp only [a_ev, a_ev1]; rw [if_neg c34, if_neg c66, hs]
              have hp2 : a_pl (upd f r.length 0) (a_ev (fun f => m_X6_factOf h f l) (z_I h 61) (z_c (z_I h 59 (z_c c))) (i + 1)) := by rw [e2]; exact a_pl_push _ hp.2.2 (by rw [if_pos c38]; rfl)
              have fin := ih (i + 1) _ (some (.int (z_I h 61 (z_c (z_I h 59 (z_c c)) + i)))) o6 o7 (by omega) hp2
              rw [e1] at fin
              exact fin
        · cases a with
          | true =>
            cases b with
            | true =>
              have ha1 : ¬ z_I (z_opn h 64 100 f) 64 r.length = 0 := by show ¬ f r.length = 0; rw [hpa]; decide
              have ha2 : ¬ z_I (z_opn h 64 100 f) 64 r.length = 0 := by show ¬ f r.length = 0; rw [hpa]; decide
              have hb1 : ¬ z_I (z_opn h 64 100 f) 64 (r.length + 1) = 0 := by show ¬ f (r.length + 1) = 0; rw [hpb]; decide
              refine z_iinc (v := nI (r.length + 1)) dX6_holds_69 rfl (pk_m1 _) (by decide) rfl ?_
              refine z_aload_n dX6_holds_72 rfl rfl ?_
              refine z_getR 64 dX6_holds_73 fl_X6_95_6 (hT49 _) rfl (hF.2.1 49 28 64 rfl) ?_
              refine z_iload_n dX6_holds_76 rfl rfl ?_
              refine z_iconst (v := 1) dX6_holds_77 rfl ?_
              refine z_isub dX6_holds_78 ?_
              refine z_iload dX6_holds_79 rfl ?_
              refine z_bipush (v := (-38)) dX6_holds_81 rfl ?_
              refine z_icmp_ne 114 dX6_holds_83 (by decide) (fun _ => ?_) (fun q => by first | exact absurd c38 q | exact absurd q c38)
              refine z_aload_n dX6_holds_114 rfl rfl ?_
              refine z_getR 64 dX6_holds_115 fl_X6_95_6 (hT49 _) rfl (hF.2.1 49 28 64 rfl) ?_
              refine z_iload_n dX6_holds_118 rfl rfl ?_
              refine z_iconst (v := 1) dX6_holds_119 rfl ?_
              refine z_isub dX6_holds_120 ?_
              refine z_zald r.length dX6_holds_121 (hT64 _) (nI_pred _) (by omega) (by decide) ?_
              refine z_if_ne 134 dX6_holds_122 (by decide) (fun _ => ?_) (fun q => by first | exact absurd ha2 q | exact absurd q ha2)
              refine z_iconst (v := 1) dX6_holds_134 rfl ?_
              refine z_goto 139 dX6_holds_135 (by decide) ?_
              refine z_zast r.length dX6_holds_139 (hT64 _) (by decide) (nI_pred _) (by omega) (by decide) rfl ?_
              rw [z_opn_s]
              refine z_goto 237 dX6_holds_140 (by decide) ?_
              refine z_iinc (v := nI (z_c (z_I h 59 (z_c c)) + (i + 1))) dX6_holds_237 rfl (by rw [← Nat.add_assoc]; exact (nI_succ _).symm) (by decide) rfl ?_
              refine z_goto 10 dX6_holds_240 (by decide) ?_
              have e1 : a_dp (z_I h 61) (z_c (z_I h 59 (z_c c))) (i + 1) = r.length + 1 := by simp only [a_dp]; rw [if_neg c34, if_neg c66, ← hlen]; rfl
              have e2 : a_ev (fun f => m_X6_factOf h f l) (z_I h 61) (z_c (z_I h 59 (z_c c))) (i + 1) = (if z_I h 61 (z_c (z_I h 59 (z_c c)) + i) = -38 then (true && true) else (true || true)) :: r := by simp only [a_ev, a_ev1]; rw [if_neg c34, if_neg c66, hs]
              have hp2 : a_pl (upd f r.length 1) (a_ev (fun f => m_X6_factOf h f l) (z_I h 61) (z_c (z_I h 59 (z_c c))) (i + 1)) := by rw [e2]; exact a_pl_push _ hp.2.2 (by rw [if_neg c38]; rfl)
              have fin := ih (i + 1) _ (some (.int (z_I h 61 (z_c (z_I h 59 (z_c c)) + i)))) o6 o7 (by omega) hp2
              rw [e1] at fin
              exact fin
            | false =>
              have ha1 : ¬ z_I (z_opn h 64 100 f) 64 r.length = 0 := by show ¬ f r.length = 0; rw [hpa]; decide
              have ha2 : ¬ z_I (z_opn h 64 100 f) 64 r.length = 0 := by show ¬ f r.length = 0; rw [hpa]; decide
              have hb1 : z_I (z_opn h 64 100 f) 64 (r.length + 1) = 0 := by show f (r.length + 1) = 0; rw [hpb]; decide
              refine z_iinc (v := nI (r.length + 1)) dX6_holds_69 rfl (pk_m1 _) (by decide) rfl ?_
              refine z_aload_n dX6_holds_72 rfl rfl ?_
              refine z_getR 64 dX6_holds_73 fl_X6_95_6 (hT49 _) rfl (hF.2.1 49 28 64 rfl) ?_
              refine z_iload_n dX6_holds_76 rfl rfl ?_
              refine z_iconst (v := 1) dX6_holds_77 rfl ?_
              refine z_isub dX6_holds_78 ?_
              refine z_iload dX6_holds_79 rfl ?_
              refine z_bipush (v := (-38)) dX6_holds_81 rfl ?_
              refine z_icmp_ne 114 dX6_holds_83 (by decide) (fun _ => ?_) (fun q => by first | exact absurd c38 q | exact absurd q c38)
              refine z_aload_n dX6_holds_114 rfl rfl ?_
              refine z_getR 64 dX6_holds_115 fl_X6_95_6 (hT49 _) rfl (hF.2.1 49 28 64 rfl) ?_
              refine z_iload_n dX6_holds_118 rfl rfl ?_
              refine z_iconst (v := 1) dX6_holds_119 rfl ?_
              refine z_isub dX6_holds_120 ?_
              refine z_zald r.length dX6_holds_121 (hT64 _) (nI_pred _) (by omega) (by decide) ?_
              refine z_if_ne 134 dX6_holds_122 (by decide) (fun _ => ?_) (fun q => by first | exact absurd ha2 q | exact absurd q ha2)
              refine z_iconst (v := 1) dX6_holds_134 rfl ?_
              refine z_goto 139 dX6_holds_135 (by decide) ?_
              refine z_zast r.length dX6_holds_139 (hT64 _) (by decide) (nI_pred _) (by omega) (by decide) rfl ?_
              rw [z_opn_s]
              refine z_goto 237 dX6_holds_140 (by decide) ?_
              refine z_iinc (v := nI (z_c (z_I h 59 (z_c c)) + (i + 1))) dX6_holds_237 rfl (by rw [← Nat.add_assoc]; exact (nI_succ _).symm) (by decide) rfl ?_
              refine z_goto 10 dX6_holds_240 (by decide) ?_
              have e1 : a_dp (z_I h 61) (z_c (z_I h 59 (z_c c))) (i + 1) = r.length + 1 := by simp only [a_dp]; rw [if_neg c34, if_neg c66, ← hlen]; rfl
              have e2 : a_ev (fun f => m_X6_factOf h f l) (z_I h 61) (z_c (z_I h 59 (z_c c))) (i + 1) = (if z_I h 61 (z_c (z_I h 59 (z_c c)) + i) = -38 then (true && false) else (true || false)) :: r := by simp only [a_ev, a_ev1]; rw [if_neg c34, if_neg c66, hs]
              have hp2 : a_pl (upd f r.length 1) (a_ev (fun f => m_X6_factOf h f l) (z_I h 61) (z_c (z_I h 59 (z_c c))) (i + 1)) := by rw [e2]; exact a_pl_push _ hp.2.2 (by rw [if_neg c38]; rfl)
              have fin := ih (i + 1) _ (some (.int (z_I h 61 (z_c (z_I h 59 (z_c c)) + i)))) o6 o7 (by omega) hp2
              rw [e1] at fin
              exact fin
          | false =>
            cases b with
            | true =>
              have ha1 : z_I (z_opn h 64 100 f) 64 r.length = 0 := by show f r.length = 0; rw [hpa]; decide
              have ha2 : ¬ ¬ z_I (z_opn h 64 100 f) 64 r.length = 0 := by show ¬ ¬ f r.length = 0; rw [hpa]; decide
              have hb1 : ¬ z_I (z_opn h 64 100 f) 64 (r.length + 1) = 0 := by show ¬ f (r.length + 1) = 0; rw [hpb]; decide
              refine z_iinc (v := nI (r.length + 1)) dX6_holds_69 rfl (pk_m1 _) (by decide) rfl ?_
              refine z_aload_n dX6_holds_72 rfl rfl ?_
              refine z_getR 64 dX6_holds_73 fl_X6_95_6 (hT49 _) rfl (hF.2.1 49 28 64 rfl) ?_
              refine z_iload_n dX6_holds_76 rfl rfl ?_
              refine z_iconst (v := 1) dX6_holds_77 rfl ?_
              refine z_isub dX6_holds_78 ?_
              refine z_iload dX6_holds_79 rfl ?_
              refine z_bipush (v := (-38)) dX6_holds_81 rfl ?_
              refine z_icmp_ne 114 dX6_holds_83 (by decide) (fun _ => ?_) (fun q => by first | exact absurd c38 q | exact absurd q c38)
              refine z_aload_n dX6_holds_114 rfl rfl ?_
              refine z_getR 64 dX6_holds_115 fl_X6_95_6 (hT49 _) rfl (hF.2.1 49 28 64 rfl) ?_
              refine z_iload_n dX6_holds_118 rfl rfl ?_
              refine z_iconst (v := 1) dX6_holds_119 rfl ?_
              refine z_isub dX6_holds_120 ?_
              refine z_zald r.length dX6_holds_121 (hT64 _) (nI_pred _) (by omega) (by decide) ?_
              refine z_if_ne 134 dX6_holds_122 (by decide) (fun q => by first | exact absurd q ha2 | exact absurd ha2 q) (fun _ => ?_)
              refine z_aload_n dX6_holds_125 rfl rfl ?_
              refine z_getR 64 dX6_holds_126 fl_X6_95_6 (hT49 _) rfl (hF.2.1 49 28 64 rfl) ?_
              refine z_iload_n dX6_holds_129 rfl rfl ?_
              refine z_zald (r.length + 1) dX6_holds_130 (hT64 _) rfl (by omega) (by decide) ?_
              refine z_if_eq 138 dX6_holds_131 (by decide) (fun q => by first | exact absurd q hb1 | exact absurd hb1 q) (fun _ => ?_)
              refine z_iconst (v := 1) dX6_holds_134 rfl ?_
              refine z_goto 139 dX6_holds_135 (by decide) ?_
              refine z_zast r.length dX6_holds_139 (hT64 _) (by decide) (nI_pred _) (by omega) (by decide) rfl ?_
              rw [z_opn_s]
              refine z_goto 237 dX6_holds_140 (by decide) ?_
              refine z_iinc (v := nI (z_c (z_I h 59 (z_c c)) + (i + 1))) dX6_holds_237 rfl (by rw [← Nat.add_assoc]; exact (nI_succ _).symm) (by decide) rfl ?_
              refine z_goto 10 dX6_holds_240 (by decide) ?_
              have e1 : a_dp (z_I h 61) (z_c (z_I h 59 (z_c c))) (i + 1) = r.length + 1 := by simp only [a_dp]; rw [if_neg c34, if_neg c66, ← hlen]; rfl
              have e2 : a_ev (fun f => m_X6_factOf h f l) (z_I h 61) (z_c (z_I h 59 (z_c c))) (i + 1) = (if z_I h 61 (z_c (z_I h 59 (z_c c)) + i) = -38 then (false && true) else (false || true)) :: r := by simp only [a_ev, a_ev1]; rw [if_neg c34, if_neg c66, hs]
              have hp2 : a_pl (upd f r.length 1) (a_ev (fun f => m_X6_factOf h f l) (z_I h 61) (z_c (z_I h 59 (z_c c))) (i + 1)) := by rw [e2]; exact a_pl_push _ hp.2.2 (by rw [if_neg c38]; rfl)
              have fin := ih (i + 1) _ (some (.int (z_I h 61 (z_c (z_I h 59 (z_c c)) + i)))) o6 o7 (by omega) hp2
              rw [e1] at fin
              exact fin
            | false =>
              have ha1 : z_I (z_opn h 64 100 f) 64 r.length = 0 := by show f r.length = 0; rw [hpa]; decide
              have ha2 : ¬ ¬ z_I (z_opn h 64 100 f) 64 r.length = 0 := by show ¬ ¬ f r.length = 0; rw [hpa]; decide
              have hb1 : z_I (z_opn h 64 100 f) 64 (r.length + 1) = 0 := by show f (r.length + 1) = 0; rw [hpb]; decide
              refine z_iinc (v := nI (r.length + 1)) dX6_holds_69 rfl (pk_m1 _) (by decide) rfl ?_
              refine z_aload_n dX6_holds_72 rfl rfl ?_
              refine z_getR 64 dX6_holds_73 fl_X6_95_6 (hT49 _) rfl (hF.2.1 49 28 64 rfl) ?_
              refine z_iload_n dX6_holds_76 rfl rfl ?_
              refine z_iconst (v := 1) dX6_holds_77 rfl ?_
              refine z_isub dX6_holds_78 ?_
              refine z_iload dX6_holds_79 rfl ?_
              refine z_bipush (v := (-38)) dX6_holds_81 rfl ?_
              refine z_icmp_ne 114 dX6_holds_83 (by decide) (fun _ => ?_) (fun q => by first | exact absurd c38 q | exact absurd q c38)
              refine z_aload_n dX6_holds_114 rfl rfl ?_
              refine z_getR 64 dX6_holds_115 fl_X6_95_6 (hT49 _) rfl (hF.2.1 49 28 64 rfl) ?_
              refine z_iload_n dX6_holds_118 rfl rfl ?_
              refine z_iconst (v := 1) dX6_holds_119 rfl ?_
              refine z_isub dX6_holds_120 ?_
              refine z_zald r.length dX6_holds_121 (hT64 _) (nI_pred _) (by omega) (by decide) ?_
              refine z_if_ne 134 dX6_holds_122 (by decide) (fun q => by first | exact absurd q ha2 | exact absurd ha2 q) (fun _ => ?_)
              refine z_aload_n dX6_holds_125 rfl rfl ?_
              refine z_getR 64 dX6_holds_126 fl_X6_95_6 (hT49 _) rfl (hF.2.1 49 28 64 rfl) ?_
              refine z_iload_n dX6_holds_129 rfl rfl ?_
              refine z_zald (r.length + 1) dX6_holds_130 (hT64 _) rfl (by omega) (by decide) ?_
              refine z_if_eq 138 dX6_holds_131 (by decide) (fun _ => ?_) (fun q => by first | exact absurd hb1 q | exact absurd q hb1)
              refine z_iconst (v := 0) dX6_holds_138 rfl ?_
              refine z_zast r.length dX6_holds_139 (hT64 _) (by decide) (nI_pred _) (by omega) (by decide) rfl ?_
              rw [z_opn_s]
              refine z_goto 237 dX6_holds_140 (by decide) ?_
              refine z_iinc (v := nI (z_c (z_I h 59 (z_c c)) + (i + 1))) dX6_holds_237 rfl (by rw [← Nat.add_assoc]; exact (nI_succ _).symm) (by decide) rfl ?_
              refine z_goto 10 dX6_holds_240 (by decide) ?_
              have e1 : a_dp (z_I h 61) (z_c (z_I h 59 (z_c c))) (i + 1) = r.length + 1 := by simp only [a_dp]; rw [if_neg c34, if_neg c66, ← hlen]; rfl
              have e2 : a_ev (fun f => m_X6_factOf h f l) (z_I h 61) (z_c (z_I h 59 (z_c c))) (i + 1) = (if z_I h 61 (z_c (z_I h 59 (z_c c)) + i) = -38 then (false && false) else (false || false)) :: r := by simp only [a_ev, a_ev1]; rw [if_neg c34, if_neg c66, hs]
              have hp2 : a_pl (upd f r.length 0) (a_ev (fun f => m_X6_factOf h f l) (z_I h 61) (z_c (z_I h 59 (z_c c))) (i + 1)) := by rw [e2]; exact a_pl_push _ hp.2.2 (by rw [if_neg c38]; rfl)
              have fin := ih (i + 1) _ (some (.int (z_I h 61 (z_c (z_I h 59 (z_c c)) + i)))) o6 o7 (by omega) hp2
              rw [e1] at fin
              exact fin
    · skip
      obtain ⟨b, r, hs⟩ : ∃ b r, a_ev (fun f => m_X6_factOf h f l) (z_I h 61) (z_c (z_I h 59 (z_c c))) i = b :: r := by
        cases hs : a_ev (fun f => m_X6_factOf h f l) (z_I h 61) (z_c (z_I h 59 (z_c c))) i with
        | nil => rw [hs, List.length_nil] at hlen; have := w1 c34; omega
        | cons b r => exact ⟨b, r, rfl⟩
      rw [hs] at hlen hp
      rw [List.length_cons] at hlen
      rw [← hlen]
      cases b with
      | true =>
        have hb1 : ¬ z_I (z_opn h 64 100 f) 64 r.length = 0 := by
          have := hp.1
          show ¬ f r.length = 0
          rw [this]
          decide
        refine z_aload_n dX6_holds_37 rfl rfl ?_
        refine z_getR 64 dX6_holds_38 fl_X6_95_6 (hT49 _) rfl (hF.2.1 49 28 64 rfl) ?_
        refine z_iload_n dX6_holds_41 rfl rfl ?_
        refine z_iconst (v := 1) dX6_holds_42 rfl ?_
        refine z_isub dX6_holds_43 ?_
        refine z_aload_n dX6_holds_44 rfl rfl ?_
        refine z_getR 64 dX6_holds_45 fl_X6_95_6 (hT49 _) rfl (hF.2.1 49 28 64 rfl) ?_
        refine z_iload_n dX6_holds_48 rfl rfl ?_
        refine z_iconst (v := 1) dX6_holds_49 rfl ?_
        refine z_isub dX6_holds_50 ?_
        refine z_zald r.length dX6_holds_51 (hT64 _) (nI_pred _) (by omega) (by decide) ?_
        refine z_if_ne 59 dX6_holds_52 (by decide) (fun _ => ?_) (fun q => by first | exact absurd hb1 q | exact absurd q hb1)
        refine z_iconst (v := 0) dX6_holds_59 rfl ?_
        refine z_zast r.length dX6_holds_60 (hT64 _) (by decide) (nI_pred _) (by omega) (by decide) rfl ?_
        rw [z_opn_s]
        refine z_goto 237 dX6_holds_61 (by decide) ?_
        refine z_iinc (v := nI (z_c (z_I h 59 (z_c c)) + (i + 1))) dX6_holds_237 rfl (by rw [← Nat.add_assoc]; exact (nI_succ _).symm) (by decide) rfl ?_
        refine z_goto 10 dX6_holds_240 (by decide) ?_
        have e1 : a_dp (z_I h 61) (z_c (z_I h 59 (z_c c))) (i + 1) = r.length + 1 := by simp only [a_dp]; rw [if_pos c34, ← hlen]
        have e2 : a_ev (fun f => m_X6_factOf h f l) (z_I h 61) (z_c (z_I h 59 (z_c c))) (i + 1) = (!true) :: r := by simp only [a_ev, a_ev1]; rw [if_pos c34, hs]
        have hp2 : a_pl (upd f r.length 0) (a_ev (fun f => m_X6_factOf h f l) (z_I h 61) (z_c (z_I h 59 (z_c c))) (i + 1)) := by rw [e2]; exact a_pl_push _ hp.2 rfl
        have fin := ih (i + 1) _ (some (.int (z_I h 61 (z_c (z_I h 59 (z_c c)) + i)))) o6 o7 (by omega) hp2
        rw [e1] at fin
        exact fin
      | false =>
        have hb1 : ¬ ¬ z_I (z_opn h 64 100 f) 64 r.length = 0 := by
          have := hp.1
          show ¬ ¬ f r.length = 0
          rw [this]
          decide
        refine z_aload_n dX6_holds_37 rfl rfl ?_
        refine z_getR 64 dX6_holds_38 fl_X6_95_6 (hT49 _) rfl (hF.2.1 49 28 64 rfl) ?_
        refine z_iload_n dX6_holds_41 rfl rfl ?_
        refine z_iconst (v := 1) dX6_holds_42 rfl ?_
        refine z_isub dX6_holds_43 ?_
        refine z_aload_n dX6_holds_44 rfl rfl ?_
        refine z_getR 64 dX6_holds_45 fl_X6_95_6 (hT49 _) rfl (hF.2.1 49 28 64 rfl) ?_
        refine z_iload_n dX6_holds_48 rfl rfl ?_
        refine z_iconst (v := 1) dX6_holds_49 rfl ?_
        refine z_isub dX6_holds_50 ?_
        refine z_zald r.length dX6_holds_51 (hT64 _) (nI_pred _) (by omega) (by decide) ?_
        refine z_if_ne 59 dX6_holds_52 (by decide) (fun q => by first | exact absurd q hb1 | exact absurd hb1 q) (fun _ => ?_)
        refine z_iconst (v := 1) dX6_holds_55 rfl ?_
        refine z_goto 60 dX6_holds_56 (by decide) ?_
        refine z_zast r.length dX6_holds_60 (hT64 _) (by decide) (nI_pred _) (by omega) (by decide) rfl ?_
        rw [z_opn_s]
        refine z_goto 237 dX6_holds_61 (by decide) ?_
        refine z_iinc (v := nI (z_c (z_I h 59 (z_c c)) + (i + 1))) dX6_holds_237 rfl (by rw [← Nat.add_assoc]; exact (nI_succ _).symm) (by decide) rfl ?_
        refine z_goto 10 dX6_holds_240 (by decide) ?_
        have e1 : a_dp (z_I h 61) (z_c (z_I h 59 (z_c c))) (i + 1) = r.length + 1 := by simp only [a_dp]; rw [if_pos c34, ← hlen]
        have e2 : a_ev (fun f => m_X6_factOf h f l) (z_I h 61) (z_c (z_I h 59 (z_c c))) (i + 1) = (!false) :: r := by simp only [a_ev, a_ev1]; rw [if_pos c34, hs]
        have hp2 : a_pl (upd f r.length 1) (a_ev (fun f => m_X6_factOf h f l) (z_I h 61) (z_c (z_I h 59 (z_c c))) (i + 1)) := by rw [e2]; exact a_pl_push _ hp.2 rfl
        have fin := ih (i + 1) _ (some (.int (z_I h 61 (z_c (z_I h 59 (z_c c)) + i)))) o6 o7 (by omega) hp2
        rw [e1] at fin
        exact fin
