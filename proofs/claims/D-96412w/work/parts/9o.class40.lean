/-! THE CLASS's READER: told, tested, clause (printed by class40.py) -/
set_option maxRecDepth 20000
theorem z_rN.pg {r d : Nat} {h h1 : z_H} {x : Nat ⊕ (Nat × Int32)} {o : Outcome} {h' : z_H} (hg : z_pg r h h1) (hq : z_rN r d h1 x o h') : z_rN r d h x o h' := by
  cases x with
  | inl e => exact z_rT.pg hg hq
  | inr y =>
    obtain ⟨q1, q2, q3, q4⟩ := hq
    exact ⟨q1, hg.trans q2, q3, q4⟩
def a_tl (tx : Nat → Int32) (n : Nat) (ws : List Int32) (p : Nat) : Nat ⊕ (Nat × Int32) := a_bd (a_wd tx n ws p) fun b => a_nm tx n b
theorem c_X14_told {Γ : z_W} {h : z_H} {r n p d A : Nat} {tx : Nat → Int32} {s v : Nat} {ws : List Int32} (hr : z_Rr h r tx n p d A) (hs : s < 16) (hv : v < 16) (hneg : ∀ x ∈ ws, ¬ x = -1) (hS : z_Sx h s v ws) : z_C Γ M_X14_told (z_rm 7 2 14) [.ref r, .ref s] h (z_rN r d h (a_tl tx n ws p)) := by
  obtain ⟨r1, r2, r3, r4, r5, r6, r7, r8, r9, r10, r11, r12, r13, r14⟩ := id hr
  refine z_C.of (by decide +kernel) rfl [some (.ref r), some (.ref s)] (Nat.le_of_ble_eq_true rfl) rfl ?_
  refine z_aload_n dX14_told_0 rfl rfl ?_
  refine z_aload_n dX14_told_1 rfl rfl ?_
  unfold a_tl
  refine z_vcall vl_X14_102_14 (c_X14_word hr hs hv hneg hS) dX14_told_2 rfl rfl r4 ⟨by decide, by decide⟩ (Nat.le_of_ble_eq_true rfl) (Nat.le_of_ble_eq_true rfl) (Nat.le_of_ble_eq_true rfl) (fun w h1 q => ?_) (fun y h1 q => ?_)
  · cases hw : a_wd tx n ws p with
    | inl e =>
      rw [hw] at q
      obtain ⟨y, q1, -⟩ := q
      cases q1
    | inr b =>
      rw [hw] at q
      obtain ⟨q1, q2, q3, q4⟩ := q
      cases q1
      obtain ⟨-, hbn⟩ := a_wd_b ws p r9 (fun c hc q => hneg c hc q.symm) hw
      have hr1 : z_Rr h1 r tx n b d A := hr.pg q2 q3 q4 hbn r11
      refine z_aload_n dX14_told_5 rfl rfl ?_
      refine z_vcall vl_X14_78_14 (c_X14_number hr1) dX14_told_6 rfl rfl hr1.2.2.2.1 ⟨by decide, by decide⟩ (Nat.le_of_ble_eq_true rfl) (Nat.le_of_ble_eq_true rfl) (Nat.le_of_ble_eq_true rfl) (fun w2 h2 q => ?_) (fun y h2 q => ?_)
      · cases hm : a_nm tx n b with
        | inl e =>
          rw [hm] at q
          obtain ⟨y, q1, -⟩ := q
          cases q1
        | inr y =>
          have q0 := q
          rw [hm] at q
          obtain ⟨u1, -⟩ := q
          cases u1
          refine z_iret dX14_told_9 rfl rfl (Nat.le_of_ble_eq_true rfl) (Nat.le_of_ble_eq_true rfl) ?_
          show z_rN r d h (a_nm tx n b) _ _
          exact z_rN.pg q2 q0
      · refine z_thOut (by decide) (Nat.le_of_ble_eq_true rfl) (Nat.le_of_ble_eq_true rfl) ?_
        show z_rN r d h (a_nm tx n b) _ _
        exact z_rN.pg q2 q
  · refine z_thOut (by decide) (Nat.le_of_ble_eq_true rfl) (Nat.le_of_ble_eq_true rfl) ?_
    cases hw : a_wd tx n ws p with
    | inl e =>
      rw [hw] at q
      exact q
    | inr b =>
      rw [hw] at q
      cases q.1
def a_td (tx : Nat → Int32) (n : Nat) (ws : List Int32) (p : Nat) : Nat ⊕ (Nat × Int32 × List Int32) := a_bd (a_wd tx n ws p) fun b => a_bd (a_nm tx n b) fun r => if a_cr tx n r.1 = 32 then a_bd (a_E tx n (r.1 + 1)) fun q => .inr (q.1, r.2, q.2) else .inl r.1
def a_kc {α : Type} (p : Nat) : Nat ⊕ (Nat × α) → Nat
  | .inl e => 4 * (e - p) + 3
  | .inr y => 4 * (y.1 - p)
/-- it throws: the air can't be read at e -/
def z_rO (h0 : z_H) (e : Nat) : Outcome → z_H → Prop := fun o h' => ∃ y, o = .threw y ∧ z_gr h0 h' ∧ z_T h' y = some (.inr (.float, 1)) ∧ z_I h' y 6 = nI e
theorem z_rT.gr {h0 h h' : z_H} {e : Nat} {o : Outcome} (hg : z_gr h0 h) (hq : z_rT (z_n h0) e h o h') : z_rO h0 e o h' := by
  obtain ⟨y, q1, q2, q3⟩ := hq
  exact ⟨y, q1, z_pg.gr hg q2, q3⟩
def z_rD (h0 : z_H) (tx : Nat → Int32) (n : Nat) (m bs sf w : Int32) (cls : List a_Cl) : Nat ⊕ (Nat × Int32 × List Int32) → Outcome → z_H → Prop
  | .inl e => z_rO h0 e
  | .inr (b, v, S) => fun o h' => o = .returned none ∧ z_SB h0 h' tx n b m bs sf (cls ++ [(w, v, S)])
theorem z_m1m (x : Int32) : -1 * x = -x := by
  apply Int32.toBitVec_inj.mp
  rw [Int32.toBitVec_mul, Int32.toBitVec_neg]
  show (-1#32) * x.toBitVec = -x.toBitVec
  rw [BitVec.neg_mul, BitVec.one_mul]
theorem a_td_lt {tx : Nat → Int32} {n p : Nat} {ws : List Int32} {y : Nat × Int32 × List Int32} (hp : p ≤ n) (hneg : ∀ x ∈ ws, ¬ x = -1) (h : a_td tx n ws p = .inr y) : p + ws.length + 5 ≤ y.1 ∧ y.1 ≤ n := by
  unfold a_td at h
  cases hw : a_wd tx n ws p with
  | inl e => rw [hw] at h; cases h
  | inr b1 =>
    rw [hw] at h
    obtain ⟨hb1, hb1n⟩ := a_wd_b ws p hp (fun c hc q => hneg c hc q.symm) hw
    have h : a_bd (a_nm tx n b1) (fun r => if a_cr tx n r.1 = 32 then a_bd (a_E tx n (r.1 + 1)) fun q => .inr (q.1, r.2, q.2) else .inl r.1) = .inr y := h
    cases hm : a_nm tx n b1 with
    | inl e => rw [hm] at h; cases h
    | inr z =>
      obtain ⟨b2, nv⟩ := z
      rw [hm] at h
      obtain ⟨hb2, hb2n⟩ := a_nm_b hm
      have h : (if a_cr tx n b2 = 32 then a_bd (a_E tx n (b2 + 1)) fun q => .inr (q.1, nv, q.2) else .inl b2) = .inr y := h
      by_cases c : a_cr tx n b2 = 32
      · rw [if_pos c] at h
        have hb2l : b2 < n := a_cr_lt (by rw [c]; decide)
        have hgo : a_go n (b2 + 1) 3 (a_E tx n (b2 + 1)) := a_ps_go (3 * n + 3) 2 0 (b2 + 1) hb2l
        cases hE : a_E tx n (b2 + 1) with
        | inl e => rw [hE] at h; cases h
        | inr q =>
          obtain ⟨b, S⟩ := q
          rw [hE] at h hgo
          have := hgo.2 b S rfl
          cases h
          show p + ws.length + 5 ≤ b ∧ b ≤ n
          omega
      · rw [if_neg c] at h
        cases h
theorem c_X14_tested {Γ : z_W} {h0 h : z_H} {n p s v : Nat} {tx : Nat → Int32} {ws : List Int32} {m bs sf k w : Int32} {cls : List a_Cl} (hB : z_SB h0 h tx n p m bs sf cls) (hs : s < 16) (hv : v < 16) (hneg : ∀ x ∈ ws, ¬ x = -1) (hws : 3 ≤ ws.length) (hS : z_Sx h s v ws) (hcl : cls.length < 33) (hw : (w = 0 ∧ k = 1) ∨ (w = 1 ∧ k = -1)) : z_C Γ M_X14_tested (z_rm 23 (a_kc p (a_td tx n ws p)) (33 * a_kc p (a_td tx n ws p))) [.ref (z_n h0), .ref s, .int k] h (z_rD h0 tx n m bs sf w cls (a_td tx n ws p)) := by
  have hr := hB.2.1
  have hgr := hB.1
  obtain ⟨r1, r2, r3, r4, r5, r6, r7, r8, r9, r10, r11, r12, r13, r14⟩ := id hr
  refine z_C.of (by decide +kernel) rfl [some (.ref (z_n h0)), some (.ref s), some (.int k), none] (Nat.le_of_ble_eq_true rfl) rfl ?_
  refine z_aload_n dX14_tested_0 rfl rfl ?_
  refine z_aload_n dX14_tested_1 rfl rfl ?_
  have C := c_X14_word (Γ := Γ) hr hs hv hneg hS
  cases hwd : a_wd tx n ws p with
  | inl e =>
    have eX : a_td tx n ws p = .inl e := by unfold a_td; rw [hwd]; rfl
    rw [eX]
    rw [hwd] at C
    show z_G Γ M_X14_tested (z_rm 23 (4 * (e - p) + 3) (33 * (4 * (e - p) + 3))) (z_rO h0 e) 0 0 _ _ _ h
    refine z_vcall vl_X14_102_14 C dX14_tested_2 rfl rfl r4 (z_rq (by decide) (by decide)) (Nat.le_of_ble_eq_true rfl) (by show 0 + 1 ≤ 4 * (e - p) + 3; omega) (by show 0 + 7 ≤ 33 * (4 * (e - p) + 3); omega) (fun v h1 q => ?_) (fun y h1 q => ?_)
    · obtain ⟨y, q1, -⟩ := q
      cases q1
    · exact z_thOut (by decide) (by show 0 + 1 ≤ 4 * (e - p) + 3; omega) (by show 0 + 7 ≤ 33 * (4 * (e - p) + 3); omega) (z_rT.gr hgr q)
  | inr b1 =>
    rw [hwd] at C
    obtain ⟨hb1, hb1n⟩ := a_wd_b ws p r9 (fun c hc q => hneg c hc q.symm) hwd
    have eX : a_td tx n ws p = a_bd (a_nm tx n b1) fun r => if a_cr tx n r.1 = 32 then a_bd (a_E tx n (r.1 + 1)) fun q => .inr (q.1, r.2, q.2) else .inl r.1 := by unfold a_td; rw [hwd]; rfl
    rw [eX]
    have hkk : 3 ≤ a_kc p (a_bd (a_nm tx n b1) fun r => if a_cr tx n r.1 = 32 then a_bd (a_E tx n (r.1 + 1)) fun q => .inr (q.1, r.2, q.2) else .inl r.1 : Nat ⊕ (Nat × Int32 × List Int32)) := by
      cases hX : (a_bd (a_nm tx n b1) fun r => if a_cr tx n r.1 = 32 then a_bd (a_E tx n (r.1 + 1)) fun q => .inr (q.1, r.2, q.2) else .inl r.1 : Nat ⊕ (Nat × Int32 × List Int32)) with
      | inl e => show 3 ≤ 4 * (e - p) + 3; omega
      | inr y =>
        have := a_td_lt r9 hneg (eX.trans hX)
        show 3 ≤ 4 * (y.1 - p)
        omega
    generalize hKK : a_kc p (a_bd (a_nm tx n b1) fun r => if a_cr tx n r.1 = 32 then a_bd (a_E tx n (r.1 + 1)) fun q => .inr (q.1, r.2, q.2) else .inl r.1 : Nat ⊕ (Nat × Int32 × List Int32)) = kk at hkk ⊢
    refine z_vcall vl_X14_102_14 C dX14_tested_2 rfl rfl r4 (z_rq (by decide) (by decide)) (Nat.le_of_ble_eq_true rfl) (by show 0 + 1 ≤ kk; omega) (by show 0 + 7 ≤ 33 * kk; omega) (fun v h1 q => ?_) (fun y h1 q => ?_)
    · obtain ⟨q1, q2, q3, q4⟩ := q
      cases q1
      refine z_wid 1 7 (Nat.le_refl _) (Nat.le_refl _) ?_
      have hB1 := hB.pg q2 q3 q4 hb1n
      have hr1 := hB1.2.1
      refine z_aload_n dX14_tested_5 rfl rfl ?_
      have C2 := c_X14_number (Γ := Γ) hr1
      cases hm : a_nm tx n b1 with
      | inl e =>
        rw [hm] at C2
        refine z_vcall vl_X14_78_14 C2 dX14_tested_6 rfl rfl hr1.2.2.2.1 (z_rq (by decide) (by decide)) (Nat.le_of_ble_eq_true rfl) (by show 1 + 1 ≤ kk; omega) (by show 7 + 7 ≤ 33 * kk; omega) (fun v h2 q => ?_) (fun y h2 q => ?_)
        · obtain ⟨y, q1, -⟩ := q
          cases q1
        · exact z_thOut (by decide) (by show 1 + 1 ≤ kk; omega) (by show 7 + 7 ≤ 33 * kk; omega) (z_rT.gr hB1.1 q)
      | inr y =>
        obtain ⟨b2, nv⟩ := y
        rw [hm] at C2 hKK
        obtain ⟨hb2, hb2n⟩ := a_nm_b hm
        refine z_vcall vl_X14_78_14 C2 dX14_tested_6 rfl rfl hr1.2.2.2.1 (z_rq (by decide) (by decide)) (Nat.le_of_ble_eq_true rfl) (by show 1 + 1 ≤ kk; omega) (by show 7 + 7 ≤ 33 * kk; omega) (fun v h2 q => ?_) (fun y h2 q => ?_)
        · obtain ⟨u1, u2, u3, u4⟩ := q
          cases u1
          refine z_wid 2 14 (Nat.le_refl _) (Nat.le_refl _) ?_
          have hB2 := hB1.pg u2 u3 u4 hb2n
          have hr2 := hB2.2.1
          refine z_istore_n dX14_tested_9 rfl (by decide) rfl ?_
          refine z_lsq [some (.ref (z_n h0)), some (.ref s), some (.int k), some (.int nv)] rfl ?_
          refine z_aload_n dX14_tested_10 rfl rfl ?_
          refine z_bipush (v := 32) dX14_tested_11 rfl ?_
          by_cases c32 : a_cr tx n b2 = 32
          · have hb2l : b2 < n := a_cr_lt (by rw [c32]; decide)
            have eY : (a_bd (.inr (b2, nv) : Nat ⊕ (Nat × Int32)) fun r => if a_cr tx n r.1 = 32 then a_bd (a_E tx n (r.1 + 1)) fun q => .inr (q.1, r.2, q.2) else .inl r.1 : Nat ⊕ (Nat × Int32 × List Int32)) = a_bd (a_E tx n (b2 + 1)) fun q => .inr (q.1, nv, q.2) := if_pos c32
            rw [eY] at hKK ⊢
            refine z_vcall vl_X14_51_14 (c_X14_must_y hr2 c32) dX14_tested_13 rfl rfl hr2.2.2.2.1 (z_rq (by decide) (by decide)) (Nat.le_of_ble_eq_true rfl) (by show 2 + 0 ≤ kk; omega) (by show 14 + 0 ≤ 33 * kk; omega) (fun v h3 q => ?_) (fun y h3 q => ?_)
            · obtain ⟨t1, t2, t3, t4⟩ := q
              cases t1
              refine z_wid 2 14 (Nat.le_refl _) (Nat.le_refl _) ?_
              have hB3 := hB2.pg t2 t3 t4 hb2l
              have hr3 := hB3.2.1
              obtain ⟨s1, s2, s3, s4, s5, s6, s7, Ar, NN, ids, Cs, s8, s9, s10, s11, s12, s13⟩ := id hB3
              refine z_aload_n dX14_tested_16 rfl rfl ?_
              refine z_getR (z_n h0 + 1) dX14_tested_17 fl_X14_12_14 hr3.2.2.2.1 rfl hr3.2.2.2.2.2.2.2.2.2.2.2.1 ?_
              refine z_getR (z_n h0 + 2) dX14_tested_20 fl_X14_106_2 s3 rfl s7 ?_
              refine z_newo dX14_tested_23 (c := 16) rfl q838 q839 q115 (by show 2 + 1 ≤ kk; omega) (by show 14 + 2 ≤ 33 * kk; omega) ?_
              refine z_dup dX14_tested_26 rfl ?_
              refine z_iload_n dX14_tested_27 rfl rfl ?_
              refine z_iload_n dX14_tested_28 rfl rfl ?_
              refine z_imul dX14_tested_29 ?_
              refine z_aload_n dX14_tested_30 rfl rfl ?_
              have hn3 : z_n (z_new h3 (.inl 16)) = z_n h3 + 1 := rfl
              have hr30 := hr3.2.2.1
              have hr4 : z_Rr (z_new h3 (.inl 16)) (z_n h0) tx n (b2 + 1) 0 (z_n h0 + 1) := hr3.pg (z_pg.of (z_gr.new _ _)) ((if_neg (by show ¬ z_n h0 = z_n h3; omega)).trans t3) ((if_neg (by show ¬ z_n h0 = z_n h3; omega)).trans t4) hb2l (Nat.zero_le _)
              have C3 := c_X14_some (Γ := Γ) (f := 3 * n + 3) hr4 (by omega)
              have hgo : a_go n (b2 + 1) 3 (a_ps tx n (3 * n + 3) 2 0 (b2 + 1)) := a_ps_go (3 * n + 3) 2 0 (b2 + 1) hb2l
              unfold a_E at hKK ⊢
              cases hE : a_ps tx n (3 * n + 3) 2 0 (b2 + 1) with
              | inl e =>
                rw [hE] at C3 hgo hKK
                have he := hgo.1 e rfl
                have hK2 : 4 * (e - p) + 3 = kk := hKK
                refine z_vcall vl_X14_73_14 C3 dX14_tested_31 rfl rfl hr4.2.2.2.1 (z_rq (by decide) (by decide)) (Nat.le_of_ble_eq_true rfl) (by show 2 + 1 + (4 * (e - (b2 + 1)) + 3 + 2 * 2) ≤ kk; omega) (by show 14 + 2 + 33 * (4 * (e - (b2 + 1)) + 3 + 2 * 2) ≤ 33 * kk; omega) (fun v h4 q => ?_) (fun y h4 q => ?_)
                · obtain ⟨y, q1, -⟩ := q
                  cases q1
                · exact z_thOut (by decide) (by show 2 + 1 + (4 * (e - (b2 + 1)) + 3 + 2 * 2) ≤ kk; omega) (by show 14 + 2 + 33 * (4 * (e - (b2 + 1)) + 3 + 2 * 2) ≤ 33 * kk; omega) (z_rT.gr (s1.trans (z_gr.new _ _)) q)
              | inr y =>
                obtain ⟨b, SS⟩ := y
                rw [hE] at C3 hgo hKK
                have hb := hgo.2 b SS rfl
                have hK2 : 4 * (b - p) = kk := hKK
                refine z_vcall vl_X14_73_14 C3 dX14_tested_31 rfl rfl hr4.2.2.2.1 (z_rq (by decide) (by decide)) (Nat.le_of_ble_eq_true rfl) (by show 2 + 1 + (4 * (b - (b2 + 1)) + 3 * 2) ≤ kk; omega) (by show 14 + 2 + 33 * (4 * (b - (b2 + 1)) + 3 * 2) ≤ 33 * kk; omega) (fun v h4 q => ?_) (fun y h4 q => ?_)
                · obtain ⟨y, P, p1, p2, p3, p4, p5, p6, p7, p8, p9⟩ := q
                  cases p1
                  refine z_wid (2 + 1 + (4 * (b - (b2 + 1)) + 3 * 2)) (14 + 2 + 33 * (4 * (b - (b2 + 1)) + 3 * 2)) (Nat.le_refl _) (Nat.le_refl _) ?_
                  have hn4 := p2.1
                  have hT4 : z_T h4 (z_n h3) = some (.inl 16) := (p2.2 (z_n h3) (by omega)).1.trans (if_pos rfl)
                  refine z_icall il_X14_111 (c_X16_init hT4 (by omega)) dX14_tested_34 rfl rfl (z_rq (by decide) (by decide)) (Nat.le_of_ble_eq_true rfl) (by show 2 + 1 + (4 * (b - (b2 + 1)) + 3 * 2) + 0 ≤ kk; omega) (by show 14 + 2 + 33 * (4 * (b - (b2 + 1)) + 3 * 2) + 0 ≤ 33 * kk; omega) (z_cV ?_) z_tV
                  refine z_wid (2 + 1 + (4 * (b - (b2 + 1)) + 3 * 2)) (14 + 2 + 33 * (4 * (b - (b2 + 1)) + 3 * 2)) (Nat.le_refl _) (Nat.le_refl _) ?_
                  have hpg4 : z_pg (z_n h0) h3 (z_sR (z_sI h4 (z_n h3) 0 (k * nv)) (z_n h3) 1 (some y)) := ((((z_pg.of (z_gr.new h3 (.inl 16))).trans p2).wI (Nat.le_refl _) _).wR (Nat.le_refl _) _)
                  have s8' := s8.pg hr3.2.2.2.1 hpg4
                  have hel : z_el (z_sR (z_sI h4 (z_n h3) 0 (k * nv)) (z_n h3) 1 (some y)) (z_n h3) := ⟨by show z_n h3 < z_n h4; omega, 16, _, hT4, rfl, Or.inr q2083⟩
                  refine z_vcall vl_X14_93_21 (c_J2_addQ (by show 85 ≤ z_n h4; omega) s8' (by omega) hel) dX14_tested_37 rfl rfl s8'.2.2.1 (z_rq (by decide) (by decide)) (Nat.le_of_ble_eq_true rfl) (by show 2 + 1 + (4 * (b - (b2 + 1)) + 3 * 2) + 1 ≤ kk; omega) (by show 14 + 2 + 33 * (4 * (b - (b2 + 1)) + 3 * 2) + 33 ≤ 33 * kk; omega) (fun v2 h5 q => ?_) (fun y2 h5 q => ?_)
                  · obtain ⟨x, x1, x2, x3, A', N', x4, x5⟩ := q
                    cases x1
                    refine z_pop dX14_tested_40 rfl ?_
                    refine z_vret dX14_tested_41 rfl (by show 2 + 1 + (4 * (b - (b2 + 1)) + 3 * 2) + 1 ≤ kk; omega) (by show 14 + 2 + 33 * (4 * (b - (b2 + 1)) + 3 * 2) + 33 ≤ 33 * kk; omega) ?_
                    refine ⟨rfl, hB3.add (x := (w, nv, SS)) s8 s9 s10 s11 s12 s13 p2 p3 p4 hb.2 p7 (by decide) ?_ ?_ p9 x3 x4 x5⟩
                    · show ¬ 2 ≤ w
                      rcases hw with ⟨rfl, -⟩ | ⟨rfl, -⟩ <;> decide
                    · show k * nv = if w = 0 then nv else -nv
                      rcases hw with ⟨rfl, rfl⟩ | ⟨rfl, rfl⟩
                      · rw [if_pos rfl]; exact Int32.one_mul nv
                      · rw [if_neg (by decide)]; exact z_m1m nv
                  · obtain ⟨x, x1, -⟩ := q
                    cases x1
                · obtain ⟨y, P, q1, -⟩ := q
                  cases q1
            · cases q.1
          · have eY : (a_bd (.inr (b2, nv) : Nat ⊕ (Nat × Int32)) fun r => if a_cr tx n r.1 = 32 then a_bd (a_E tx n (r.1 + 1)) fun q => .inr (q.1, r.2, q.2) else .inl r.1 : Nat ⊕ (Nat × Int32 × List Int32)) = .inl b2 := if_neg c32
            rw [eY] at hKK ⊢
            refine z_vcall vl_X14_51_14 (c_X14_must_n hr2 c32) dX14_tested_13 rfl rfl hr2.2.2.2.1 (z_rq (by decide) (by decide)) (Nat.le_of_ble_eq_true rfl) (by show 2 + 1 ≤ kk; omega) (by show 14 + 7 ≤ 33 * kk; omega) (fun v h3 q => ?_) (fun y h3 q => ?_)
            · obtain ⟨y, q1, -⟩ := q
              cases q1
            · exact z_thOut (by decide) (by show 2 + 1 ≤ kk; omega) (by show 14 + 7 ≤ 33 * kk; omega) (z_rT.gr hB2.1 q)
        · cases q.1
    · cases q.1
