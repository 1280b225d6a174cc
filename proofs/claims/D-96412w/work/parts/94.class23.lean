/-! THE CLASS: exceptions, Off, takenFor, taken (printed by class23.py) -/
set_option maxRecDepth 20000
/-- a memory has grown: what was stands -/
def z_gr (h h' : z_H) : Prop := z_n h ≤ z_n h' ∧ ∀ a, a < z_n h → (∀ k, z_I h' a k = z_I h a k) ∧ (∀ k, z_L h' a k = z_L h a k) ∧ (∀ k, z_R h' a k = z_R h a k) ∧ z_T h' a = z_T h a
theorem z_gr.refl (h : z_H) : z_gr h h := ⟨Nat.le_refl _, fun _ _ => ⟨fun _ => rfl, fun _ => rfl, fun _ => rfl, rfl⟩⟩
theorem z_gr.trans {a b c : z_H} (h1 : z_gr a b) (h2 : z_gr b c) : z_gr a c := ⟨Nat.le_trans h1.1 h2.1, fun x hx => by
  obtain ⟨p1, p2, p3, p4⟩ := h1.2 x hx
  obtain ⟨q1, q2, q3, q4⟩ := h2.2 x (Nat.lt_of_lt_of_le hx h1.1)
  exact ⟨fun k => (q1 k).trans (p1 k), fun k => (q2 k).trans (p2 k), fun k => (q3 k).trans (p3 k), q4.trans p4⟩⟩
theorem z_gr.new (h : z_H) (t : Nat ⊕ (FieldType × Nat)) : z_gr h (z_new h t) := ⟨Nat.le_succ _, fun a ha => ⟨fun _ => if_neg (Nat.ne_of_lt ha), fun _ => if_neg (Nat.ne_of_lt ha), fun _ => if_neg (Nat.ne_of_lt ha), if_neg (Nat.ne_of_lt ha)⟩⟩
theorem z_gr.skip (h : z_H) (n : Nat) : z_gr h (z_skip h n) := ⟨Nat.le_add_right _ _, fun a ha => ⟨fun _ => rfl, fun _ => rfl, fun _ => rfl, if_neg (Nat.not_le.mpr ha)⟩⟩
theorem z_gr.sI {h g : z_H} (hg : z_gr h g) {a k : Nat} {v : Int32} (ha : z_n h ≤ a) : z_gr h (z_sI g a k v) := ⟨hg.1, fun b hb => ⟨fun j => by rw [z_II, if_neg (fun q => by omega)]; exact (hg.2 b hb).1 j, (hg.2 b hb).2.1, (hg.2 b hb).2.2.1, (hg.2 b hb).2.2.2⟩⟩
theorem z_gr.F {h h' : z_H} (hg : z_gr h h') (hF : z_F h) : z_F h' := by
  obtain ⟨f1, f2, f3⟩ := hF
  have hlt : ∀ a t, z_tab[a]? = some t → a < z_n h := fun a t q => by
    have := (List.getElem?_eq_some_iff.mp q).1
    have e : z_tab.length = 85 := rfl
    omega
  refine ⟨fun a t q => ?_, fun a k b q => ?_, Nat.le_trans f3 hg.1⟩
  · rw [(hg.2 a (hlt a _ q)).2.2.2]
    exact f1 a t q
  · have ha : a < z_n h := by
      by_cases c : a < 85
      · omega
      · match a, c, q with
        | a + 85, _, q => cases k <;> cases q
    rw [(hg.2 a ha).2.2.1]
    exact f2 a k b q
/-- the machine's NullPointerException; the others, with a message -/
def z_xN (h : z_H) : z_H := z_new h (.inr (.float, 2))
def z_xM (h : z_H) (n : Nat) : z_H := z_new (z_skip h 2) (.inr (.float, n + 2))
theorem z_gr.xN (h : z_H) : z_gr h (z_xN h) := z_gr.new h _
theorem z_gr.xM (h : z_H) (n : Nat) : z_gr h (z_xM h n) := (z_gr.skip h 2).trans (z_gr.new _ _)
/-- new Off(p) -/
def z_off (h : z_H) (p : Int32) : z_H := z_sI (z_mk (z_new h (.inr (.float, 0))) (z_n h)) (z_n h) 6 p
theorem z_off_T (h : z_H) (p : Int32) : z_T (z_off h p) (z_n h) = some (.inr (.float, 1)) := if_pos rfl
theorem z_off_I (h : z_H) (p : Int32) : z_I (z_off h p) (z_n h) 6 = p := if_pos ⟨rfl, rfl⟩
theorem z_gr.off (h : z_H) (p : Int32) : z_gr h (z_off h p) := by
  refine z_gr.sI ?_ (Nat.le_refl _)
  refine ⟨Nat.le_succ _, fun a ha => ⟨fun k => ?_, fun _ => if_neg (Nat.ne_of_lt ha), fun _ => if_neg (Nat.ne_of_lt ha), ?_⟩⟩
  · show (if a = z_n h ∧ k = 6 then 0 else if a = z_n h then 0 else z_I h a k) = z_I h a k
    rw [if_neg (fun q => by omega), if_neg (Nat.ne_of_lt ha)]
  · show (if a = z_n h then _ else if a = z_n h then _ else z_T h a) = z_T h a
    rw [if_neg (Nat.ne_of_lt ha), if_neg (Nat.ne_of_lt ha)]
theorem z_Xo_off (h : z_H) (p : Int32) : z_Xo (z_off h p) (z_n h) RX15 := .inl ⟨z_off_T h p, rfl⟩
theorem z_Xo_N (h : z_H) : z_Xo (z_xN h) (z_n h) "java/lang/NullPointerException" := .inr ⟨0, by decide, if_pos rfl, rfl⟩
theorem z_Xo_M (h : z_H) (n : Nat) (hn : n < 5) : z_Xo (z_xM h n) (z_n h + 2) (z_xn n) := .inr ⟨n, hn, if_pos rfl, rfl⟩
/-- an int is answered, the memory has grown -/
def z_rG (r : Int32) (h : z_H) : Outcome → z_H → Prop := z_rI (fun x h' => x = r ∧ z_gr h h')
theorem c_X15_init {Γ : z_W} {h : z_H} {p : Int32} (hn : 85 ≤ z_n h) : z_C Γ M_X15_init (z_rm 2 0 0) [.ref (z_n h), .int p] (z_new h (.inr (.float, 0))) (z_rv (z_off h p)) := by
  refine z_C.of (by decide +kernel) rfl [some (.ref (z_n h)), some (.int p)] (Nat.le_of_ble_eq_true rfl) rfl ?_
  refine z_aload_n dX15_init_0 rfl rfl ?_
  refine z_offSuper dX15_init_1 rfl (if_pos rfl) (Nat.le_trans (by decide) hn) (Nat.le_of_ble_eq_true rfl) ?_
  refine z_aload_n dX15_init_4 rfl rfl ?_
  refine z_iload_n dX15_init_5 rfl rfl ?_
  refine z_putPl dX15_init_6 pf_X15_init_7_15 (if_pos rfl) (Nat.le_trans (by decide) hn) ?_
  refine z_vret dX15_init_9 rfl (Nat.le_refl _) (Nat.le_refl _) (z_rv_i ?_)
  rfl
theorem z_rcB {Γ : z_W} {h : z_H} {b n : Nat} (hb : z_T h b = some (.inr (.byte, n))) : z_rc Γ h b "[B" := by
  have e : ("[" ++ FieldType.toString .byte) = "[B" := by decide +kernel
  have q := z_rc.arr (Γ := Γ) hb (by simp)
  rw [e] at q
  exact q
theorem z_rcS {Γ : z_W} {h : z_H} {b n : Nat} (hb : z_T h b = some (.inr (.short, n))) : z_rc Γ h b "[S" := by
  have e : ("[" ++ FieldType.toString .short) = "[S" := by decide +kernel
  have q := z_rc.arr (Γ := Γ) hb (by simp)
  rw [e] at q
  exact q
theorem z_rcI {Γ : z_W} {h : z_H} {b n : Nat} (hb : z_T h b = some (.inr (.int, n))) : z_rc Γ h b "[I" := by
  have e : ("[" ++ FieldType.toString .int) = "[I" := by decide +kernel
  have q := z_rc.arr (Γ := Γ) hb (by simp)
  rw [e] at q
  exact q
theorem z_rcJ {Γ : z_W} {h : z_H} {b n : Nat} (hb : z_T h b = some (.inr (.long, n))) : z_rc Γ h b "[J" := by
  have e : ("[" ++ FieldType.toString .long) = "[J" := by decide +kernel
  have q := z_rc.arr (Γ := Γ) hb (by simp)
  rw [e] at q
  exact q
theorem z_rcZ {Γ : z_W} {h : z_H} {b n : Nat} (hb : z_T h b = some (.inr (.boolean, n))) : z_rc Γ h b "[Z" := by
  have e : ("[" ++ FieldType.toString .boolean) = "[Z" := by decide +kernel
  have q := z_rc.arr (Γ := Γ) hb (by simp)
  rw [e] at q
  exact q
/-- whether a lift of the kind d is taken for one of the kind k -/
def z_tkd (d k : Nat) : Bool := k == 0 || d == k || (k == 1 && d == 4) || (k == 2 && d == 5) || (k == 3 && d == 6)
def z_tkQ (b : Bool) (h : z_H) (id : Nat) : Outcome → z_H → Prop := match b with
  | true => z_rr id h
  | false => fun o h' => o = .threw (z_n h + 2) ∧ h' = z_xM h 1
theorem c_X0_takenFor_N_0 {Γ : z_W} {h : z_H} : z_C Γ M_X0_takenFor (z_rm 2 3 2010) [.null, .int 0] h (fun o h' => o = .returned (some .null) ∧ h' = h) := by
  refine z_C.of (by decide +kernel) rfl [some .null, some (.int 0)] (Nat.le_of_ble_eq_true rfl) rfl ?_
  refine z_iload_n dX0_takenFor_0 rfl rfl ?_
  refine z_tableIn 0 40 dX0_takenFor_1 rfl (by decide) (by decide) rfl (by decide) ?_
  refine z_aload_nN dX0_takenFor_40 rfl rfl ?_
  refine z_castN dX0_takenFor_41 ?_
  exact z_aret dX0_takenFor_44 rfl (Or.inl ⟨_, rfl⟩) (Or.inl rfl) (Nat.zero_le _) (Nat.zero_le _) ⟨rfl, rfl⟩
theorem c_X0_takenFor_7_0 {Γ : z_W} {h : z_H} {id : Nat} (hT : z_T h id = some (.inl 7)) : z_C Γ M_X0_takenFor (z_rm 2 3 2010) [.ref id, .int 0] h (z_rr id h) := by
  refine z_C.of (by decide +kernel) rfl [some (.ref id), some (.int 0)] (Nat.le_of_ble_eq_true rfl) rfl ?_
  refine z_iload_n dX0_takenFor_0 rfl rfl ?_
  refine z_tableIn 0 40 dX0_takenFor_1 rfl (by decide) (by decide) rfl (by decide) ?_
  refine z_aload_n dX0_takenFor_40 rfl rfl ?_
  refine z_castS q137 rfl rfl hT dX0_takenFor_41 ?_
  exact z_aret dX0_takenFor_44 rfl (Or.inl ⟨_, rfl⟩) (Or.inr ⟨_, rfl⟩) (Nat.zero_le _) (Nat.zero_le _) ⟨rfl, rfl⟩
theorem c_X0_takenFor_8_0 {Γ : z_W} {h : z_H} {id : Nat} (hT : z_T h id = some (.inl 8)) : z_C Γ M_X0_takenFor (z_rm 2 3 2010) [.ref id, .int 0] h (z_rr id h) := by
  refine z_C.of (by decide +kernel) rfl [some (.ref id), some (.int 0)] (Nat.le_of_ble_eq_true rfl) rfl ?_
  refine z_iload_n dX0_takenFor_0 rfl rfl ?_
  refine z_tableIn 0 40 dX0_takenFor_1 rfl (by decide) (by decide) rfl (by decide) ?_
  refine z_aload_n dX0_takenFor_40 rfl rfl ?_
  refine z_castY q137 q2059 rfl rfl hT dX0_takenFor_41 ?_
  exact z_aret dX0_takenFor_44 rfl (Or.inl ⟨_, rfl⟩) (Or.inr ⟨_, rfl⟩) (Nat.zero_le _) (Nat.zero_le _) ⟨rfl, rfl⟩
theorem c_X0_takenFor_9_0 {Γ : z_W} {h : z_H} {id : Nat} (hT : z_T h id = some (.inl 9)) : z_C Γ M_X0_takenFor (z_rm 2 3 2010) [.ref id, .int 0] h (z_rr id h) := by
  refine z_C.of (by decide +kernel) rfl [some (.ref id), some (.int 0)] (Nat.le_of_ble_eq_true rfl) rfl ?_
  refine z_iload_n dX0_takenFor_0 rfl rfl ?_
  refine z_tableIn 0 40 dX0_takenFor_1 rfl (by decide) (by decide) rfl (by decide) ?_
  refine z_aload_n dX0_takenFor_40 rfl rfl ?_
  refine z_castY q137 q2062 rfl rfl hT dX0_takenFor_41 ?_
  exact z_aret dX0_takenFor_44 rfl (Or.inl ⟨_, rfl⟩) (Or.inr ⟨_, rfl⟩) (Nat.zero_le _) (Nat.zero_le _) ⟨rfl, rfl⟩
theorem c_X0_takenFor_10_0 {Γ : z_W} {h : z_H} {id : Nat} (hT : z_T h id = some (.inl 10)) : z_C Γ M_X0_takenFor (z_rm 2 3 2010) [.ref id, .int 0] h (z_rr id h) := by
  refine z_C.of (by decide +kernel) rfl [some (.ref id), some (.int 0)] (Nat.le_of_ble_eq_true rfl) rfl ?_
  refine z_iload_n dX0_takenFor_0 rfl rfl ?_
  refine z_tableIn 0 40 dX0_takenFor_1 rfl (by decide) (by decide) rfl (by decide) ?_
  refine z_aload_n dX0_takenFor_40 rfl rfl ?_
  refine z_castY q137 q2058 rfl rfl hT dX0_takenFor_41 ?_
  exact z_aret dX0_takenFor_44 rfl (Or.inl ⟨_, rfl⟩) (Or.inr ⟨_, rfl⟩) (Nat.zero_le _) (Nat.zero_le _) ⟨rfl, rfl⟩
theorem c_X0_takenFor_11_0 {Γ : z_W} {h : z_H} {id : Nat} (hT : z_T h id = some (.inl 11)) : z_C Γ M_X0_takenFor (z_rm 2 3 2010) [.ref id, .int 0] h (z_rr id h) := by
  refine z_C.of (by decide +kernel) rfl [some (.ref id), some (.int 0)] (Nat.le_of_ble_eq_true rfl) rfl ?_
  refine z_iload_n dX0_takenFor_0 rfl rfl ?_
  refine z_tableIn 0 40 dX0_takenFor_1 rfl (by decide) (by decide) rfl (by decide) ?_
  refine z_aload_n dX0_takenFor_40 rfl rfl ?_
  refine z_castY q137 q2057 rfl rfl hT dX0_takenFor_41 ?_
  exact z_aret dX0_takenFor_44 rfl (Or.inl ⟨_, rfl⟩) (Or.inr ⟨_, rfl⟩) (Nat.zero_le _) (Nat.zero_le _) ⟨rfl, rfl⟩
theorem c_X0_takenFor_12_0 {Γ : z_W} {h : z_H} {id : Nat} (hT : z_T h id = some (.inl 12)) : z_C Γ M_X0_takenFor (z_rm 2 3 2010) [.ref id, .int 0] h (z_rr id h) := by
  refine z_C.of (by decide +kernel) rfl [some (.ref id), some (.int 0)] (Nat.le_of_ble_eq_true rfl) rfl ?_
  refine z_iload_n dX0_takenFor_0 rfl rfl ?_
  refine z_tableIn 0 40 dX0_takenFor_1 rfl (by decide) (by decide) rfl (by decide) ?_
  refine z_aload_n dX0_takenFor_40 rfl rfl ?_
  refine z_castY q137 q2061 rfl rfl hT dX0_takenFor_41 ?_
  exact z_aret dX0_takenFor_44 rfl (Or.inl ⟨_, rfl⟩) (Or.inr ⟨_, rfl⟩) (Nat.zero_le _) (Nat.zero_le _) ⟨rfl, rfl⟩
theorem c_X0_takenFor_13_0 {Γ : z_W} {h : z_H} {id : Nat} (hT : z_T h id = some (.inl 13)) : z_C Γ M_X0_takenFor (z_rm 2 3 2010) [.ref id, .int 0] h (z_rr id h) := by
  refine z_C.of (by decide +kernel) rfl [some (.ref id), some (.int 0)] (Nat.le_of_ble_eq_true rfl) rfl ?_
  refine z_iload_n dX0_takenFor_0 rfl rfl ?_
  refine z_tableIn 0 40 dX0_takenFor_1 rfl (by decide) (by decide) rfl (by decide) ?_
  refine z_aload_n dX0_takenFor_40 rfl rfl ?_
  refine z_castY q137 q2060 rfl rfl hT dX0_takenFor_41 ?_
  exact z_aret dX0_takenFor_44 rfl (Or.inl ⟨_, rfl⟩) (Or.inr ⟨_, rfl⟩) (Nat.zero_le _) (Nat.zero_le _) ⟨rfl, rfl⟩
theorem c_X0_takenFor_N_1 {Γ : z_W} {h : z_H} : z_C Γ M_X0_takenFor (z_rm 2 3 2010) [.null, .int 1] h (fun o h' => o = .returned (some .null) ∧ h' = h) := by
  refine z_C.of (by decide +kernel) rfl [some .null, some (.int 1)] (Nat.le_of_ble_eq_true rfl) rfl ?_
  refine z_iload_n dX0_takenFor_0 rfl rfl ?_
  refine z_tableIn 1 45 dX0_takenFor_1 rfl (by decide) (by decide) rfl (by decide) ?_
  refine z_aload_nN dX0_takenFor_45 rfl rfl ?_
  refine z_castN dX0_takenFor_46 ?_
  exact z_aret dX0_takenFor_49 rfl (Or.inl ⟨_, rfl⟩) (Or.inl rfl) (Nat.zero_le _) (Nat.zero_le _) ⟨rfl, rfl⟩
theorem c_X0_takenFor_7_1 {Γ : z_W} {h : z_H} {id : Nat} (hT : z_T h id = some (.inl 7)) : z_C Γ M_X0_takenFor (z_rm 2 3 2010) [.ref id, .int 1] h (fun o h' => o = .threw (z_n h + 2) ∧ h' = z_xM h 1) := by
  refine z_C.of (by decide +kernel) rfl [some (.ref id), some (.int 1)] (Nat.le_of_ble_eq_true rfl) rfl ?_
  refine z_iload_n dX0_takenFor_0 rfl rfl ?_
  refine z_tableIn 1 45 dX0_takenFor_1 rfl (by decide) (by decide) rfl (by decide) ?_
  refine z_aload_n dX0_takenFor_45 rfl rfl ?_
  refine z_castF q405 nca_7_8 (z_rc.obj (q := (RX7, TX7, 4)) hT rfl) (by decide +kernel) (by decide +kernel) (by decide +kernel) (by decide +kernel) dX0_takenFor_46 (fun text w1 w2 => ?_)
  exact z_tnMsg (n := 1) (by decide) mw_cce (by decide) w1 w2 (Nat.le_refl _) (Nat.le_refl _) (Nat.le_of_ble_eq_true rfl) (z_thOut (by decide) (Nat.le_refl _) (Nat.le_refl _) ⟨rfl, rfl⟩)
theorem c_X0_takenFor_8_1 {Γ : z_W} {h : z_H} {id : Nat} (hT : z_T h id = some (.inl 8)) : z_C Γ M_X0_takenFor (z_rm 2 3 2010) [.ref id, .int 1] h (z_rr id h) := by
  refine z_C.of (by decide +kernel) rfl [some (.ref id), some (.int 1)] (Nat.le_of_ble_eq_true rfl) rfl ?_
  refine z_iload_n dX0_takenFor_0 rfl rfl ?_
  refine z_tableIn 1 45 dX0_takenFor_1 rfl (by decide) (by decide) rfl (by decide) ?_
  refine z_aload_n dX0_takenFor_45 rfl rfl ?_
  refine z_castS q405 rfl rfl hT dX0_takenFor_46 ?_
  exact z_aret dX0_takenFor_49 rfl (Or.inl ⟨_, rfl⟩) (Or.inr ⟨_, rfl⟩) (Nat.zero_le _) (Nat.zero_le _) ⟨rfl, rfl⟩
theorem c_X0_takenFor_9_1 {Γ : z_W} {h : z_H} {id : Nat} (hT : z_T h id = some (.inl 9)) : z_C Γ M_X0_takenFor (z_rm 2 3 2010) [.ref id, .int 1] h (fun o h' => o = .threw (z_n h + 2) ∧ h' = z_xM h 1) := by
  refine z_C.of (by decide +kernel) rfl [some (.ref id), some (.int 1)] (Nat.le_of_ble_eq_true rfl) rfl ?_
  refine z_iload_n dX0_takenFor_0 rfl rfl ?_
  refine z_tableIn 1 45 dX0_takenFor_1 rfl (by decide) (by decide) rfl (by decide) ?_
  refine z_aload_n dX0_takenFor_45 rfl rfl ?_
  refine z_castF q405 nca_9_8 (z_rc.obj (q := (RX9, TX9, 4)) hT rfl) (by decide +kernel) (by decide +kernel) (by decide +kernel) (by decide +kernel) dX0_takenFor_46 (fun text w1 w2 => ?_)
  exact z_tnMsg (n := 1) (by decide) mw_cce (by decide) w1 w2 (Nat.le_refl _) (Nat.le_refl _) (Nat.le_of_ble_eq_true rfl) (z_thOut (by decide) (Nat.le_refl _) (Nat.le_refl _) ⟨rfl, rfl⟩)
theorem c_X0_takenFor_10_1 {Γ : z_W} {h : z_H} {id : Nat} (hT : z_T h id = some (.inl 10)) : z_C Γ M_X0_takenFor (z_rm 2 3 2010) [.ref id, .int 1] h (fun o h' => o = .threw (z_n h + 2) ∧ h' = z_xM h 1) := by
  refine z_C.of (by decide +kernel) rfl [some (.ref id), some (.int 1)] (Nat.le_of_ble_eq_true rfl) rfl ?_
  refine z_iload_n dX0_takenFor_0 rfl rfl ?_
  refine z_tableIn 1 45 dX0_takenFor_1 rfl (by decide) (by decide) rfl (by decide) ?_
  refine z_aload_n dX0_takenFor_45 rfl rfl ?_
  refine z_castF q405 nca_10_8 (z_rc.obj (q := (RX10, TX10, 4)) hT rfl) (by decide +kernel) (by decide +kernel) (by decide +kernel) (by decide +kernel) dX0_takenFor_46 (fun text w1 w2 => ?_)
  exact z_tnMsg (n := 1) (by decide) mw_cce (by decide) w1 w2 (Nat.le_refl _) (Nat.le_refl _) (Nat.le_of_ble_eq_true rfl) (z_thOut (by decide) (Nat.le_refl _) (Nat.le_refl _) ⟨rfl, rfl⟩)
theorem c_X0_takenFor_11_1 {Γ : z_W} {h : z_H} {id : Nat} (hT : z_T h id = some (.inl 11)) : z_C Γ M_X0_takenFor (z_rm 2 3 2010) [.ref id, .int 1] h (z_rr id h) := by
  refine z_C.of (by decide +kernel) rfl [some (.ref id), some (.int 1)] (Nat.le_of_ble_eq_true rfl) rfl ?_
  refine z_iload_n dX0_takenFor_0 rfl rfl ?_
  refine z_tableIn 1 45 dX0_takenFor_1 rfl (by decide) (by decide) rfl (by decide) ?_
  refine z_aload_n dX0_takenFor_45 rfl rfl ?_
  refine z_castY q405 q2063 rfl rfl hT dX0_takenFor_46 ?_
  exact z_aret dX0_takenFor_49 rfl (Or.inl ⟨_, rfl⟩) (Or.inr ⟨_, rfl⟩) (Nat.zero_le _) (Nat.zero_le _) ⟨rfl, rfl⟩
theorem c_X0_takenFor_12_1 {Γ : z_W} {h : z_H} {id : Nat} (hT : z_T h id = some (.inl 12)) : z_C Γ M_X0_takenFor (z_rm 2 3 2010) [.ref id, .int 1] h (fun o h' => o = .threw (z_n h + 2) ∧ h' = z_xM h 1) := by
  refine z_C.of (by decide +kernel) rfl [some (.ref id), some (.int 1)] (Nat.le_of_ble_eq_true rfl) rfl ?_
  refine z_iload_n dX0_takenFor_0 rfl rfl ?_
  refine z_tableIn 1 45 dX0_takenFor_1 rfl (by decide) (by decide) rfl (by decide) ?_
  refine z_aload_n dX0_takenFor_45 rfl rfl ?_
  refine z_castF q405 nca_12_8 (z_rc.obj (q := (RX12, TX12, 4)) hT rfl) (by decide +kernel) (by decide +kernel) (by decide +kernel) (by decide +kernel) dX0_takenFor_46 (fun text w1 w2 => ?_)
  exact z_tnMsg (n := 1) (by decide) mw_cce (by decide) w1 w2 (Nat.le_refl _) (Nat.le_refl _) (Nat.le_of_ble_eq_true rfl) (z_thOut (by decide) (Nat.le_refl _) (Nat.le_refl _) ⟨rfl, rfl⟩)
theorem c_X0_takenFor_13_1 {Γ : z_W} {h : z_H} {id : Nat} (hT : z_T h id = some (.inl 13)) : z_C Γ M_X0_takenFor (z_rm 2 3 2010) [.ref id, .int 1] h (fun o h' => o = .threw (z_n h + 2) ∧ h' = z_xM h 1) := by
  refine z_C.of (by decide +kernel) rfl [some (.ref id), some (.int 1)] (Nat.le_of_ble_eq_true rfl) rfl ?_
  refine z_iload_n dX0_takenFor_0 rfl rfl ?_
  refine z_tableIn 1 45 dX0_takenFor_1 rfl (by decide) (by decide) rfl (by decide) ?_
  refine z_aload_n dX0_takenFor_45 rfl rfl ?_
  refine z_castF q405 nca_13_8 (z_rc.obj (q := (RX13, TX13, 5)) hT rfl) (by decide +kernel) (by decide +kernel) (by decide +kernel) (by decide +kernel) dX0_takenFor_46 (fun text w1 w2 => ?_)
  exact z_tnMsg (n := 1) (by decide) mw_cce (by decide) w1 w2 (Nat.le_refl _) (Nat.le_refl _) (Nat.le_of_ble_eq_true rfl) (z_thOut (by decide) (Nat.le_refl _) (Nat.le_refl _) ⟨rfl, rfl⟩)
theorem c_X0_takenFor_N_2 {Γ : z_W} {h : z_H} : z_C Γ M_X0_takenFor (z_rm 2 3 2010) [.null, .int 2] h (fun o h' => o = .returned (some .null) ∧ h' = h) := by
  refine z_C.of (by decide +kernel) rfl [some .null, some (.int 2)] (Nat.le_of_ble_eq_true rfl) rfl ?_
  refine z_iload_n dX0_takenFor_0 rfl rfl ?_
  refine z_tableIn 2 50 dX0_takenFor_1 rfl (by decide) (by decide) rfl (by decide) ?_
  refine z_aload_nN dX0_takenFor_50 rfl rfl ?_
  refine z_castN dX0_takenFor_51 ?_
  exact z_aret dX0_takenFor_54 rfl (Or.inl ⟨_, rfl⟩) (Or.inl rfl) (Nat.zero_le _) (Nat.zero_le _) ⟨rfl, rfl⟩
theorem c_X0_takenFor_7_2 {Γ : z_W} {h : z_H} {id : Nat} (hT : z_T h id = some (.inl 7)) : z_C Γ M_X0_takenFor (z_rm 2 3 2010) [.ref id, .int 2] h (fun o h' => o = .threw (z_n h + 2) ∧ h' = z_xM h 1) := by
  refine z_C.of (by decide +kernel) rfl [some (.ref id), some (.int 2)] (Nat.le_of_ble_eq_true rfl) rfl ?_
  refine z_iload_n dX0_takenFor_0 rfl rfl ?_
  refine z_tableIn 2 50 dX0_takenFor_1 rfl (by decide) (by decide) rfl (by decide) ?_
  refine z_aload_n dX0_takenFor_50 rfl rfl ?_
  refine z_castF q453 nca_7_9 (z_rc.obj (q := (RX7, TX7, 4)) hT rfl) (by decide +kernel) (by decide +kernel) (by decide +kernel) (by decide +kernel) dX0_takenFor_51 (fun text w1 w2 => ?_)
  exact z_tnMsg (n := 1) (by decide) mw_cce (by decide) w1 w2 (Nat.le_refl _) (Nat.le_refl _) (Nat.le_of_ble_eq_true rfl) (z_thOut (by decide) (Nat.le_refl _) (Nat.le_refl _) ⟨rfl, rfl⟩)
theorem c_X0_takenFor_8_2 {Γ : z_W} {h : z_H} {id : Nat} (hT : z_T h id = some (.inl 8)) : z_C Γ M_X0_takenFor (z_rm 2 3 2010) [.ref id, .int 2] h (fun o h' => o = .threw (z_n h + 2) ∧ h' = z_xM h 1) := by
  refine z_C.of (by decide +kernel) rfl [some (.ref id), some (.int 2)] (Nat.le_of_ble_eq_true rfl) rfl ?_
  refine z_iload_n dX0_takenFor_0 rfl rfl ?_
  refine z_tableIn 2 50 dX0_takenFor_1 rfl (by decide) (by decide) rfl (by decide) ?_
  refine z_aload_n dX0_takenFor_50 rfl rfl ?_
  refine z_castF q453 nca_8_9 (z_rc.obj (q := (RX8, TX8, 4)) hT rfl) (by decide +kernel) (by decide +kernel) (by decide +kernel) (by decide +kernel) dX0_takenFor_51 (fun text w1 w2 => ?_)
  exact z_tnMsg (n := 1) (by decide) mw_cce (by decide) w1 w2 (Nat.le_refl _) (Nat.le_refl _) (Nat.le_of_ble_eq_true rfl) (z_thOut (by decide) (Nat.le_refl _) (Nat.le_refl _) ⟨rfl, rfl⟩)
theorem c_X0_takenFor_9_2 {Γ : z_W} {h : z_H} {id : Nat} (hT : z_T h id = some (.inl 9)) : z_C Γ M_X0_takenFor (z_rm 2 3 2010) [.ref id, .int 2] h (z_rr id h) := by
  refine z_C.of (by decide +kernel) rfl [some (.ref id), some (.int 2)] (Nat.le_of_ble_eq_true rfl) rfl ?_
  refine z_iload_n dX0_takenFor_0 rfl rfl ?_
  refine z_tableIn 2 50 dX0_takenFor_1 rfl (by decide) (by decide) rfl (by decide) ?_
  refine z_aload_n dX0_takenFor_50 rfl rfl ?_
  refine z_castS q453 rfl rfl hT dX0_takenFor_51 ?_
  exact z_aret dX0_takenFor_54 rfl (Or.inl ⟨_, rfl⟩) (Or.inr ⟨_, rfl⟩) (Nat.zero_le _) (Nat.zero_le _) ⟨rfl, rfl⟩
theorem c_X0_takenFor_10_2 {Γ : z_W} {h : z_H} {id : Nat} (hT : z_T h id = some (.inl 10)) : z_C Γ M_X0_takenFor (z_rm 2 3 2010) [.ref id, .int 2] h (fun o h' => o = .threw (z_n h + 2) ∧ h' = z_xM h 1) := by
  refine z_C.of (by decide +kernel) rfl [some (.ref id), some (.int 2)] (Nat.le_of_ble_eq_true rfl) rfl ?_
  refine z_iload_n dX0_takenFor_0 rfl rfl ?_
  refine z_tableIn 2 50 dX0_takenFor_1 rfl (by decide) (by decide) rfl (by decide) ?_
  refine z_aload_n dX0_takenFor_50 rfl rfl ?_
  refine z_castF q453 nca_10_9 (z_rc.obj (q := (RX10, TX10, 4)) hT rfl) (by decide +kernel) (by decide +kernel) (by decide +kernel) (by decide +kernel) dX0_takenFor_51 (fun text w1 w2 => ?_)
  exact z_tnMsg (n := 1) (by decide) mw_cce (by decide) w1 w2 (Nat.le_refl _) (Nat.le_refl _) (Nat.le_of_ble_eq_true rfl) (z_thOut (by decide) (Nat.le_refl _) (Nat.le_refl _) ⟨rfl, rfl⟩)
theorem c_X0_takenFor_11_2 {Γ : z_W} {h : z_H} {id : Nat} (hT : z_T h id = some (.inl 11)) : z_C Γ M_X0_takenFor (z_rm 2 3 2010) [.ref id, .int 2] h (fun o h' => o = .threw (z_n h + 2) ∧ h' = z_xM h 1) := by
  refine z_C.of (by decide +kernel) rfl [some (.ref id), some (.int 2)] (Nat.le_of_ble_eq_true rfl) rfl ?_
  refine z_iload_n dX0_takenFor_0 rfl rfl ?_
  refine z_tableIn 2 50 dX0_takenFor_1 rfl (by decide) (by decide) rfl (by decide) ?_
  refine z_aload_n dX0_takenFor_50 rfl rfl ?_
  refine z_castF q453 nca_11_9 (z_rc.obj (q := (RX11, TX11, 4)) hT rfl) (by decide +kernel) (by decide +kernel) (by decide +kernel) (by decide +kernel) dX0_takenFor_51 (fun text w1 w2 => ?_)
  exact z_tnMsg (n := 1) (by decide) mw_cce (by decide) w1 w2 (Nat.le_refl _) (Nat.le_refl _) (Nat.le_of_ble_eq_true rfl) (z_thOut (by decide) (Nat.le_refl _) (Nat.le_refl _) ⟨rfl, rfl⟩)
theorem c_X0_takenFor_12_2 {Γ : z_W} {h : z_H} {id : Nat} (hT : z_T h id = some (.inl 12)) : z_C Γ M_X0_takenFor (z_rm 2 3 2010) [.ref id, .int 2] h (z_rr id h) := by
  refine z_C.of (by decide +kernel) rfl [some (.ref id), some (.int 2)] (Nat.le_of_ble_eq_true rfl) rfl ?_
  refine z_iload_n dX0_takenFor_0 rfl rfl ?_
  refine z_tableIn 2 50 dX0_takenFor_1 rfl (by decide) (by decide) rfl (by decide) ?_
  refine z_aload_n dX0_takenFor_50 rfl rfl ?_
  refine z_castY q453 q2064 rfl rfl hT dX0_takenFor_51 ?_
  exact z_aret dX0_takenFor_54 rfl (Or.inl ⟨_, rfl⟩) (Or.inr ⟨_, rfl⟩) (Nat.zero_le _) (Nat.zero_le _) ⟨rfl, rfl⟩
theorem c_X0_takenFor_13_2 {Γ : z_W} {h : z_H} {id : Nat} (hT : z_T h id = some (.inl 13)) : z_C Γ M_X0_takenFor (z_rm 2 3 2010) [.ref id, .int 2] h (fun o h' => o = .threw (z_n h + 2) ∧ h' = z_xM h 1) := by
  refine z_C.of (by decide +kernel) rfl [some (.ref id), some (.int 2)] (Nat.le_of_ble_eq_true rfl) rfl ?_
  refine z_iload_n dX0_takenFor_0 rfl rfl ?_
  refine z_tableIn 2 50 dX0_takenFor_1 rfl (by decide) (by decide) rfl (by decide) ?_
  refine z_aload_n dX0_takenFor_50 rfl rfl ?_
  refine z_castF q453 nca_13_9 (z_rc.obj (q := (RX13, TX13, 5)) hT rfl) (by decide +kernel) (by decide +kernel) (by decide +kernel) (by decide +kernel) dX0_takenFor_51 (fun text w1 w2 => ?_)
  exact z_tnMsg (n := 1) (by decide) mw_cce (by decide) w1 w2 (Nat.le_refl _) (Nat.le_refl _) (Nat.le_of_ble_eq_true rfl) (z_thOut (by decide) (Nat.le_refl _) (Nat.le_refl _) ⟨rfl, rfl⟩)
theorem c_X0_takenFor_N_3 {Γ : z_W} {h : z_H} : z_C Γ M_X0_takenFor (z_rm 2 3 2010) [.null, .int 3] h (fun o h' => o = .returned (some .null) ∧ h' = h) := by
  refine z_C.of (by decide +kernel) rfl [some .null, some (.int 3)] (Nat.le_of_ble_eq_true rfl) rfl ?_
  refine z_iload_n dX0_takenFor_0 rfl rfl ?_
  refine z_tableIn 3 55 dX0_takenFor_1 rfl (by decide) (by decide) rfl (by decide) ?_
  refine z_aload_nN dX0_takenFor_55 rfl rfl ?_
  refine z_castN dX0_takenFor_56 ?_
  exact z_aret dX0_takenFor_59 rfl (Or.inl ⟨_, rfl⟩) (Or.inl rfl) (Nat.zero_le _) (Nat.zero_le _) ⟨rfl, rfl⟩
theorem c_X0_takenFor_7_3 {Γ : z_W} {h : z_H} {id : Nat} (hT : z_T h id = some (.inl 7)) : z_C Γ M_X0_takenFor (z_rm 2 3 2010) [.ref id, .int 3] h (fun o h' => o = .threw (z_n h + 2) ∧ h' = z_xM h 1) := by
  refine z_C.of (by decide +kernel) rfl [some (.ref id), some (.int 3)] (Nat.le_of_ble_eq_true rfl) rfl ?_
  refine z_iload_n dX0_takenFor_0 rfl rfl ?_
  refine z_tableIn 3 55 dX0_takenFor_1 rfl (by decide) (by decide) rfl (by decide) ?_
  refine z_aload_n dX0_takenFor_55 rfl rfl ?_
  refine z_castF q464 nca_7_10 (z_rc.obj (q := (RX7, TX7, 4)) hT rfl) (by decide +kernel) (by decide +kernel) (by decide +kernel) (by decide +kernel) dX0_takenFor_56 (fun text w1 w2 => ?_)
  exact z_tnMsg (n := 1) (by decide) mw_cce (by decide) w1 w2 (Nat.le_refl _) (Nat.le_refl _) (Nat.le_of_ble_eq_true rfl) (z_thOut (by decide) (Nat.le_refl _) (Nat.le_refl _) ⟨rfl, rfl⟩)
theorem c_X0_takenFor_8_3 {Γ : z_W} {h : z_H} {id : Nat} (hT : z_T h id = some (.inl 8)) : z_C Γ M_X0_takenFor (z_rm 2 3 2010) [.ref id, .int 3] h (fun o h' => o = .threw (z_n h + 2) ∧ h' = z_xM h 1) := by
  refine z_C.of (by decide +kernel) rfl [some (.ref id), some (.int 3)] (Nat.le_of_ble_eq_true rfl) rfl ?_
  refine z_iload_n dX0_takenFor_0 rfl rfl ?_
  refine z_tableIn 3 55 dX0_takenFor_1 rfl (by decide) (by decide) rfl (by decide) ?_
  refine z_aload_n dX0_takenFor_55 rfl rfl ?_
  refine z_castF q464 nca_8_10 (z_rc.obj (q := (RX8, TX8, 4)) hT rfl) (by decide +kernel) (by decide +kernel) (by decide +kernel) (by decide +kernel) dX0_takenFor_56 (fun text w1 w2 => ?_)
  exact z_tnMsg (n := 1) (by decide) mw_cce (by decide) w1 w2 (Nat.le_refl _) (Nat.le_refl _) (Nat.le_of_ble_eq_true rfl) (z_thOut (by decide) (Nat.le_refl _) (Nat.le_refl _) ⟨rfl, rfl⟩)
theorem c_X0_takenFor_9_3 {Γ : z_W} {h : z_H} {id : Nat} (hT : z_T h id = some (.inl 9)) : z_C Γ M_X0_takenFor (z_rm 2 3 2010) [.ref id, .int 3] h (fun o h' => o = .threw (z_n h + 2) ∧ h' = z_xM h 1) := by
  refine z_C.of (by decide +kernel) rfl [some (.ref id), some (.int 3)] (Nat.le_of_ble_eq_true rfl) rfl ?_
  refine z_iload_n dX0_takenFor_0 rfl rfl ?_
  refine z_tableIn 3 55 dX0_takenFor_1 rfl (by decide) (by decide) rfl (by decide) ?_
  refine z_aload_n dX0_takenFor_55 rfl rfl ?_
  refine z_castF q464 nca_9_10 (z_rc.obj (q := (RX9, TX9, 4)) hT rfl) (by decide +kernel) (by decide +kernel) (by decide +kernel) (by decide +kernel) dX0_takenFor_56 (fun text w1 w2 => ?_)
  exact z_tnMsg (n := 1) (by decide) mw_cce (by decide) w1 w2 (Nat.le_refl _) (Nat.le_refl _) (Nat.le_of_ble_eq_true rfl) (z_thOut (by decide) (Nat.le_refl _) (Nat.le_refl _) ⟨rfl, rfl⟩)
theorem c_X0_takenFor_10_3 {Γ : z_W} {h : z_H} {id : Nat} (hT : z_T h id = some (.inl 10)) : z_C Γ M_X0_takenFor (z_rm 2 3 2010) [.ref id, .int 3] h (z_rr id h) := by
  refine z_C.of (by decide +kernel) rfl [some (.ref id), some (.int 3)] (Nat.le_of_ble_eq_true rfl) rfl ?_
  refine z_iload_n dX0_takenFor_0 rfl rfl ?_
  refine z_tableIn 3 55 dX0_takenFor_1 rfl (by decide) (by decide) rfl (by decide) ?_
  refine z_aload_n dX0_takenFor_55 rfl rfl ?_
  refine z_castS q464 rfl rfl hT dX0_takenFor_56 ?_
  exact z_aret dX0_takenFor_59 rfl (Or.inl ⟨_, rfl⟩) (Or.inr ⟨_, rfl⟩) (Nat.zero_le _) (Nat.zero_le _) ⟨rfl, rfl⟩
theorem c_X0_takenFor_11_3 {Γ : z_W} {h : z_H} {id : Nat} (hT : z_T h id = some (.inl 11)) : z_C Γ M_X0_takenFor (z_rm 2 3 2010) [.ref id, .int 3] h (fun o h' => o = .threw (z_n h + 2) ∧ h' = z_xM h 1) := by
  refine z_C.of (by decide +kernel) rfl [some (.ref id), some (.int 3)] (Nat.le_of_ble_eq_true rfl) rfl ?_
  refine z_iload_n dX0_takenFor_0 rfl rfl ?_
  refine z_tableIn 3 55 dX0_takenFor_1 rfl (by decide) (by decide) rfl (by decide) ?_
  refine z_aload_n dX0_takenFor_55 rfl rfl ?_
  refine z_castF q464 nca_11_10 (z_rc.obj (q := (RX11, TX11, 4)) hT rfl) (by decide +kernel) (by decide +kernel) (by decide +kernel) (by decide +kernel) dX0_takenFor_56 (fun text w1 w2 => ?_)
  exact z_tnMsg (n := 1) (by decide) mw_cce (by decide) w1 w2 (Nat.le_refl _) (Nat.le_refl _) (Nat.le_of_ble_eq_true rfl) (z_thOut (by decide) (Nat.le_refl _) (Nat.le_refl _) ⟨rfl, rfl⟩)
theorem c_X0_takenFor_12_3 {Γ : z_W} {h : z_H} {id : Nat} (hT : z_T h id = some (.inl 12)) : z_C Γ M_X0_takenFor (z_rm 2 3 2010) [.ref id, .int 3] h (fun o h' => o = .threw (z_n h + 2) ∧ h' = z_xM h 1) := by
  refine z_C.of (by decide +kernel) rfl [some (.ref id), some (.int 3)] (Nat.le_of_ble_eq_true rfl) rfl ?_
  refine z_iload_n dX0_takenFor_0 rfl rfl ?_
  refine z_tableIn 3 55 dX0_takenFor_1 rfl (by decide) (by decide) rfl (by decide) ?_
  refine z_aload_n dX0_takenFor_55 rfl rfl ?_
  refine z_castF q464 nca_12_10 (z_rc.obj (q := (RX12, TX12, 4)) hT rfl) (by decide +kernel) (by decide +kernel) (by decide +kernel) (by decide +kernel) dX0_takenFor_56 (fun text w1 w2 => ?_)
  exact z_tnMsg (n := 1) (by decide) mw_cce (by decide) w1 w2 (Nat.le_refl _) (Nat.le_refl _) (Nat.le_of_ble_eq_true rfl) (z_thOut (by decide) (Nat.le_refl _) (Nat.le_refl _) ⟨rfl, rfl⟩)
theorem c_X0_takenFor_13_3 {Γ : z_W} {h : z_H} {id : Nat} (hT : z_T h id = some (.inl 13)) : z_C Γ M_X0_takenFor (z_rm 2 3 2010) [.ref id, .int 3] h (z_rr id h) := by
  refine z_C.of (by decide +kernel) rfl [some (.ref id), some (.int 3)] (Nat.le_of_ble_eq_true rfl) rfl ?_
  refine z_iload_n dX0_takenFor_0 rfl rfl ?_
  refine z_tableIn 3 55 dX0_takenFor_1 rfl (by decide) (by decide) rfl (by decide) ?_
  refine z_aload_n dX0_takenFor_55 rfl rfl ?_
  refine z_castY q464 q2065 rfl rfl hT dX0_takenFor_56 ?_
  exact z_aret dX0_takenFor_59 rfl (Or.inl ⟨_, rfl⟩) (Or.inr ⟨_, rfl⟩) (Nat.zero_le _) (Nat.zero_le _) ⟨rfl, rfl⟩
theorem c_X0_takenFor_N_4 {Γ : z_W} {h : z_H} : z_C Γ M_X0_takenFor (z_rm 2 3 2010) [.null, .int 4] h (fun o h' => o = .returned (some .null) ∧ h' = h) := by
  refine z_C.of (by decide +kernel) rfl [some .null, some (.int 4)] (Nat.le_of_ble_eq_true rfl) rfl ?_
  refine z_iload_n dX0_takenFor_0 rfl rfl ?_
  refine z_tableIn 4 60 dX0_takenFor_1 rfl (by decide) (by decide) rfl (by decide) ?_
  refine z_aload_nN dX0_takenFor_60 rfl rfl ?_
  refine z_castN dX0_takenFor_61 ?_
  exact z_aret dX0_takenFor_64 rfl (Or.inl ⟨_, rfl⟩) (Or.inl rfl) (Nat.zero_le _) (Nat.zero_le _) ⟨rfl, rfl⟩
theorem c_X0_takenFor_7_4 {Γ : z_W} {h : z_H} {id : Nat} (hT : z_T h id = some (.inl 7)) : z_C Γ M_X0_takenFor (z_rm 2 3 2010) [.ref id, .int 4] h (fun o h' => o = .threw (z_n h + 2) ∧ h' = z_xM h 1) := by
  refine z_C.of (by decide +kernel) rfl [some (.ref id), some (.int 4)] (Nat.le_of_ble_eq_true rfl) rfl ?_
  refine z_iload_n dX0_takenFor_0 rfl rfl ?_
  refine z_tableIn 4 60 dX0_takenFor_1 rfl (by decide) (by decide) rfl (by decide) ?_
  refine z_aload_n dX0_takenFor_60 rfl rfl ?_
  refine z_castF q475 nca_7_11 (z_rc.obj (q := (RX7, TX7, 4)) hT rfl) (by decide +kernel) (by decide +kernel) (by decide +kernel) (by decide +kernel) dX0_takenFor_61 (fun text w1 w2 => ?_)
  exact z_tnMsg (n := 1) (by decide) mw_cce (by decide) w1 w2 (Nat.le_refl _) (Nat.le_refl _) (Nat.le_of_ble_eq_true rfl) (z_thOut (by decide) (Nat.le_refl _) (Nat.le_refl _) ⟨rfl, rfl⟩)
theorem c_X0_takenFor_8_4 {Γ : z_W} {h : z_H} {id : Nat} (hT : z_T h id = some (.inl 8)) : z_C Γ M_X0_takenFor (z_rm 2 3 2010) [.ref id, .int 4] h (fun o h' => o = .threw (z_n h + 2) ∧ h' = z_xM h 1) := by
  refine z_C.of (by decide +kernel) rfl [some (.ref id), some (.int 4)] (Nat.le_of_ble_eq_true rfl) rfl ?_
  refine z_iload_n dX0_takenFor_0 rfl rfl ?_
  refine z_tableIn 4 60 dX0_takenFor_1 rfl (by decide) (by decide) rfl (by decide) ?_
  refine z_aload_n dX0_takenFor_60 rfl rfl ?_
  refine z_castF q475 nca_8_11 (z_rc.obj (q := (RX8, TX8, 4)) hT rfl) (by decide +kernel) (by decide +kernel) (by decide +kernel) (by decide +kernel) dX0_takenFor_61 (fun text w1 w2 => ?_)
  exact z_tnMsg (n := 1) (by decide) mw_cce (by decide) w1 w2 (Nat.le_refl _) (Nat.le_refl _) (Nat.le_of_ble_eq_true rfl) (z_thOut (by decide) (Nat.le_refl _) (Nat.le_refl _) ⟨rfl, rfl⟩)
theorem c_X0_takenFor_9_4 {Γ : z_W} {h : z_H} {id : Nat} (hT : z_T h id = some (.inl 9)) : z_C Γ M_X0_takenFor (z_rm 2 3 2010) [.ref id, .int 4] h (fun o h' => o = .threw (z_n h + 2) ∧ h' = z_xM h 1) := by
  refine z_C.of (by decide +kernel) rfl [some (.ref id), some (.int 4)] (Nat.le_of_ble_eq_true rfl) rfl ?_
  refine z_iload_n dX0_takenFor_0 rfl rfl ?_
  refine z_tableIn 4 60 dX0_takenFor_1 rfl (by decide) (by decide) rfl (by decide) ?_
  refine z_aload_n dX0_takenFor_60 rfl rfl ?_
  refine z_castF q475 nca_9_11 (z_rc.obj (q := (RX9, TX9, 4)) hT rfl) (by decide +kernel) (by decide +kernel) (by decide +kernel) (by decide +kernel) dX0_takenFor_61 (fun text w1 w2 => ?_)
  exact z_tnMsg (n := 1) (by decide) mw_cce (by decide) w1 w2 (Nat.le_refl _) (Nat.le_refl _) (Nat.le_of_ble_eq_true rfl) (z_thOut (by decide) (Nat.le_refl _) (Nat.le_refl _) ⟨rfl, rfl⟩)
theorem c_X0_takenFor_10_4 {Γ : z_W} {h : z_H} {id : Nat} (hT : z_T h id = some (.inl 10)) : z_C Γ M_X0_takenFor (z_rm 2 3 2010) [.ref id, .int 4] h (fun o h' => o = .threw (z_n h + 2) ∧ h' = z_xM h 1) := by
  refine z_C.of (by decide +kernel) rfl [some (.ref id), some (.int 4)] (Nat.le_of_ble_eq_true rfl) rfl ?_
  refine z_iload_n dX0_takenFor_0 rfl rfl ?_
  refine z_tableIn 4 60 dX0_takenFor_1 rfl (by decide) (by decide) rfl (by decide) ?_
  refine z_aload_n dX0_takenFor_60 rfl rfl ?_
  refine z_castF q475 nca_10_11 (z_rc.obj (q := (RX10, TX10, 4)) hT rfl) (by decide +kernel) (by decide +kernel) (by decide +kernel) (by decide +kernel) dX0_takenFor_61 (fun text w1 w2 => ?_)
  exact z_tnMsg (n := 1) (by decide) mw_cce (by decide) w1 w2 (Nat.le_refl _) (Nat.le_refl _) (Nat.le_of_ble_eq_true rfl) (z_thOut (by decide) (Nat.le_refl _) (Nat.le_refl _) ⟨rfl, rfl⟩)
theorem c_X0_takenFor_11_4 {Γ : z_W} {h : z_H} {id : Nat} (hT : z_T h id = some (.inl 11)) : z_C Γ M_X0_takenFor (z_rm 2 3 2010) [.ref id, .int 4] h (z_rr id h) := by
  refine z_C.of (by decide +kernel) rfl [some (.ref id), some (.int 4)] (Nat.le_of_ble_eq_true rfl) rfl ?_
  refine z_iload_n dX0_takenFor_0 rfl rfl ?_
  refine z_tableIn 4 60 dX0_takenFor_1 rfl (by decide) (by decide) rfl (by decide) ?_
  refine z_aload_n dX0_takenFor_60 rfl rfl ?_
  refine z_castS q475 rfl rfl hT dX0_takenFor_61 ?_
  exact z_aret dX0_takenFor_64 rfl (Or.inl ⟨_, rfl⟩) (Or.inr ⟨_, rfl⟩) (Nat.zero_le _) (Nat.zero_le _) ⟨rfl, rfl⟩
theorem c_X0_takenFor_12_4 {Γ : z_W} {h : z_H} {id : Nat} (hT : z_T h id = some (.inl 12)) : z_C Γ M_X0_takenFor (z_rm 2 3 2010) [.ref id, .int 4] h (fun o h' => o = .threw (z_n h + 2) ∧ h' = z_xM h 1) := by
  refine z_C.of (by decide +kernel) rfl [some (.ref id), some (.int 4)] (Nat.le_of_ble_eq_true rfl) rfl ?_
  refine z_iload_n dX0_takenFor_0 rfl rfl ?_
  refine z_tableIn 4 60 dX0_takenFor_1 rfl (by decide) (by decide) rfl (by decide) ?_
  refine z_aload_n dX0_takenFor_60 rfl rfl ?_
  refine z_castF q475 nca_12_11 (z_rc.obj (q := (RX12, TX12, 4)) hT rfl) (by decide +kernel) (by decide +kernel) (by decide +kernel) (by decide +kernel) dX0_takenFor_61 (fun text w1 w2 => ?_)
  exact z_tnMsg (n := 1) (by decide) mw_cce (by decide) w1 w2 (Nat.le_refl _) (Nat.le_refl _) (Nat.le_of_ble_eq_true rfl) (z_thOut (by decide) (Nat.le_refl _) (Nat.le_refl _) ⟨rfl, rfl⟩)
theorem c_X0_takenFor_13_4 {Γ : z_W} {h : z_H} {id : Nat} (hT : z_T h id = some (.inl 13)) : z_C Γ M_X0_takenFor (z_rm 2 3 2010) [.ref id, .int 4] h (fun o h' => o = .threw (z_n h + 2) ∧ h' = z_xM h 1) := by
  refine z_C.of (by decide +kernel) rfl [some (.ref id), some (.int 4)] (Nat.le_of_ble_eq_true rfl) rfl ?_
  refine z_iload_n dX0_takenFor_0 rfl rfl ?_
  refine z_tableIn 4 60 dX0_takenFor_1 rfl (by decide) (by decide) rfl (by decide) ?_
  refine z_aload_n dX0_takenFor_60 rfl rfl ?_
  refine z_castF q475 nca_13_11 (z_rc.obj (q := (RX13, TX13, 5)) hT rfl) (by decide +kernel) (by decide +kernel) (by decide +kernel) (by decide +kernel) dX0_takenFor_61 (fun text w1 w2 => ?_)
  exact z_tnMsg (n := 1) (by decide) mw_cce (by decide) w1 w2 (Nat.le_refl _) (Nat.le_refl _) (Nat.le_of_ble_eq_true rfl) (z_thOut (by decide) (Nat.le_refl _) (Nat.le_refl _) ⟨rfl, rfl⟩)
theorem c_X0_takenFor_N_5 {Γ : z_W} {h : z_H} : z_C Γ M_X0_takenFor (z_rm 2 3 2010) [.null, .int 5] h (fun o h' => o = .returned (some .null) ∧ h' = h) := by
  refine z_C.of (by decide +kernel) rfl [some .null, some (.int 5)] (Nat.le_of_ble_eq_true rfl) rfl ?_
  refine z_iload_n dX0_takenFor_0 rfl rfl ?_
  refine z_tableIn 5 65 dX0_takenFor_1 rfl (by decide) (by decide) rfl (by decide) ?_
  refine z_aload_nN dX0_takenFor_65 rfl rfl ?_
  refine z_castN dX0_takenFor_66 ?_
  exact z_aret dX0_takenFor_69 rfl (Or.inl ⟨_, rfl⟩) (Or.inl rfl) (Nat.zero_le _) (Nat.zero_le _) ⟨rfl, rfl⟩
theorem c_X0_takenFor_7_5 {Γ : z_W} {h : z_H} {id : Nat} (hT : z_T h id = some (.inl 7)) : z_C Γ M_X0_takenFor (z_rm 2 3 2010) [.ref id, .int 5] h (fun o h' => o = .threw (z_n h + 2) ∧ h' = z_xM h 1) := by
  refine z_C.of (by decide +kernel) rfl [some (.ref id), some (.int 5)] (Nat.le_of_ble_eq_true rfl) rfl ?_
  refine z_iload_n dX0_takenFor_0 rfl rfl ?_
  refine z_tableIn 5 65 dX0_takenFor_1 rfl (by decide) (by decide) rfl (by decide) ?_
  refine z_aload_n dX0_takenFor_65 rfl rfl ?_
  refine z_castF q486 nca_7_12 (z_rc.obj (q := (RX7, TX7, 4)) hT rfl) (by decide +kernel) (by decide +kernel) (by decide +kernel) (by decide +kernel) dX0_takenFor_66 (fun text w1 w2 => ?_)
  exact z_tnMsg (n := 1) (by decide) mw_cce (by decide) w1 w2 (Nat.le_refl _) (Nat.le_refl _) (Nat.le_of_ble_eq_true rfl) (z_thOut (by decide) (Nat.le_refl _) (Nat.le_refl _) ⟨rfl, rfl⟩)
theorem c_X0_takenFor_8_5 {Γ : z_W} {h : z_H} {id : Nat} (hT : z_T h id = some (.inl 8)) : z_C Γ M_X0_takenFor (z_rm 2 3 2010) [.ref id, .int 5] h (fun o h' => o = .threw (z_n h + 2) ∧ h' = z_xM h 1) := by
  refine z_C.of (by decide +kernel) rfl [some (.ref id), some (.int 5)] (Nat.le_of_ble_eq_true rfl) rfl ?_
  refine z_iload_n dX0_takenFor_0 rfl rfl ?_
  refine z_tableIn 5 65 dX0_takenFor_1 rfl (by decide) (by decide) rfl (by decide) ?_
  refine z_aload_n dX0_takenFor_65 rfl rfl ?_
  refine z_castF q486 nca_8_12 (z_rc.obj (q := (RX8, TX8, 4)) hT rfl) (by decide +kernel) (by decide +kernel) (by decide +kernel) (by decide +kernel) dX0_takenFor_66 (fun text w1 w2 => ?_)
  exact z_tnMsg (n := 1) (by decide) mw_cce (by decide) w1 w2 (Nat.le_refl _) (Nat.le_refl _) (Nat.le_of_ble_eq_true rfl) (z_thOut (by decide) (Nat.le_refl _) (Nat.le_refl _) ⟨rfl, rfl⟩)
theorem c_X0_takenFor_9_5 {Γ : z_W} {h : z_H} {id : Nat} (hT : z_T h id = some (.inl 9)) : z_C Γ M_X0_takenFor (z_rm 2 3 2010) [.ref id, .int 5] h (fun o h' => o = .threw (z_n h + 2) ∧ h' = z_xM h 1) := by
  refine z_C.of (by decide +kernel) rfl [some (.ref id), some (.int 5)] (Nat.le_of_ble_eq_true rfl) rfl ?_
  refine z_iload_n dX0_takenFor_0 rfl rfl ?_
  refine z_tableIn 5 65 dX0_takenFor_1 rfl (by decide) (by decide) rfl (by decide) ?_
  refine z_aload_n dX0_takenFor_65 rfl rfl ?_
  refine z_castF q486 nca_9_12 (z_rc.obj (q := (RX9, TX9, 4)) hT rfl) (by decide +kernel) (by decide +kernel) (by decide +kernel) (by decide +kernel) dX0_takenFor_66 (fun text w1 w2 => ?_)
  exact z_tnMsg (n := 1) (by decide) mw_cce (by decide) w1 w2 (Nat.le_refl _) (Nat.le_refl _) (Nat.le_of_ble_eq_true rfl) (z_thOut (by decide) (Nat.le_refl _) (Nat.le_refl _) ⟨rfl, rfl⟩)
theorem c_X0_takenFor_10_5 {Γ : z_W} {h : z_H} {id : Nat} (hT : z_T h id = some (.inl 10)) : z_C Γ M_X0_takenFor (z_rm 2 3 2010) [.ref id, .int 5] h (fun o h' => o = .threw (z_n h + 2) ∧ h' = z_xM h 1) := by
  refine z_C.of (by decide +kernel) rfl [some (.ref id), some (.int 5)] (Nat.le_of_ble_eq_true rfl) rfl ?_
  refine z_iload_n dX0_takenFor_0 rfl rfl ?_
  refine z_tableIn 5 65 dX0_takenFor_1 rfl (by decide) (by decide) rfl (by decide) ?_
  refine z_aload_n dX0_takenFor_65 rfl rfl ?_
  refine z_castF q486 nca_10_12 (z_rc.obj (q := (RX10, TX10, 4)) hT rfl) (by decide +kernel) (by decide +kernel) (by decide +kernel) (by decide +kernel) dX0_takenFor_66 (fun text w1 w2 => ?_)
  exact z_tnMsg (n := 1) (by decide) mw_cce (by decide) w1 w2 (Nat.le_refl _) (Nat.le_refl _) (Nat.le_of_ble_eq_true rfl) (z_thOut (by decide) (Nat.le_refl _) (Nat.le_refl _) ⟨rfl, rfl⟩)
theorem c_X0_takenFor_11_5 {Γ : z_W} {h : z_H} {id : Nat} (hT : z_T h id = some (.inl 11)) : z_C Γ M_X0_takenFor (z_rm 2 3 2010) [.ref id, .int 5] h (fun o h' => o = .threw (z_n h + 2) ∧ h' = z_xM h 1) := by
  refine z_C.of (by decide +kernel) rfl [some (.ref id), some (.int 5)] (Nat.le_of_ble_eq_true rfl) rfl ?_
  refine z_iload_n dX0_takenFor_0 rfl rfl ?_
  refine z_tableIn 5 65 dX0_takenFor_1 rfl (by decide) (by decide) rfl (by decide) ?_
  refine z_aload_n dX0_takenFor_65 rfl rfl ?_
  refine z_castF q486 nca_11_12 (z_rc.obj (q := (RX11, TX11, 4)) hT rfl) (by decide +kernel) (by decide +kernel) (by decide +kernel) (by decide +kernel) dX0_takenFor_66 (fun text w1 w2 => ?_)
  exact z_tnMsg (n := 1) (by decide) mw_cce (by decide) w1 w2 (Nat.le_refl _) (Nat.le_refl _) (Nat.le_of_ble_eq_true rfl) (z_thOut (by decide) (Nat.le_refl _) (Nat.le_refl _) ⟨rfl, rfl⟩)
theorem c_X0_takenFor_12_5 {Γ : z_W} {h : z_H} {id : Nat} (hT : z_T h id = some (.inl 12)) : z_C Γ M_X0_takenFor (z_rm 2 3 2010) [.ref id, .int 5] h (z_rr id h) := by
  refine z_C.of (by decide +kernel) rfl [some (.ref id), some (.int 5)] (Nat.le_of_ble_eq_true rfl) rfl ?_
  refine z_iload_n dX0_takenFor_0 rfl rfl ?_
  refine z_tableIn 5 65 dX0_takenFor_1 rfl (by decide) (by decide) rfl (by decide) ?_
  refine z_aload_n dX0_takenFor_65 rfl rfl ?_
  refine z_castS q486 rfl rfl hT dX0_takenFor_66 ?_
  exact z_aret dX0_takenFor_69 rfl (Or.inl ⟨_, rfl⟩) (Or.inr ⟨_, rfl⟩) (Nat.zero_le _) (Nat.zero_le _) ⟨rfl, rfl⟩
theorem c_X0_takenFor_13_5 {Γ : z_W} {h : z_H} {id : Nat} (hT : z_T h id = some (.inl 13)) : z_C Γ M_X0_takenFor (z_rm 2 3 2010) [.ref id, .int 5] h (fun o h' => o = .threw (z_n h + 2) ∧ h' = z_xM h 1) := by
  refine z_C.of (by decide +kernel) rfl [some (.ref id), some (.int 5)] (Nat.le_of_ble_eq_true rfl) rfl ?_
  refine z_iload_n dX0_takenFor_0 rfl rfl ?_
  refine z_tableIn 5 65 dX0_takenFor_1 rfl (by decide) (by decide) rfl (by decide) ?_
  refine z_aload_n dX0_takenFor_65 rfl rfl ?_
  refine z_castF q486 nca_13_12 (z_rc.obj (q := (RX13, TX13, 5)) hT rfl) (by decide +kernel) (by decide +kernel) (by decide +kernel) (by decide +kernel) dX0_takenFor_66 (fun text w1 w2 => ?_)
  exact z_tnMsg (n := 1) (by decide) mw_cce (by decide) w1 w2 (Nat.le_refl _) (Nat.le_refl _) (Nat.le_of_ble_eq_true rfl) (z_thOut (by decide) (Nat.le_refl _) (Nat.le_refl _) ⟨rfl, rfl⟩)
theorem c_X0_takenFor_N_6 {Γ : z_W} {h : z_H} : z_C Γ M_X0_takenFor (z_rm 2 3 2010) [.null, .int 6] h (fun o h' => o = .returned (some .null) ∧ h' = h) := by
  refine z_C.of (by decide +kernel) rfl [some .null, some (.int 6)] (Nat.le_of_ble_eq_true rfl) rfl ?_
  refine z_iload_n dX0_takenFor_0 rfl rfl ?_
  refine z_tableOut 70 dX0_takenFor_1 (by decide) (by decide) ?_
  refine z_aload_nN dX0_takenFor_70 rfl rfl ?_
  refine z_castN dX0_takenFor_71 ?_
  exact z_aret dX0_takenFor_74 rfl (Or.inl ⟨_, rfl⟩) (Or.inl rfl) (Nat.zero_le _) (Nat.zero_le _) ⟨rfl, rfl⟩
theorem c_X0_takenFor_7_6 {Γ : z_W} {h : z_H} {id : Nat} (hT : z_T h id = some (.inl 7)) : z_C Γ M_X0_takenFor (z_rm 2 3 2010) [.ref id, .int 6] h (fun o h' => o = .threw (z_n h + 2) ∧ h' = z_xM h 1) := by
  refine z_C.of (by decide +kernel) rfl [some (.ref id), some (.int 6)] (Nat.le_of_ble_eq_true rfl) rfl ?_
  refine z_iload_n dX0_takenFor_0 rfl rfl ?_
  refine z_tableOut 70 dX0_takenFor_1 (by decide) (by decide) ?_
  refine z_aload_n dX0_takenFor_70 rfl rfl ?_
  refine z_castF q497 nca_7_13 (z_rc.obj (q := (RX7, TX7, 4)) hT rfl) (by decide +kernel) (by decide +kernel) (by decide +kernel) (by decide +kernel) dX0_takenFor_71 (fun text w1 w2 => ?_)
  exact z_tnMsg (n := 1) (by decide) mw_cce (by decide) w1 w2 (Nat.le_refl _) (Nat.le_refl _) (Nat.le_of_ble_eq_true rfl) (z_thOut (by decide) (Nat.le_refl _) (Nat.le_refl _) ⟨rfl, rfl⟩)
theorem c_X0_takenFor_8_6 {Γ : z_W} {h : z_H} {id : Nat} (hT : z_T h id = some (.inl 8)) : z_C Γ M_X0_takenFor (z_rm 2 3 2010) [.ref id, .int 6] h (fun o h' => o = .threw (z_n h + 2) ∧ h' = z_xM h 1) := by
  refine z_C.of (by decide +kernel) rfl [some (.ref id), some (.int 6)] (Nat.le_of_ble_eq_true rfl) rfl ?_
  refine z_iload_n dX0_takenFor_0 rfl rfl ?_
  refine z_tableOut 70 dX0_takenFor_1 (by decide) (by decide) ?_
  refine z_aload_n dX0_takenFor_70 rfl rfl ?_
  refine z_castF q497 nca_8_13 (z_rc.obj (q := (RX8, TX8, 4)) hT rfl) (by decide +kernel) (by decide +kernel) (by decide +kernel) (by decide +kernel) dX0_takenFor_71 (fun text w1 w2 => ?_)
  exact z_tnMsg (n := 1) (by decide) mw_cce (by decide) w1 w2 (Nat.le_refl _) (Nat.le_refl _) (Nat.le_of_ble_eq_true rfl) (z_thOut (by decide) (Nat.le_refl _) (Nat.le_refl _) ⟨rfl, rfl⟩)
theorem c_X0_takenFor_9_6 {Γ : z_W} {h : z_H} {id : Nat} (hT : z_T h id = some (.inl 9)) : z_C Γ M_X0_takenFor (z_rm 2 3 2010) [.ref id, .int 6] h (fun o h' => o = .threw (z_n h + 2) ∧ h' = z_xM h 1) := by
  refine z_C.of (by decide +kernel) rfl [some (.ref id), some (.int 6)] (Nat.le_of_ble_eq_true rfl) rfl ?_
  refine z_iload_n dX0_takenFor_0 rfl rfl ?_
  refine z_tableOut 70 dX0_takenFor_1 (by decide) (by decide) ?_
  refine z_aload_n dX0_takenFor_70 rfl rfl ?_
  refine z_castF q497 nca_9_13 (z_rc.obj (q := (RX9, TX9, 4)) hT rfl) (by decide +kernel) (by decide +kernel) (by decide +kernel) (by decide +kernel) dX0_takenFor_71 (fun text w1 w2 => ?_)
  exact z_tnMsg (n := 1) (by decide) mw_cce (by decide) w1 w2 (Nat.le_refl _) (Nat.le_refl _) (Nat.le_of_ble_eq_true rfl) (z_thOut (by decide) (Nat.le_refl _) (Nat.le_refl _) ⟨rfl, rfl⟩)
theorem c_X0_takenFor_10_6 {Γ : z_W} {h : z_H} {id : Nat} (hT : z_T h id = some (.inl 10)) : z_C Γ M_X0_takenFor (z_rm 2 3 2010) [.ref id, .int 6] h (fun o h' => o = .threw (z_n h + 2) ∧ h' = z_xM h 1) := by
  refine z_C.of (by decide +kernel) rfl [some (.ref id), some (.int 6)] (Nat.le_of_ble_eq_true rfl) rfl ?_
  refine z_iload_n dX0_takenFor_0 rfl rfl ?_
  refine z_tableOut 70 dX0_takenFor_1 (by decide) (by decide) ?_
  refine z_aload_n dX0_takenFor_70 rfl rfl ?_
  refine z_castF q497 nca_10_13 (z_rc.obj (q := (RX10, TX10, 4)) hT rfl) (by decide +kernel) (by decide +kernel) (by decide +kernel) (by decide +kernel) dX0_takenFor_71 (fun text w1 w2 => ?_)
  exact z_tnMsg (n := 1) (by decide) mw_cce (by decide) w1 w2 (Nat.le_refl _) (Nat.le_refl _) (Nat.le_of_ble_eq_true rfl) (z_thOut (by decide) (Nat.le_refl _) (Nat.le_refl _) ⟨rfl, rfl⟩)
theorem c_X0_takenFor_11_6 {Γ : z_W} {h : z_H} {id : Nat} (hT : z_T h id = some (.inl 11)) : z_C Γ M_X0_takenFor (z_rm 2 3 2010) [.ref id, .int 6] h (fun o h' => o = .threw (z_n h + 2) ∧ h' = z_xM h 1) := by
  refine z_C.of (by decide +kernel) rfl [some (.ref id), some (.int 6)] (Nat.le_of_ble_eq_true rfl) rfl ?_
  refine z_iload_n dX0_takenFor_0 rfl rfl ?_
  refine z_tableOut 70 dX0_takenFor_1 (by decide) (by decide) ?_
  refine z_aload_n dX0_takenFor_70 rfl rfl ?_
  refine z_castF q497 nca_11_13 (z_rc.obj (q := (RX11, TX11, 4)) hT rfl) (by decide +kernel) (by decide +kernel) (by decide +kernel) (by decide +kernel) dX0_takenFor_71 (fun text w1 w2 => ?_)
  exact z_tnMsg (n := 1) (by decide) mw_cce (by decide) w1 w2 (Nat.le_refl _) (Nat.le_refl _) (Nat.le_of_ble_eq_true rfl) (z_thOut (by decide) (Nat.le_refl _) (Nat.le_refl _) ⟨rfl, rfl⟩)
theorem c_X0_takenFor_12_6 {Γ : z_W} {h : z_H} {id : Nat} (hT : z_T h id = some (.inl 12)) : z_C Γ M_X0_takenFor (z_rm 2 3 2010) [.ref id, .int 6] h (fun o h' => o = .threw (z_n h + 2) ∧ h' = z_xM h 1) := by
  refine z_C.of (by decide +kernel) rfl [some (.ref id), some (.int 6)] (Nat.le_of_ble_eq_true rfl) rfl ?_
  refine z_iload_n dX0_takenFor_0 rfl rfl ?_
  refine z_tableOut 70 dX0_takenFor_1 (by decide) (by decide) ?_
  refine z_aload_n dX0_takenFor_70 rfl rfl ?_
  refine z_castF q497 nca_12_13 (z_rc.obj (q := (RX12, TX12, 4)) hT rfl) (by decide +kernel) (by decide +kernel) (by decide +kernel) (by decide +kernel) dX0_takenFor_71 (fun text w1 w2 => ?_)
  exact z_tnMsg (n := 1) (by decide) mw_cce (by decide) w1 w2 (Nat.le_refl _) (Nat.le_refl _) (Nat.le_of_ble_eq_true rfl) (z_thOut (by decide) (Nat.le_refl _) (Nat.le_refl _) ⟨rfl, rfl⟩)
theorem c_X0_takenFor_13_6 {Γ : z_W} {h : z_H} {id : Nat} (hT : z_T h id = some (.inl 13)) : z_C Γ M_X0_takenFor (z_rm 2 3 2010) [.ref id, .int 6] h (z_rr id h) := by
  refine z_C.of (by decide +kernel) rfl [some (.ref id), some (.int 6)] (Nat.le_of_ble_eq_true rfl) rfl ?_
  refine z_iload_n dX0_takenFor_0 rfl rfl ?_
  refine z_tableOut 70 dX0_takenFor_1 (by decide) (by decide) ?_
  refine z_aload_n dX0_takenFor_70 rfl rfl ?_
  refine z_castS q497 rfl rfl hT dX0_takenFor_71 ?_
  exact z_aret dX0_takenFor_74 rfl (Or.inl ⟨_, rfl⟩) (Or.inr ⟨_, rfl⟩) (Nat.zero_le _) (Nat.zero_le _) ⟨rfl, rfl⟩
theorem c_X0_takenFor {Γ : z_W} {h : z_H} {id : Nat} (d : Nat) (hd : d ≤ 6) (k : Nat) (hk : k ≤ 6) (hT : z_T h id = some (.inl (7 + d))) : z_C Γ M_X0_takenFor (z_rm 2 3 2010) [.ref id, .int (nI k)] h (z_tkQ (z_tkd d k) h id) := by
  match d, hd, k, hk, hT with
  | 0, _, 0, _, hT => exact c_X0_takenFor_7_0 hT
  | 0, _, 1, _, hT => exact c_X0_takenFor_7_1 hT
  | 0, _, 2, _, hT => exact c_X0_takenFor_7_2 hT
  | 0, _, 3, _, hT => exact c_X0_takenFor_7_3 hT
  | 0, _, 4, _, hT => exact c_X0_takenFor_7_4 hT
  | 0, _, 5, _, hT => exact c_X0_takenFor_7_5 hT
  | 0, _, 6, _, hT => exact c_X0_takenFor_7_6 hT
  | 1, _, 0, _, hT => exact c_X0_takenFor_8_0 hT
  | 1, _, 1, _, hT => exact c_X0_takenFor_8_1 hT
  | 1, _, 2, _, hT => exact c_X0_takenFor_8_2 hT
  | 1, _, 3, _, hT => exact c_X0_takenFor_8_3 hT
  | 1, _, 4, _, hT => exact c_X0_takenFor_8_4 hT
  | 1, _, 5, _, hT => exact c_X0_takenFor_8_5 hT
  | 1, _, 6, _, hT => exact c_X0_takenFor_8_6 hT
  | 2, _, 0, _, hT => exact c_X0_takenFor_9_0 hT
  | 2, _, 1, _, hT => exact c_X0_takenFor_9_1 hT
  | 2, _, 2, _, hT => exact c_X0_takenFor_9_2 hT
  | 2, _, 3, _, hT => exact c_X0_takenFor_9_3 hT
  | 2, _, 4, _, hT => exact c_X0_takenFor_9_4 hT
  | 2, _, 5, _, hT => exact c_X0_takenFor_9_5 hT
  | 2, _, 6, _, hT => exact c_X0_takenFor_9_6 hT
  | 3, _, 0, _, hT => exact c_X0_takenFor_10_0 hT
  | 3, _, 1, _, hT => exact c_X0_takenFor_10_1 hT
  | 3, _, 2, _, hT => exact c_X0_takenFor_10_2 hT
  | 3, _, 3, _, hT => exact c_X0_takenFor_10_3 hT
  | 3, _, 4, _, hT => exact c_X0_takenFor_10_4 hT
  | 3, _, 5, _, hT => exact c_X0_takenFor_10_5 hT
  | 3, _, 6, _, hT => exact c_X0_takenFor_10_6 hT
  | 4, _, 0, _, hT => exact c_X0_takenFor_11_0 hT
  | 4, _, 1, _, hT => exact c_X0_takenFor_11_1 hT
  | 4, _, 2, _, hT => exact c_X0_takenFor_11_2 hT
  | 4, _, 3, _, hT => exact c_X0_takenFor_11_3 hT
  | 4, _, 4, _, hT => exact c_X0_takenFor_11_4 hT
  | 4, _, 5, _, hT => exact c_X0_takenFor_11_5 hT
  | 4, _, 6, _, hT => exact c_X0_takenFor_11_6 hT
  | 5, _, 0, _, hT => exact c_X0_takenFor_12_0 hT
  | 5, _, 1, _, hT => exact c_X0_takenFor_12_1 hT
  | 5, _, 2, _, hT => exact c_X0_takenFor_12_2 hT
  | 5, _, 3, _, hT => exact c_X0_takenFor_12_3 hT
  | 5, _, 4, _, hT => exact c_X0_takenFor_12_4 hT
  | 5, _, 5, _, hT => exact c_X0_takenFor_12_5 hT
  | 5, _, 6, _, hT => exact c_X0_takenFor_12_6 hT
  | 6, _, 0, _, hT => exact c_X0_takenFor_13_0 hT
  | 6, _, 1, _, hT => exact c_X0_takenFor_13_1 hT
  | 6, _, 2, _, hT => exact c_X0_takenFor_13_2 hT
  | 6, _, 3, _, hT => exact c_X0_takenFor_13_3 hT
  | 6, _, 4, _, hT => exact c_X0_takenFor_13_4 hT
  | 6, _, 5, _, hT => exact c_X0_takenFor_13_5 hT
  | 6, _, 6, _, hT => exact c_X0_takenFor_13_6 hT
  | d + 7, hd, _, _, _ => omega
  | _, _, k + 7, hk, _ => omega
theorem c_X0_takenFor_N {Γ : z_W} {h : z_H} (k : Nat) (hk : k ≤ 6) : z_C Γ M_X0_takenFor (z_rm 2 3 2010) [.null, .int (nI k)] h (fun o h' => o = .returned (some .null) ∧ h' = h) := by
  match k, hk with
  | 0, _ => exact c_X0_takenFor_N_0
  | 1, _ => exact c_X0_takenFor_N_1
  | 2, _ => exact c_X0_takenFor_N_2
  | 3, _ => exact c_X0_takenFor_N_3
  | 4, _ => exact c_X0_takenFor_N_4
  | 5, _ => exact c_X0_takenFor_N_5
  | 6, _ => exact c_X0_takenFor_N_6
  | k + 7, hk => omega
