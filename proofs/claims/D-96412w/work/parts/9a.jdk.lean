/-! THE JDK's STATICS, CLASS CONSTANTS, STRING LITERALS (by hand). -/
section ZJDK
variable {Γ : z_W} {M : z_M} {rm : Room} {Q : Outcome → z_H → Prop} {cs ss pc : Nat} {ls : List (Option Value)} {st : List Value} {h : z_H}
/-- a word of the tables that isn't in the list -/
theorem z_tw {w : Cond} (hw : w ∈ lw_tbl) (hk : w.keeps = true) (ho : w.onTables = true) {l : Launch} {s : State} (hK : z_K Γ l s) (args : Array Value) : w.before args s = true := by
  obtain ⟨-, -, s0, a0, e1, e2, e3, -⟩ := hK.2.2.2.2.2.2.2
  have h1 : w.before a0 (s0.setVm s.vm) = true := Cond.holds_shifted (State.Shifted.of_warmed e2) w [] hk (e3 w hw)
  rw [Cond.onTables_vm (A' := args) (U' := s) s.vm w ho, State.setVm_self] at h1
  exact h1
/-- what a static holds all through -/
def z_sv (Γ : z_W) (C n d : String) (v : Value) : Prop := ∀ (l : Launch) (s : State), z_K Γ l s → va_Z C n d (z_cv Γ v) (fun a => z_B Γ ≤ a) s Γ.2.2.2
theorem z_svOf {C n d : String} {v : Value} (hl : Cond.laysStatic C n d ∈ lw_tbl) (hi : Cond.initialized C ∈ lw_all) {l : Launch} {s s0 : State} {a0 : Array Value} (e1 : s0.heap = Γ.2.2.2) (e2 : s0.WarmedH s.vm) (e3 : ∀ w ∈ lw_tbl, w.before a0 s0 = true) (hv : (Term.static C n d).eval a0 s0 none [] s0 = some v) : va_Z C n d v (fun a => z_B Γ ≤ a) s Γ.2.2.2 := by
  have hz : va_Z C n d v (fun a => z_B Γ ≤ a) s0 s0.heap := va_Zof (e3 _ hl) (e3 _ (lw_all_tbl hi)) hv (fun a ha q => by rw [e1] at ha; exact Nat.not_le.mpr ha q)
  have hz2 := va_Z.moved e2.alike hz
  rw [e1] at hz2
  exact hz2
theorem z_svE : z_sv Γ "java/util/ArrayList" "DEFAULTCAPACITY_EMPTY_ELEMENTDATA" "[Ljava/lang/Object;" (.ref 1) := by
  intro l s hK
  obtain ⟨-, -, s0, a0, e1, e2, e3, e4, e5, e6, -⟩ := hK.2.2.2.2.2.2.2
  exact z_svOf (l := l) q182 q92 e1 e2 e3 (e6 (1, .static "java/util/ArrayList" "DEFAULTCAPACITY_EMPTY_ELEMENTDATA" "[Ljava/lang/Object;") (by simp [z_old]))
theorem z_svC : z_sv Γ "java/lang/String" "COMPACT_STRINGS" "Z" (.int 1) := by
  intro l s hK
  obtain ⟨-, -, s0, a0, e1, e2, e3, e4, e5, e6, -⟩ := hK.2.2.2.2.2.2.2
  exact z_svOf (l := l) q704 q108 e1 e2 e3 (va_eqi (z_and (z_and (z_and (z_and (z_and (z_and (z_and (z_and (z_and (z_and e4).1).1).1).1).1).1).2).1).2).1)
theorem z_gets {idx : Nat} {C n d : String} {v : Value} (hd : decode M.2.1 pc = .ok (.getstatic idx, 3)) (hlk : Cond.fieldLink M.1.cls idx C n d ∈ lw_all) (hs : z_sv Γ C n d v) (kk : z_G Γ M rm Q cs ss (pc + 3) ls (v :: st) h) : z_G Γ M rm Q cs ss pc ls st h := by
  intro p l e s m args below meth c H locs la X hR hL hl
  obtain ⟨cf, kf, fi, f, a, cell, h1, h2, h3, h4, h5, h6, h7, h8⟩ := hs l s X.2.2.2.2.2.2.2.2.2
  exact W.gets X.1 X.2.1 X.2.2.2.2.1 (X.2.2.2.2.2.1 _ hlk) h1 h2 h3 h4 (by rw [hR.2.2.1 a (Nat.not_le.mp h8)]; exact h5) (fun e => by rw [e] at h6; cases h6) h7 rfl hd (kk p l e s m args below meth c H locs la X hR hL hl)
theorem z_getsF {idx : Nat} (hd : decode M.2.1 pc = .ok (.getstatic idx, 3)) (hlk : Cond.fieldLink M.1.cls idx "jdk/internal/util/Preconditions" "SIOOBE_FORMATTER" "Ljava/util/function/BiFunction;" ∈ lw_all) (kk : ∀ v, v = .null ∨ v = .ref 11 → z_G Γ M rm Q cs ss (pc + 3) ls (v :: st) h) : z_G Γ M rm Q cs ss pc ls st h := by
  intro p l e s m args below meth c H locs la X hR hL hl
  obtain ⟨-, -, s0, a0, e1, e2, e3, e4, e5, e6, v, e7, e8⟩ := X.2.2.2.2.2.2.2.2.2.2.2.2.2.2.2.2
  obtain ⟨cf, kf, fi, f, a, cell, h1, h2, h3, h4, h5, h6, h7, h8⟩ := z_svOf (Γ := Γ) (l := l) q720 q106 e1 e2 e3 e7
  have hx : ∃ w, (w = .null ∨ w = .ref 11) ∧ z_cv Γ w = v := by
    rcases e8 with rfl | rfl
    · exact ⟨.null, Or.inl rfl, rfl⟩
    · exact ⟨.ref 11, Or.inr rfl, rfl⟩
  obtain ⟨w, hw, rfl⟩ := hx
  exact W.gets X.1 X.2.1 X.2.2.2.2.1 (X.2.2.2.2.2.1 _ hlk) h1 h2 h3 h4 (by rw [hR.2.2.1 a (Nat.not_le.mp h8)]; exact h5) (fun e => by rw [e] at h6; cases h6) h7 rfl hd (kk w hw p l e s m args below meth c H locs la X hR hL hl)
/-- two references are one, or two -/
theorem z_acES {x : Nat} {off : Int} (tgt : Nat) (hd : decode M.2.1 pc = .ok (.if_acmp .eq off, 3)) (ht : (pc : Int) + off = (tgt : Int)) (k : z_G Γ M rm Q cs ss tgt ls st h) : z_G Γ M rm Q cs ss pc ls (.ref x :: .ref x :: st) h :=
  fun p l e s m args below meth c H locs la X hR hL hl => lv_acmp_eq (rx := some (z_ad Γ x)) (ry := some (z_ad Γ x)) X.1 X.2.1 hd ht (fun _ => k p l e s m args below meth c H locs la X hR hL hl) (fun q => absurd rfl q)
theorem z_acED {x y : Nat} {off : Int} (tgt : Nat) (hd : decode M.2.1 pc = .ok (.if_acmp .eq off, 3)) (ht : (pc : Int) + off = (tgt : Int)) (hx : z_o ≤ x) (hne : y ≠ x) (k : z_G Γ M rm Q cs ss (pc + 3) ls st h) : z_G Γ M rm Q cs ss pc ls (.ref y :: .ref x :: st) h :=
  fun p l e s m args below meth c H locs la X hR hL hl => lv_acmp_eq (rx := some (z_ad Γ x)) (ry := some (z_ad Γ y)) X.1 X.2.1 hd ht (fun q => absurd (Option.some.inj q).symm (z_ad_ne X.2.2.2.2.2.2.2.2.2.1 hx hne)) (fun _ => k p l e s m args below meth c H locs la X hR hL hl)
theorem z_acNS {x : Nat} {off : Int} (tgt : Nat) (hd : decode M.2.1 pc = .ok (.if_acmp .ne off, 3)) (ht : (pc : Int) + off = (tgt : Int)) (k : z_G Γ M rm Q cs ss (pc + 3) ls st h) : z_G Γ M rm Q cs ss pc ls (.ref x :: .ref x :: st) h :=
  fun p l e s m args below meth c H locs la X hR hL hl => lv_acmp_ne (rx := some (z_ad Γ x)) (ry := some (z_ad Γ x)) X.1 X.2.1 hd ht (fun q => absurd rfl q) (fun _ => k p l e s m args below meth c H locs la X hR hL hl)
/-- the class object of Object[] -/
theorem z_mi {l : Launch} {s : State} (hK : z_K Γ l s) : va_Mi "[Ljava/lang/Object;" (z_ad Γ 2) s := by
  obtain ⟨-, -, s0, a0, e1, e2, e3, e4, e5, e6, -⟩ := hK.2.2.2.2.2.2.2
  have hv := e6 (2, .mirror "[Ljava/lang/Object;") (by simp [z_old])
  obtain ⟨c, k, a, h1, h2, h3, h4⟩ := Term.mirror_spec hv
  have e : z_ad Γ 2 = a := by cases h4; rfl
  rw [e]
  exact va_Mi.moved e2.alike ⟨c, k, h1, h2, h3⟩
theorem z_ldcM {idx : Nat} (hd : decode M.2.1 pc = .ok (.ldc idx, 2)) (hlk : Cond.classLink M.1.cls idx "[Ljava/lang/Object;" ∈ lw_all) (k : z_G Γ M rm Q cs ss (pc + 2) ls (.ref 2 :: st) h) : z_G Γ M rm Q cs ss pc ls st h :=
  fun p l e s m args below meth c H locs la X hR hL hl => va_ldcM X.1 X.2.1 X.2.2.2.2.1 (X.2.2.2.2.2.1 _ hlk) (z_mi X.2.2.2.2.2.2.2.2.2) hd (k p l e s m args below meth c H locs la X hR hL hl)
theorem z_getC {idx a n d k1 k2 : Nat} (hd : decode M.2.1 pc = .ok (.invokevirtual idx, 3)) (hlk : Cond.methodLink M.1.cls idx ⟨"java/lang/Object", "getClass", "()Ljava/lang/Class;"⟩ ∈ lw_all) (ht : z_T h a = some (.inr (.object "java/lang/Object", n))) (hst : (st.map fun v => v.category).sum ≤ 8) (k : z_G Γ M (z_rm d k1 k2) Q cs ss (pc + 3) ls (.ref 2 :: st) h) : z_G Γ M (z_rm d k1 k2) Q cs ss pc ls (.ref a :: st) h := by
  intro p l e s m args below meth c H locs la X hR hL hl
  have hK := X.2.2.2.2.2.2.2.2.2
  have hts := X.2.2.2.2.2.1
  have hm : FieldType.object "java/lang/Object" ∈ z_at := by simp [z_at]
  refine va_getC X.1 X.2.1 (X.2.2.1.trans hl.1.symm) X.2.2.2.2.1 (hts _ hlk) (va_Nw.use rfl (hK.2.2.2.1 _ q2096 rfl)) (hts _ q2095) (hts _ q931) (hts _ q959) (z_mi hK) ⟨_, z_arr hR ht (by decide), rfl, va_nmO ((hK.2.2.1 _ hm).2) (by decide +kernel)⟩ (by show 1 ≤ d + 64; omega) (by
    rw [z_sum]
    show _ + 14 ≤ 64 * d + 20000
    omega) hd (k p l e s m args below meth c H locs la X hR hL hl)
/-- a string literal -/
theorem z_ldcS {idx q : Nat} {tx : String} (hd : decode M.2.1 pc = .ok (.ldc idx, 2)) (hM : M.1.cls = RX14) (hq : (q, Term.string RX14 idx) ∈ z_old) (hlk : Cond.stringRef RX14 idx tx ∈ lw_all) (k : z_G Γ M rm Q cs ss (pc + 2) ls (.ref q :: st) h) : z_G Γ M rm Q cs ss pc ls st h := by
  intro p l e s m args below meth c H locs la X hR hL hl
  obtain ⟨-, -, s0, a0, e1, e2, e3, e4, e5, e6, -⟩ := X.2.2.2.2.2.2.2.2.2.2.2.2.2.2.2.2
  have h1 : vk_R RX14 idx tx (z_ad Γ q) s0 := ⟨e3 _ (lw_all_tbl hlk), e6 (q, .string RX14 idx) hq⟩
  exact va_ldcS X.1 X.2.1 (by rw [← hM]; exact X.2.2.2.2.1) (h1.warm e2) hd (k p l e s m args below meth c H locs la X hR hL hl)
end ZJDK
