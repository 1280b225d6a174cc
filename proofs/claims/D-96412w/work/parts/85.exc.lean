/-! EXCEPTIONS: Throwable's tables, Off's constructor (by hand). -/
theorem z_and {a b : Cond} {A : Array Value} {s : State} (h : (Cond.and a b).before A s = true) : a.before A s = true ∧ b.before A s = true := by
  rw [Cond.before_and, Bool.and_eq_true] at h
  exact h
/-- the words that a Throwable's making asks -/
theorem z_thA : ∀ x ∈ Bundle.throwableAtoms, x ∈ lw_tbl ∧ x.keeps = true := by
  intro x hx
  simp only [Bundle.throwableAtoms, List.mem_cons, List.not_mem_nil, or_false] at hx
  rcases hx with e | e | e | e | e | e | e | e | e | e | e | e | e | e | e | e | e | e | e | e | e | e | e | e <;> rw [e]
  · exact ⟨(lw_all_tbl q111), rfl⟩
  · exact ⟨(lw_all_tbl q771), rfl⟩
  · exact ⟨(lw_all_tbl q780), rfl⟩
  · exact ⟨(lw_all_tbl q800), rfl⟩
  · exact ⟨(lw_all_tbl q803), rfl⟩
  · exact ⟨(lw_all_tbl q805), rfl⟩
  · exact ⟨(lw_all_tbl q772), rfl⟩
  · exact ⟨(lw_all_tbl q773), rfl⟩
  · exact ⟨(lw_all_tbl q135), rfl⟩
  · exact ⟨(lw_all_tbl q136), rfl⟩
  · exact ⟨(lw_all_tbl q774), rfl⟩
  · exact ⟨(lw_all_tbl q779), rfl⟩
  · exact ⟨(lw_all_tbl q801), rfl⟩
  · exact ⟨(lw_all_tbl q820), rfl⟩
  · exact ⟨(lw_all_tbl q761), rfl⟩
  · exact ⟨(lw_all_tbl q821), rfl⟩
  · exact ⟨(lw_all_tbl q763), rfl⟩
  · exact ⟨(lw_all_tbl q822), rfl⟩
  · exact ⟨(lw_all_tbl q765), rfl⟩
  · exact ⟨(lw_all_tbl q775), rfl⟩
  · exact ⟨q776, rfl⟩
  · exact ⟨(lw_all_tbl q777), rfl⟩
  · exact ⟨q778, rfl⟩
  · exact ⟨(lw_all_tbl q767), rfl⟩
/-- a static that holds a reference or null, at the heap that is now -/
theorem z_stq {Γ : z_W} {l : Launch} {s : State} {h : z_H} {H : Heap} {C n d : String} (hK : z_K Γ l s) (hR : z_Rl Γ h H) (hl : Cond.laysStatic C n d ∈ lw_tbl) (hi : Cond.initialized C ∈ lw_tbl) (hn : ∀ (A : Array Value) (s0 : State), narrow_1.before A s0 = true → (Cond.isRef (.static C n d)).before A s0 = true) : ∃ (cf : ClassId) (kf : Class) (fi : Nat) (f : Field) (a : Nat) (w : Cell) (u : RefV), s.fieldFound? C n d = some (cf, kf, fi, f) ∧ kf.statics = some a ∧ a < z_B Γ ∧ H[a]? = some w ∧ w.vm.isStatics = true ∧ w.slots[f.slot]? = some u.v := by
  obtain ⟨-, -, s0, a0, e1, e2, e3, e4, -⟩ := hK.2.2.2.2.2.2.2
  have hz : va_Zq C n d (fun a => z_B Γ ≤ a) s0 s0.heap := va_Zqof (e3 _ hl) (e3 _ hi) (hn _ _ e4) (fun a ha q => by rw [e1] at ha; exact Nat.not_le.mpr ha q)
  have hz2 := va_Zq.moved e2.alike hz
  rw [e1] at hz2
  have fin : ∀ v : Value, v.isRef = true → va_Z C n d v (fun a => z_B Γ ≤ a) s Γ.2.2.2 → ∃ (cf : ClassId) (kf : Class) (fi : Nat) (f : Field) (a : Nat) (w : Cell) (u : RefV), s.fieldFound? C n d = some (cf, kf, fi, f) ∧ kf.statics = some a ∧ a < z_B Γ ∧ H[a]? = some w ∧ w.vm.isStatics = true ∧ w.slots[f.slot]? = some u.v := by
    intro v hv hz
    obtain ⟨cf, kf, fi, f, a, w, h1, h2, h3, h4, h5, h6, h7, h8⟩ := hz
    have hlt : a < z_B Γ := Nat.not_le.mp h8
    exact ⟨cf, kf, fi, f, a, w, ⟨v, hv⟩, h1, h4, hlt, by rw [hR.2.2.1 a hlt]; exact h5, h6, h7⟩
  rcases hz2 with hz | ⟨t, hz⟩
  · exact fin _ rfl hz
  · exact fin _ rfl hz
section ZTB
variable {Γ : z_W} {p : Program} {l : Launch} {e : Env} {R : Room} {s : State} {m : MethodId} {args : Array Value} {below : List Frame} {meth : Method} {c : Code} {T' : State} {locs : List Loc} {cells slots : Nat} {h : z_H}
/-- Throwable as the library has it, and what its two statics hold; s0: the law's start -/
theorem z_tb (X : Stand p l e R s m args below meth c T' locs cells slots) (hK : z_K Γ l s) (hts : ∀ w ∈ lw_all, w.before args s = true) (hR : z_Rl Γ h T'.heap) : ∃ (s0 : State) (T : ThrowableC) (Z : Init0T) (u0 sen : RefV) (cellS : Cell) (B : BackC), T.Links e.platform s ∧ Z.Laid T.toThrowableT ∧ Bundle.Ties T Z (s0.setVm s.vm) ∧ T.aS < z_B Γ ∧ T'.heap[T.aS]? = some cellS ∧ cellS.vm ≠ .unknown ∧ cellS.slots[T.fUnassigned.slot]? = some u0.v ∧ cellS.slots[T.fSentinel.slot]? = some sen.v ∧ B.Links T e.platform s ∧ s.fieldFound? Bundle.tN "backtrace" "Ljava/lang/Object;" = some (T.cT, T.kT, B.i198, B.fBack) ∧ B.fBack.name = "backtrace" ∧ B.fBack.type = .object "java/lang/Object" := by
  have howns : e.platform.frameOwnsMonitors = true := by rw [X.admits.platform]
  have hfin : e.platform.finalization = false := by rw [X.admits.platform]
  have hpl : e.platform.magicAccessors = ({} : Platform).magicAccessors := by rw [X.admits.platform]
  obtain ⟨-, -, s0, a0, e1, e2, e3, -⟩ := id hK.2.2.2.2.2.2.2
  obtain ⟨T, Z, L, LZ, Y⟩ := ThrowableC.of_atoms (args := a0) (s := s0.setVm s.vm) howns hfin hpl (fun x hx => Cond.holds_shifted (State.Shifted.of_warmed e2) x [] (z_thA x hx).2 (e3 x (z_thA x hx).1))
  have L' : T.Links e.platform s := by
    cases L
    constructor <;> assumption
  obtain ⟨cf, kf, fi, f, a, w, u0, g1, g2, g3, g4, g5, g6⟩ := z_stq (C := "java/lang/Throwable") (n := "UNASSIGNED_STACK") (d := "[Ljava/lang/StackTraceElement;") hK hR q776 (lw_all_tbl q111) (fun A s0 q => (z_and (z_and (z_and (z_and (z_and (z_and (z_and (z_and (z_and q).1).1).1).1).1).2).1).1).1)
  obtain ⟨cf2, kf2, fi2, f2, a2, w2, sen, k1, k2, k3, k4, k5, k6⟩ := z_stq (C := "java/lang/Throwable") (n := "SUPPRESSED_SENTINEL") (d := "Ljava/util/List;") hK hR q778 (lw_all_tbl q111) (fun A s0 q => (z_and (z_and (z_and (z_and (z_and (z_and (z_and (z_and (z_and q).1).1).1).1).1).2).1).1).2)
  have y1 := g1.symm.trans Y.unassigned
  have y2 := k1.symm.trans Y.sentinel
  cases y1
  cases y2
  cases g2.symm.trans L'.statics
  cases k2.symm.trans L'.statics
  cases g4.symm.trans k4
  obtain ⟨ci198, i198, fB, hk198, hg198, ha198, hsB, -, hnB, htB, hffB⟩ := Cond.ownField (args := args) (s := s) (first := s) (o := none) (idx := []) (t := .object "java/lang/Object") Y.found L'.cls (by decide +kernel) (hts _ q818) (hts _ q769) e.platform hpl
  exact ⟨s0, T, Z, u0, sen, w, ⟨ci198, i198, fB⟩, L', LZ, Y, g3, g4, (fun q => by rw [q] at g5; cases g5), g6, k6, ⟨hk198, hg198, ha198, hsB⟩, hffB, hnB, htB⟩
end ZTB
