/-! Off: new, its constructor, its place (by hand). -/
section ZOFR
variable {Γ : z_W} {h : z_H} {H H1 : Heap} {a b k : Nat}
/-- one cell is changed, and what it is -/
theorem z_Rl.setT {h' : z_H} (hw : z_Wf Γ) (hR : z_Rl Γ h H) (ha : z_o ≤ a) (han : a < z_n h) (hn : z_n h' = z_n h) (hT : ∀ b, b ≠ a → z_T h' b = z_T h b) (ho : ∀ b ty j, b ≠ a → z_vt Γ ty h' b j = z_vt Γ ty h b j) (hz : H1.size = H.size) (hq : ∀ q, q ≠ z_ad Γ a → H1[q]? = H[q]?) (hc : z_ce Γ h' H1 a) : z_Rl Γ h' H1 := by
  obtain ⟨r1, r2, r3, r4⟩ := hR
  refine ⟨fun b hb => ?_, ⟨by rw [hn]; exact r2.1, by rw [hz, hn]; exact r2.2⟩, fun q h1 => ?_, fun b hb => by rw [hT b (by rw [hn] at hb; omega)]; exact r4 b (by rw [hn] at hb; exact hb)⟩
  · by_cases e : b = a
    · rw [e]; exact hc
    · have h1 := r1 b (by rw [hn] at hb; exact hb)
      have hk := hq _ (z_ad_ne hw ha e)
      unfold z_ce at h1 ⊢
      rw [hT b e]
      cases ht : z_T h b with
      | none => trivial
      | some t =>
        rw [ht] at h1
        cases t with
        | inl c =>
          obtain ⟨r, h2, h3⟩ := h1
          exact ⟨r, h2, (h3.kept hk).to (fun j _ => (ho b _ j e).symm)⟩
        | inr tn =>
          obtain ⟨ty, n⟩ := tn
          exact z_ca.kept hk (fun t j => ho b t j e) h1
  · rw [hq q (by rw [hw.1 a ha]; omega)]
    exact r3 q h1
/-- an Off is made: its place is 0 as yet -/
def z_mk (h : z_H) (L : Nat) : z_H := (fun a k => if a = L ∧ k = 6 then 0 else h.1 a k, h.2.1, h.2.2.1, fun b => if b = L then some (.inr (.float, 1)) else h.2.2.2.1 b, h.2.2.2.2)
theorem z_mk_o {L b j : Nat} (t : FieldType) (hb : b ≠ L) : z_vt Γ t (z_mk h L) b j = z_vt Γ t h b j := by
  have h1 : z_I (z_mk h L) b j = z_I h b j := if_neg (fun q => hb q.1)
  cases t <;> simp only [z_vt, h1] <;> rfl
end ZOFR
section ZOFG
variable {Γ : z_W} {M : z_M} {rm : Room} {Q : Outcome → z_H → Prop} {cs ss pc : Nat} {ls : List (Option Value)} {st : List Value} {h : z_H}
theorem z_newOff {idx : Nat} (hd : decode M.2.1 pc = .ok (.new idx, 3)) (hcl : Cond.classLink M.1.cls idx RX15 ∈ lw_all) (h1 : cs + 1 ≤ rm.cells) (h2 : ss + 7 ≤ rm.slots) (kk : z_G Γ M rm Q (cs + 1) (ss + 7) (pc + 3) ls (.ref (z_n h) :: st) (z_new h (.inr (.float, 0)))) : z_G Γ M rm Q cs ss pc ls st h := by
  intro p l e s m args below meth cd H locs la X hR hL hl
  have hK := X.2.2.2.2.2.2.2.2.2
  have hts := X.2.2.2.2.2.1
  obtain ⟨hin, hty, hnm⟩ := z_clf 15 (RX15, TX15, 7) rfl
  have hKn := hK.2.1 15 (RX15, TX15, 7) rfl
  refine W.newcK X.1 X.2.1 X.2.2.2.2.1 (hts _ hcl) (hts _ q750) (hts _ q114) rfl hd h1 h2 hKn.2.1 (z_size hK.1 hR).symm (fun H1 kC hkC e1 z1 o1 => ?_)
  rw [z_size hK.1 hR] at z1 o1
  refine kk p l e s m args below meth cd H1 locs la X (z_Rl.push hK.1 hR z1 o1 ?_) hL hl
  unfold z_ce
  rw [z_Tn, if_pos rfl]
  obtain ⟨w, w1, w2, w3, w4⟩ := u_born (z_ty 15) hts hin hKn hkC e1 hty
  cases e1.symm.trans w1
  obtain ⟨c1, k1, f1, f2, -, -, -, f6⟩ := Cond.instantiable_spec (hts _ q750)
  cases hKn.2.1.symm.trans f1
  cases hkC.symm.trans f2
  refine ⟨_, e1, rfl, rfl, ⟨rfl, rfl⟩, ?_, w4⟩
  show (kC.instanceTypes.map defaultValue).size = 7
  rw [Array.size_map]
  exact f6
/-- slots of an Off's fields, by their numbers -/
theorem z_offS {l : Launch} {s : State} (hK : z_K Γ l s) {n d : String} {k : Nat} (hk : k < 7) (e : TX15 k = (Bundle.tN, n, d, false)) {cf : ClassId} {kf : Class} {fi : Nat} {f : Field} (hf : s.fieldFound? Bundle.tN n d = some (cf, kf, fi, f)) : f.slot = Γ.1.2 15 k := by
  obtain ⟨hS, -⟩ := hK.2.1 15 (RX15, TX15, 7) rfl
  obtain ⟨cf2, kf2, fi2, f2, hi, hsl⟩ := hS k hk
  change s.fieldFound? (TX15 k).1 (TX15 k).2.1 (TX15 k).2.2.1 = _ at hi
  rw [e] at hi
  cases hf.symm.trans hi
  exact hsl
theorem z_offA {l : Launch} {s : State} {args : Array Value} (hK : z_K Γ l s) (hts : ∀ w ∈ lw_all, w.before args s = true) {x y : Nat} (hx : x < 7) (hy : y < 7) (hne : x ≠ y) : Γ.1.2 15 x ≠ Γ.1.2 15 y := by
  obtain ⟨hin, hty, hnm⟩ := z_clf 15 (RX15, TX15, 7) rfl
  obtain ⟨hS, -⟩ := hK.2.1 15 (RX15, TX15, 7) rfl
  obtain ⟨_, _, _, fa, hia, ea⟩ := hS x hx
  obtain ⟨_, _, _, fb, hib, eb⟩ := hS y hy
  rw [← ea, ← eb]
  refine u_apart (u_lays hts hin hx) (u_lays hts hin hy) hia hib ?_
  rw [(State.fieldFound?_type hia (hty x hx)).1, (State.fieldFound?_type hib (hty y hy)).1]
  exact hnm x hx y hy hne
/-- the words of the chain of constructors over Off's -/
theorem z_ch0 {l : Launch} {s : State} {args : Array Value} (hK : z_K Γ l s) (hts : ∀ w ∈ lw_all, w.before args s = true) : ∀ c ∈ Bundle.chain0Atoms "java/lang/RuntimeException" ["java/lang/Exception"], c.before args s = true := by
  intro c hc
  simp only [Bundle.chain0Atoms, Bundle.passAtoms, List.cons_append, List.nil_append, List.mem_cons, List.not_mem_nil, or_false] at hc
  rcases hc with e | e | e | e | e | e | e | e | e | e <;> rw [e]
  · exact hts _ q810
  · exact hts _ q811
  · exact hts _ q812
  · exact hts _ q813
  · exact va_Nw.use rfl (hK.2.2.2.1 _ q754 rfl)
  · exact hts _ q813
  · exact hts _ q814
  · exact hts _ q815
  · exact hts _ q772
  · exact va_Nw.use rfl (hK.2.2.2.1 _ q756 rfl)
end ZOFG
