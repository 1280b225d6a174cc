/-! INSTRUCTIONS THAT FAIL (by hand). -/
theorem z_txt {t : String} {n : Nat} (h : t.toList.length ≤ n) (hn : n ≤ 500) : (stringBytes (stringToUtf16 t)).size ≤ 2000 := by
  have b1 := stringBytes_size_le (stringToUtf16 t)
  have b2 := utf16_size_le t
  omega
/-- a class's home, in words: it is short -/
theorem z_home {Γ : z_W} {l : Launch} {s : State} (hK : z_K Γ l s) {k : Class} {c : ClassId} {n : String} (hf : s.vm.findClass n = some c) (hk : s.vm.classes[c]? = some k) (hp : packageOf n = "" ) : (s.vm.home k).toList.length ≤ 60 ∧ k.shown = dotted n := by
  obtain ⟨-, -, s0, a0, e1, e2, e3, e4, e5, -⟩ := hK.2.2.2.2.2.2.2
  obtain ⟨hlt, hq, -⟩ := Array.findIdx?_eq_some_iff_getElem.mp hf
  have hk2 : s.vm.classes[c] = k := by
    have := (Array.getElem?_eq_some_iff.mp hk).2
    exact this
  rw [hk2] at hq
  simp only [Bool.and_eq_true, beq_iff_eq, Option.isNone_iff_eq_none] at hq
  obtain ⟨⟨⟨q1, q2⟩, -⟩, q4⟩ := hq
  refine ⟨?_, by unfold Class.shown; rw [q2, q1]⟩
  have hmods : s.vm.modules = s0.vm.modules := by rw [e2.alike.1]
  have hmn : ∀ m, s.vm.moduleOf k = some m → m.name = "java.base" := by
    intro m hm
    unfold Vm.moduleOf at hm
    split at hm
    · have := List.find?_some hm
      simpa using this
    · have h1 := List.find?_some hm
      have h2 := List.mem_of_find?_eq_some hm
      simp only [Bool.and_eq_true, beq_iff_eq] at h1
      rw [q1, hp] at h1
      rw [hmods] at h2
      have h3 := List.all_eq_true.mp e5 m h2
      simp only [Bool.or_eq_true, Bool.not_eq_true', beq_iff_eq] at h3
      rcases h3 with (h3 | h3) | h3
      · rw [h1.1, q4] at h3
        cases h3
      · exact h3
      · exfalso
        have h4 : (castPackages_1.any fun p => m.packages.contains p) = true := by
          unfold castPackages_1
          rw [List.any_cons, h1.2]
          rfl
        rw [h4] at h3
        cases h3
  unfold Vm.home
  rw [q4]
  cases hm : s.vm.moduleOf k with
  | none =>
    show ("unnamed module" ++ " of loader " ++ "'bootstrap'" : String).toList.length ≤ 60
    decide
  | some m =>
    show ("module " ++ m.name ++ " of loader " ++ "'bootstrap'" : String).toList.length ≤ 60
    rw [hmn m hm]
    decide
theorem z_cmsg {Γ : z_W} {l : Launch} {s T : State} (hK : z_K Γ l s) (hW : s.WarmedH T.vm) {ks kt : Class} {c d : ClassId} {n n' : String} (hf : s.vm.findClass n = some c) (hk : T.vm.classes[c]? = some ks) (hp : packageOf n = "") (hf' : s.vm.findClass n' = some d) (hk' : T.vm.classes[d]? = some kt) (hp' : packageOf n' = "") (hn : (dotted n).toList.length ≤ 60) (hn' : (dotted n').toList.length ≤ 60) : ((Op.checkcast.message T.vm ks kt) == notModelled) = false ∧ (Op.checkcast.message T.vm ks kt).toList.length ≤ 500 := by
  have hKT : z_K Γ l T := hK.warm hW
  have hfT : T.vm.findClass n = some c := by rw [hW.alike.findClass]; exact hf
  have hfT' : T.vm.findClass n' = some d := by rw [hW.alike.findClass]; exact hf'
  obtain ⟨a1, a2⟩ := z_home hKT hfT hk hp
  obtain ⟨b1, b2⟩ := z_home hKT hfT' hk' hp'
  have e : Op.checkcast.message T.vm ks kt = "class " ++ ks.shown ++ " cannot be cast to class " ++ kt.shown ++ " (" ++ T.vm.homes ks kt ++ ")" := rfl
  have hh : (T.vm.homes ks kt).toList.length ≤ 300 := by
    unfold Vm.homes
    split
    · show (ks.shown ++ " and " ++ kt.shown ++ " are in " ++ T.vm.home ks).toList.length ≤ 300
      rw [a2, b2]
      simp only [String.toList_append, List.length_append]
      have : (" and " : String).toList.length = 5 := by decide
      have : (" are in " : String).toList.length = 8 := by decide
      omega
    · show (ks.shown ++ " is in " ++ T.vm.home ks ++ "; " ++ kt.shown ++ " is in " ++ T.vm.home kt).toList.length ≤ 300
      rw [a2, b2]
      simp only [String.toList_append, List.length_append]
      have : (" is in " : String).toList.length = 7 := by decide
      have : ("; " : String).toList.length = 2 := by decide
      omega
  rw [e, a2, b2]
  refine ⟨?_, ?_⟩
  · rw [beq_eq_false_iff_ne]
    intro q
    have q2 := congrArg (fun t : String => t.toList.head?) q
    simp only [String.toList_append, List.append_assoc] at q2
    have q3 : ("class " : String).toList = 'c' :: ("lass " : String).toList := by decide
    rw [q3, List.cons_append, List.head?_cons] at q2
    exact absurd q2 (by decide)
  · simp only [String.toList_append, List.length_append]
    have : ("class " : String).toList.length = 6 := by decide
    have : (" cannot be cast to class " : String).toList.length = 25 := by decide
    have : (" (" : String).toList.length = 2 := by decide
    have : (")" : String).toList.length = 1 := by decide
    omega
