/-! THE CLASS: gains, climbs (printed by class7.py) -/
set_option maxRecDepth 20000
/-- the clauses as the reference has them, and as the class has -/
def z_cc (wd nb : Nat → Int32) (ev : Nat → (Int32 → Int32) → Bool) (b : Nat) : Nat → z_Cs → Prop
  | 0, Cs => Cs = []
  | n + 1, Cs => if 1 < wd (b + n) then z_cc wd nb ev b n Cs else ∃ (Cs' : z_Cs) (P : (Int32 → Int32) → Bool), Cs = Cs' ++ [(if wd (b + n) = 0 then nb (b + n) else -nb (b + n), P)] ∧ (∀ φ, ev (b + n) φ = P φ) ∧ z_cc wd nb ev b n Cs'
theorem a_ms_app (φ : Int32 → Int32) (c : Int32 × ((Int32 → Int32) → Bool)) : ∀ (Cs : z_Cs) (s : Int32), a_ms φ (Cs ++ [c]) s = if c.2 φ = true then a_ms φ Cs s + c.1 else a_ms φ Cs s
  | [], s => by simp only [List.nil_append, a_ms]
  | d :: r, s => by simp only [List.cons_append, a_ms]; exact a_ms_app φ c r _
theorem a_gn_ms {wd nb : Nat → Int32} {ev : Nat → (Int32 → Int32) → Bool} {b : Nat} {p : Int32} {φ : Int32 → Int32} : ∀ (n : Nat) (Cs : z_Cs), z_cc wd nb ev b n Cs → p + a_ms φ Cs 0 = a_gn wd nb (fun c => ev c φ) p b n
  | 0, Cs, h => by
    have h : Cs = [] := h
    subst h
    show p + 0 = p
    exact Int32.add_zero p
  | n + 1, Cs, h => by
    unfold z_cc at h
    unfold a_gn
    by_cases c : 1 < wd (b + n)
    · rw [if_pos c] at h
      rw [if_pos c]
      exact a_gn_ms n Cs h
    · rw [if_neg c] at h
      rw [if_neg c]
      obtain ⟨Cs', P, rfl, hP, h⟩ := h
      have ih := a_gn_ms (p := p) (φ := φ) n Cs' h
      rw [a_ms_app, ← ih, hP φ]
      by_cases e : P φ = true
      · rw [if_pos e, if_pos e]
        by_cases e2 : wd (b + n) = 0
        · rw [if_pos e2, if_pos e2, Int32.add_assoc]
        · rw [if_neg e2, if_neg e2, Int32.add_assoc]
      · rw [if_neg e, if_neg e]
/-- how the reference's signs of a clause tell -/
def a_hv (h : z_H) (c : Nat) (φ : Int32 → Int32) : Bool := (a_ev φ (z_I h 61) (z_c (z_I h 59 (z_c (nI c)))) (z_c (z_I h 60 (z_c (nI c))) - z_c (z_I h 59 (z_c (nI c))))).getLastD false
/-- the lift object of a number -/
def z_Lf (h : z_H) (id j k : Nat) : Prop := 85 ≤ id ∧ k ≤ 6 ∧ z_I h 50 j = nI k ∧ z_T h id = some (.inl (7 + k)) ∧ z_R h id 0 = some 26 ∧ z_I h id 1 = nI j ∧ z_I h id 2 = z_I h 51 j ∧ z_I h id 3 = z_I h 52 j ∧ (k = 6 → z_R h id 4 = some 19)
def a_cb (k : Nat) (v g x mi rw : Int32) : Int32 := match k with
  | 1 => g + v / 2
  | 2 => g / 2
  | 3 => if mi < 100 then g else -2
  | 4 => if x ≤ 40 * v then g + v / 2 else 0
  | 5 => if mi - mi / (v + 2) * (v + 2) = 0 then -1 else g / 2
  | 6 => (if mi < 100 then g else -2) + rw
  | _ => g
theorem a_cb_cl {h : z_H} {l m hi mi : Int32} {k : Nat} (hk : k ≤ 6) (he : z_I h 50 (z_c l) = nI k) : a_cb k (z_I h 51 (z_c l)) (m_X6_gain (z_fy h m hi mi) l) hi mi (z_I h 54 (4 * z_c l + z_c mi % 4)) = a_cl h l m hi mi := by
  unfold a_cl
  rw [he]
  match k, hk with
  | 0, _ => rfl
  | 1, _ => rfl
  | 2, _ => rfl
  | 3, _ => rfl
  | 4, _ => rfl
  | 5, _ => rfl
  | 6, _ =>
    show (if mi < 100 then _ else _) + _ = if mi < 100 then _ else _
    split <;> rfl
theorem z_kind {Γ : z_W} {M : z_M} {Q : Outcome → z_H → Prop} {cs ss pc e cm sm : Nat} {ls : List (Option Value)} {rest : List Value} {h : z_H} (hM : M.1.cls = RX0) {b k : Nat} (hk : k ≤ 6) (hT : z_T h b = some (.inl (7 + k))) (hd : decode M.2.1 pc = .ok (.invokevirtual 153, 3)) (he : 2 ≤ e) (hst : (rest.map fun v => v.category).sum ≤ 8) (h1 : cs ≤ cm) (h2 : ss ≤ sm) (kk : z_G Γ M (z_rm e cm sm) Q cs ss (pc + 3) ls (.int (nI k) :: rest) h) : z_G Γ M (z_rm e cm sm) Q cs ss pc ls (.ref b :: rest) h := by
  have hr : (z_rm 1 0 0).frames + 1 ≤ (z_rm e cm sm).frames ∧ 8 + (1 + 11) + (z_rm 1 0 0).locals ≤ (z_rm e cm sm).locals := ⟨by show 1 + 64 + 1 ≤ e + 64; omega, by show 8 + (1 + 11) + (64 * 1 + 20000) ≤ 64 * e + 20000; omega⟩
  match k, hk, hT, kk with
  | 0, _, hT, kk => exact z_vcall (by rw [hM]; exact vl_X0_153_7) (c_kind_7 hT) hd rfl rfl hT hr hst h1 h2 (z_cI kk) z_tI
  | 1, _, hT, kk => exact z_vcall (by rw [hM]; exact vl_X0_153_8) (c_kind_8 hT) hd rfl rfl hT hr hst h1 h2 (z_cI kk) z_tI
  | 2, _, hT, kk => exact z_vcall (by rw [hM]; exact vl_X0_153_9) (c_kind_9 hT) hd rfl rfl hT hr hst h1 h2 (z_cI kk) z_tI
  | 3, _, hT, kk => exact z_vcall (by rw [hM]; exact vl_X0_153_10) (c_kind_10 hT) hd rfl rfl hT hr hst h1 h2 (z_cI kk) z_tI
  | 4, _, hT, kk => exact z_vcall (by rw [hM]; exact vl_X0_153_11) (c_kind_11 hT) hd rfl rfl hT hr hst h1 h2 (z_cI kk) z_tI
  | 5, _, hT, kk => exact z_vcall (by rw [hM]; exact vl_X0_153_12) (c_kind_12 hT) hd rfl rfl hT hr hst h1 h2 (z_cI kk) z_tI
  | 6, _, hT, kk => exact z_vcall (by rw [hM]; exact vl_X0_153_13) (c_kind_13 hT) hd rfl rfl hT hr hst h1 h2 (z_cI kk) z_tI
theorem z_climb {Γ : z_W} {M : z_M} {Q : Outcome → z_H → Prop} {cs ss pc e cm sm : Nat} {ls : List (Option Value)} {rest : List Value} {h : z_H} (hM : M.1.cls = RX0) {b k : Nat} {g x mi : Int32} {B : Nat} (hk : k ≤ 6) (hT : z_T h b = some (.inl (7 + k))) (h6 : k = 6 → z_R h b 4 = some 19) (h19 : z_T h 19 = some (.inr (.int, 24))) (hn : z_I h b 1 = nI (z_c (z_I h b 1)) ∧ z_c (z_I h b 1) < 6) (hv : ¬ z_I h b 2 + 2 = 0) (hmi : z_cn mi B) (hB : B < 2 ^ 31) (hd : decode M.2.1 pc = .ok (.invokevirtual 189, 3)) (he : 5 ≤ e) (hst : (rest.map fun v => v.category).sum ≤ 8) (h1 : cs ≤ cm) (h2 : ss ≤ sm) (kk : z_G Γ M (z_rm e cm sm) Q cs ss (pc + 3) ls (.int (a_cb k (z_I h b 2) g x mi (z_I h 19 (4 * z_c (z_I h b 1) + z_c mi % 4))) :: rest) h) : z_G Γ M (z_rm e cm sm) Q cs ss pc ls (.int mi :: .int x :: .int g :: .ref b :: rest) h := by
  have hr : ∀ d, d ≤ 3 → (z_rm d 0 0).frames + 1 ≤ (z_rm e cm sm).frames ∧ 8 + (4 + 11) + (z_rm d 0 0).locals ≤ (z_rm e cm sm).locals := fun d hd => ⟨by show d + 64 + 1 ≤ e + 64; omega, by show 8 + (4 + 11) + (64 * d + 20000) ≤ 64 * e + 20000; omega⟩
  match k, hk, hT, h6, kk with
  | 0, _, hT, h6, kk => exact z_vcall (As := [.int g, .int x, .int mi]) (by rw [hM]; exact vl_X0_189_7) (c_X7_climb_7 hT) hd rfl rfl hT (hr 1 (by decide)) hst h1 h2 (z_cI kk) z_tI
  | 1, _, hT, h6, kk => exact z_vcall (As := [.int g, .int x, .int mi]) (by rw [hM]; exact vl_X0_189_8) (c_X8_climb_8 hT) hd rfl rfl hT (hr 2 (by decide)) hst h1 h2 (z_cI kk) z_tI
  | 2, _, hT, h6, kk => exact z_vcall (As := [.int g, .int x, .int mi]) (by rw [hM]; exact vl_X0_189_9) (c_X9_climb_9 hT) hd rfl rfl hT (hr 2 (by decide)) hst h1 h2 (z_cI kk) z_tI
  | 3, _, hT, h6, kk => exact z_vcall (As := [.int g, .int x, .int mi]) (by rw [hM]; exact vl_X0_189_10) (c_X10_climb_10 hT) hd rfl rfl hT (hr 2 (by decide)) hst h1 h2 (z_cI kk) z_tI
  | 4, _, hT, h6, kk => exact z_vcall (As := [.int g, .int x, .int mi]) (by rw [hM]; exact vl_X0_189_11) (c_X11_climb_11 hT) hd rfl rfl hT (hr 3 (by decide)) hst h1 h2 (z_cI kk) z_tI
  | 5, _, hT, h6, kk => exact z_vcall (As := [.int g, .int x, .int mi]) (by rw [hM]; exact vl_X0_189_12) (c_X12_climb_12 hT hv) hd rfl rfl hT (hr 3 (by decide)) hst h1 h2 (z_cI kk) z_tI
  | 6, _, hT, h6, kk => exact z_vcall (As := [.int g, .int x, .int mi]) (by rw [hM]; exact vl_X0_189_13) (c_X13_climb_13 hT (h6 rfl) h19 hn hmi hB) hd rfl rfl hT (hr 3 (by decide)) hst h1 h2 (z_cI kk) z_tI
