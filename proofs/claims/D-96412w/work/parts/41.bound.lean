/-! BOUNDS of the reference's numbers -/
/-- x as an integer is in a .. b -/
def z_r (x : Int32) (a b : Int) : Prop := a ≤ x.toInt ∧ x.toInt ≤ b
theorem z_bm {x : Int} (h1 : -2147483648 ≤ x) (h2 : x < 2147483648) : x.bmod (2 ^ 32) = x := Int.bmod_eq_of_le (by omega) (by omega)
theorem z_ta {x y : Int32} (h1 : -2147483648 ≤ x.toInt + y.toInt) (h2 : x.toInt + y.toInt < 2147483648) : (x + y).toInt = x.toInt + y.toInt := by rw [Int32.toInt_add, z_bm h1 h2]
theorem z_ts {x y : Int32} (h1 : -2147483648 ≤ x.toInt - y.toInt) (h2 : x.toInt - y.toInt < 2147483648) : (x - y).toInt = x.toInt - y.toInt := by rw [Int32.toInt_sub, z_bm h1 h2]
theorem z_tm {x y : Int32} (h1 : -2147483648 ≤ x.toInt * y.toInt) (h2 : x.toInt * y.toInt < 2147483648) : (x * y).toInt = x.toInt * y.toInt := by rw [Int32.toInt_mul, z_bm h1 h2]
theorem z_tg {x : Int32} (h1 : -2147483648 < x.toInt) : (-x).toInt = -x.toInt := by
  have := x.toInt_lt
  rw [Int32.toInt_neg, z_bm (by omega) (by omega)]
theorem z_t2 {x : Int32} : (x / 2).toInt = x.toInt.tdiv 2 := by
  have h1 := x.toInt_lt
  have h2 := x.le_toInt
  have h3 : x.toInt.tdiv 2 = x.toInt.tdiv 2 := rfl
  rw [Int32.toInt_div, show (2 : Int32).toInt = 2 from rfl]
  refine z_bm ?_ ?_
  · rcases Int.le_total 0 x.toInt with q | q
    · have := Int.tdiv_nonneg q (show (0 : Int) ≤ 2 by decide); omega
    · have : x.toInt.tdiv 2 = -((-x.toInt).tdiv 2) := by rw [Int.neg_tdiv]; omega
      rw [this, Int.tdiv_eq_ediv_of_nonneg (by omega)]; omega
  · rcases Int.le_total 0 x.toInt with q | q
    · rw [Int.tdiv_eq_ediv_of_nonneg q]; omega
    · have : x.toInt.tdiv 2 = -((-x.toInt).tdiv 2) := by rw [Int.neg_tdiv]; omega
      rw [this, Int.tdiv_eq_ediv_of_nonneg (by omega)]; omega
theorem z_r.le {x : Int32} {a b c d : Int} (h : z_r x a b) (h1 : c ≤ a) (h2 : b ≤ d) : z_r x c d := ⟨Int.le_trans h1 h.1, Int.le_trans h.2 h2⟩
theorem z_r.add {x y : Int32} {a b c d : Int} (h : z_r x a b) (k : z_r y c d) (h1 : -2147483648 ≤ a + c) (h2 : b + d < 2147483648) : z_r (x + y) (a + c) (b + d) := by
  unfold z_r at *
  rw [z_ta (by omega) (by omega)]
  omega
theorem z_r.sub {x y : Int32} {a b c d : Int} (h : z_r x a b) (k : z_r y c d) (h1 : -2147483648 ≤ a - d) (h2 : b - c < 2147483648) : z_r (x - y) (a - d) (b - c) := by
  unfold z_r at *
  rw [z_ts (by omega) (by omega)]
  omega
theorem z_r.neg {x : Int32} {a b : Int} (h : z_r x a b) (h1 : -2147483648 < a) : z_r (-x) (-b) (-a) := by
  unfold z_r at *
  rw [z_tg (by omega)]
  omega
theorem z_r.half {x : Int32} {a b : Int} (h : z_r x a b) (ha : a ≤ 0) (hb : 0 ≤ b) : z_r (x / 2) a b := by
  unfold z_r at *
  rw [z_t2]
  rcases Int.le_total 0 x.toInt with q | q
  · rw [Int.tdiv_eq_ediv_of_nonneg q]; omega
  · have : x.toInt.tdiv 2 = -((-x.toInt).tdiv 2) := by rw [Int.neg_tdiv]; omega
    rw [this, Int.tdiv_eq_ediv_of_nonneg (by omega)]; omega
theorem z_rin {x lo hi : Int32} : z_in x lo hi ↔ z_r x lo.toInt hi.toInt := by
  unfold z_r z_in
  rw [Int32.le_iff_toInt_le, Int32.le_iff_toInt_le]
theorem z_r0 {x : Int32} {a b : Int} (h : z_r x a b) (h0 : 0 ≤ a) {n : Nat} (hb : b ≤ n) : z_cn x n := by
  have h1 : (0 : Int32) ≤ x := Int32.le_iff_toInt_le.mpr (by rw [show (0 : Int32).toInt = 0 from rfl]; unfold z_r at h; omega)
  have h2 := z_nc x h1
  have h3 := x.toNatClampNeg_lt
  have h4 : x.toInt = (z_c x : Int) := by
    conv => lhs; rw [h2]
    exact nI_toInt (by unfold z_c; omega)
  refine ⟨h2, ?_⟩
  unfold z_r at h
  omega
theorem z_cnr {x : Int32} {n : Nat} (h : z_cn x n) (hn : n < 2 ^ 31) : z_r x 0 n := by
  have := z_cn_ti h hn
  have := h.2
  unfold z_r
  omega
/-- the air's numbers, pulls and rows are as small as they are told -/
def z_bd (h : z_H) : Prop := (∀ c, a_bg h ≤ c → c < a_bg h + a_cn h → z_in (z_I h 58 c) 0 99) ∧ (∀ j, j < z_c (z_I h 49 0) → z_in (z_I h 53 j) 0 20) ∧ (∀ j, j < 24 → z_in (z_I h 54 j) 0 9)
theorem a_lo_r {wd nb : Nat → Int32} {w x : Int32} {b : Nat} (hx : z_in x 0 99) : ∀ n, (∀ c, b ≤ c → c < b + n → z_in (nb c) 0 99) → z_in (a_lo wd nb w x b n) 0 99
  | 0, _ => hx
  | n + 1, h => by
    unfold a_lo
    by_cases e : wd (b + n) = w
    · rw [if_pos e]; exact h _ (by omega) (by omega)
    · rw [if_neg e]; exact a_lo_r hx n (fun c h1 h2 => h c h1 (by omega))
theorem z_ten {x : Int32} (h : z_r x 0 99) : z_r (10 * x) 0 990 := by
  unfold z_r at *
  rw [z_tm (by rw [show (10 : Int32).toInt = 10 from rfl]; omega) (by rw [show (10 : Int32).toInt = 10 from rfl]; omega), show (10 : Int32).toInt = 10 from rfl]
  omega
theorem z_last_r {h : z_H} (hb : z_bd h) {w x : Int32} (hx : z_in x 0 99) : z_r (m_X6_lastOf h w x) 0 99 := z_rin.mp (a_lo_r hx _ hb.1)
theorem z_safe_r {h : z_H} (hb : z_bd h) : z_r (m_X6_safe h) 0 990 := z_ten (z_last_r hb (by decide))
theorem z_base_r {h : z_H} (hb : z_bd h) : z_r (m_X6_base h) 0 400 := by
  unfold m_X6_base
  have h1 := z_ten (z_last_r hb (w := 2) (x := 40) (by decide))
  by_cases c : (10 * (m_X6_lastOf h 2 40)) ≤ 400
  · rw [if_pos c]
    have := Int32.le_iff_toInt_le.mp c
    rw [show (400 : Int32).toInt = 400 from rfl] at this
    exact ⟨h1.1, this⟩
  · rw [if_neg c]
    exact ⟨by decide, by decide⟩
theorem a_gn_r {wd nb : Nat → Int32} {hd : Nat → Bool} {p : Int32} {b : Nat} (hp : z_r p 0 20) : ∀ n, n ≤ 10 → (∀ c, b ≤ c → c < b + n → z_in (nb c) 0 99) → z_r (a_gn wd nb hd p b n) (-(99 * n)) (20 + 99 * n)
  | 0, _, _ => hp.le (by omega) (by omega)
  | n + 1, hn, h => by
    have ih := a_gn_r (wd := wd) (nb := nb) (hd := hd) (p := p) (b := b) hp n (by omega) (fun c h1 h2 => h c h1 (by omega))
    have hc := z_rin.mp (h (b + n) (by omega) (by omega))
    rw [show (0 : Int32).toInt = 0 from rfl, show (99 : Int32).toInt = 99 from rfl] at hc
    unfold a_gn
    by_cases e1 : 1 < wd (b + n)
    · rw [if_pos e1]; exact ih.le (by omega) (by omega)
    · rw [if_neg e1]
      by_cases e2 : hd (b + n) = true
      · rw [if_pos e2]
        by_cases e3 : wd (b + n) = 0
        · rw [if_pos e3]; exact (ih.add hc (by omega) (by omega)).le (by omega) (by omega)
        · rw [if_neg e3]; exact (ih.add (hc.neg (by omega)) (by omega) (by omega)).le (by omega) (by omega)
      · rw [if_neg e2]; exact ih.le (by omega) (by omega)
theorem a_cn_le {h : z_H} (ha : a_av h) : a_cn h ≤ 10 := by
  unfold a_cn
  by_cases c : 0 ≤ z_I h 49 12
  · rw [if_pos c]; exact (ha.1 c).2.2
  · rw [if_neg c]; omega
theorem z_gain_r {h : z_H} {l : Int32} (ha : a_av h) (hb : z_bd h) (hl : z_c l < z_c (z_I h 49 0)) : z_r (m_X6_gain h l) (-990) 1010 := by
  have h1 := a_cn_le ha
  have h2 := z_rin.mp (hb.2.1 _ hl)
  exact (a_gn_r (wd := z_I h 57) (nb := z_I h 58) (hd := fun c => m_X6_holds h (nI c) l) (b := a_bg h) h2 (a_cn h) h1 hb.1).le (by omega) (by omega)
theorem z_cl_r {h : z_H} {l m hi mi : Int32} {B : Nat} (hmi : z_cn mi B) (hk : z_ok h) (hb : z_bd h) (hl : l = nI (z_c l) ∧ z_c l < z_c (z_I h 49 0)) : z_r (a_cl h l m hi mi) (-1000) 1100 := by
  obtain ⟨hF, ha, hm, hvs, hws, hho⟩ := hk
  have hg : z_r (m_X6_gain (z_fy h m hi mi) l) (-990) 1010 := z_gain_r (h := z_fy h m hi mi) ha hb hl.2
  have hv := z_rin.mp (hvs _ hl.2)
  have hm2 := hm.2
  have hr := z_rin.mp (hb.2.2 (4 * z_c l + z_c mi % 4) (by omega))
  rw [show (0 : Int32).toInt = 0 from rfl, show (9 : Int32).toInt = 9 from rfl] at hv hr
  have hv2 := hv.half (by decide) (by decide)
  have k1 : z_r (-2 : Int32) (-2) (-2) := ⟨by decide, by decide⟩
  have k2 : z_r (-1 : Int32) (-1) (-1) := ⟨by decide, by decide⟩
  have k3 : z_r (0 : Int32) 0 0 := ⟨by decide, by decide⟩
  have g1 : z_r (m_X6_gain (z_fy h m hi mi) l + z_I h 51 (z_c l) / 2) (-1000) 1100 := (hg.add hv2 (by decide) (by decide)).le (by decide) (by decide)
  have g2 : z_r (m_X6_gain (z_fy h m hi mi) l / 2) (-1000) 1100 := (hg.half (by decide) (by decide)).le (by decide) (by decide)
  have g0 : z_r (m_X6_gain (z_fy h m hi mi) l) (-1000) 1100 := hg.le (by decide) (by decide)
  have g3 : z_r (m_X6_gain (z_fy h m hi mi) l + z_I h 54 (4 * z_c l + z_c mi % 4)) (-1000) 1100 := (hg.add hr (by decide) (by decide)).le (by decide) (by decide)
  have g4 : z_r ((-2) + z_I h 54 (4 * z_c l + z_c mi % 4)) (-1000) 1100 := (k1.add hr (by decide) (by decide)).le (by decide) (by decide)
  unfold a_cl
  split
  · exact g1
  split
  · exact g2
  split
  · split
    · exact g0
    · exact k1.le (by decide) (by decide)
  split
  · split
    · exact g1
    · exact k3.le (by decide) (by decide)
  split
  · split
    · exact k2.le (by decide) (by decide)
    · exact g2
  split
  · split
    · exact g3
    · exact g4
  · exact g0
theorem z_hi_r {h : z_H} {l m hi mi : Int32} {B : Nat} (hmi : z_cn mi B) (hk : z_ok h) (hb : z_bd h) (hl : l = nI (z_c l) ∧ z_c l < z_c (z_I h 49 0)) (hh : z_r hi 0 400) : z_r (a_hi h l m hi mi) 0 400 := by
  have hc := z_cl_r (m := m) (hi := hi) hmi hk hb hl
  have hs := z_base_r hb
  have e0 : (0 : Int32).toInt = 0 := rfl
  have hsum : (hi + a_cl h l m hi mi).toInt = hi.toInt + (a_cl h l m hi mi).toInt := by
    unfold z_r at *
    exact z_ta (by omega) (by omega)
  unfold a_hi
  simp only [Int32.le_iff_toInt_le]
  unfold z_r at *
  repeat' split
  all_goals omega
theorem z_it_r {h : z_H} {l m hi mi : Int32} {B : Nat} (hmi : z_cn mi B) (hk : z_ok h) (hb : z_bd h) (hl : l = nI (z_c l) ∧ z_c l < z_c (z_I h 49 0)) (hh : z_r hi 0 400) : ∀ n, B + n < 2 ^ 31 → z_r (a_it h l m hi mi n).1 0 400
  | 0, _ => hh
  | n + 1, hn => z_hi_r (z_cn_it hmi (by omega)) hk hb hl (z_it_r hmi hk hb hl hh n (by omega))
theorem z_rs_r {h : z_H} {l m due : Int32} (hk : z_ok h) (hb : z_bd h) (hl : l = nI (z_c l) ∧ z_c l < z_c (z_I h 49 0)) : ∀ (n : Nat) (hi mi : Int32) (B : Nat), z_cn mi B → B + n < 2 ^ 31 → z_r hi 0 400 → z_r (a_rs h l m due n hi mi).1 0 400
  | 0, hi, mi, B, h1, h2, h3 => h3
  | n + 1, hi, mi, B, h1, h2, h3 => by
    unfold a_rs
    by_cases c : due ≤ hi
    · rw [if_pos c]; exact h3
    · rw [if_neg c]
      exact z_rs_r hk hb hl n _ _ (B + 1) (z_cn_1 h1 (by omega)) (by omega) (z_hi_r h1 hk hb hl h3)
