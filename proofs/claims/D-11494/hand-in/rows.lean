section
/-! plain arithmetic: longs and ints against Int -/
theorem ga_lg (x y : Int) : x < y ∨ y ≤ x := by omega
theorem ga_bm {x : Int} (h1 : -9223372036854775808 ≤ x) (h2 : x < 9223372036854775808) : x.bmod (2 ^ 64) = x := by
  apply Int.bmod_eq_of_le_mul_two <;> omega
theorem ga_bw {x : Int} (h1 : -2147483648 ≤ x) (h2 : x < 2147483648) : x.bmod (2 ^ 32) = x := by
  apply Int.bmod_eq_of_le_mul_two <;> omega
theorem ga_add {a b : Int64} {x y : Int} (ha : a.toInt = x) (hb : b.toInt = y) (h1 : -9223372036854775808 ≤ x + y) (h2 : x + y < 9223372036854775808) : (a + b).toInt = x + y := by
  rw [Int64.toInt_add, ha, hb, ga_bm h1 h2]
theorem ga_sub {a b : Int64} {x y : Int} (ha : a.toInt = x) (hb : b.toInt = y) (h1 : -9223372036854775808 ≤ x - y) (h2 : x - y < 9223372036854775808) : (a - b).toInt = x - y := by
  rw [Int64.toInt_sub, ha, hb, ga_bm h1 h2]
theorem ga_mul {a b : Int64} {x y : Int} (ha : a.toInt = x) (hb : b.toInt = y) (h1 : -9223372036854775808 ≤ x * y) (h2 : x * y < 9223372036854775808) : (a * b).toInt = x * y := by
  rw [Int64.toInt_mul, ha, hb, ga_bm h1 h2]
theorem ga_neg {a : Int64} {x : Int} (ha : a.toInt = x) (h1 : -9223372036854775808 ≤ -x) (h2 : -x < 9223372036854775808) : (-a).toInt = -x := by
  rw [Int64.toInt_neg, ha, ga_bm h1 h2]
theorem gw_add {a b : Int32} {x y : Int} (ha : a.toInt = x) (hb : b.toInt = y) (h1 : -2147483648 ≤ x + y) (h2 : x + y < 2147483648) : (a + b).toInt = x + y := by
  rw [Int32.toInt_add, ha, hb, ga_bw h1 h2]
theorem gw_sub {a b : Int32} {x y : Int} (ha : a.toInt = x) (hb : b.toInt = y) (h1 : -2147483648 ≤ x - y) (h2 : x - y < 2147483648) : (a - b).toInt = x - y := by
  rw [Int32.toInt_sub, ha, hb, ga_bw h1 h2]
theorem gw_mul {a b : Int32} {x y : Int} (ha : a.toInt = x) (hb : b.toInt = y) (h1 : -2147483648 ≤ x * y) (h2 : x * y < 2147483648) : (a * b).toInt = x * y := by
  rw [Int32.toInt_mul, ha, hb, ga_bw h1 h2]
/-- products of bounded numbers -/
theorem ga_ab {x y a b : Int} (h1 : -a ≤ x) (h2 : x ≤ a) (h3 : -b ≤ y) (h4 : y ≤ b) : -(a * b) ≤ x * y ∧ x * y ≤ a * b := by
  have e1 := Int.mul_nonneg (show 0 ≤ a - x by omega) (show 0 ≤ b - y by omega)
  have e2 := Int.mul_nonneg (show 0 ≤ a - x by omega) (show 0 ≤ b + y by omega)
  have e3 := Int.mul_nonneg (show 0 ≤ a + x by omega) (show 0 ≤ b - y by omega)
  have e4 := Int.mul_nonneg (show 0 ≤ a + x by omega) (show 0 ≤ b + y by omega)
  have f1 : (a - x) * (b - y) = a * b - a * y - x * b + x * y := by grind
  have f2 : (a - x) * (b + y) = a * b + a * y - x * b - x * y := by grind
  have f3 : (a + x) * (b - y) = a * b - a * y + x * b - x * y := by grind
  have f4 : (a + x) * (b + y) = a * b + a * y + x * b + x * y := by grind
  omega
theorem ga_nn {g x : Int} (hg : 0 < g) (h : 0 ≤ g * x) : 0 ≤ x := by
  apply Int.le_of_mul_le_mul_left (a := g) _ hg
  rw [Int.mul_zero]; exact h
theorem ga_pp {g x : Int} (hg : 0 < g) (h : 0 < g * x) : 0 < x := by
  rcases ga_lg 0 x with z | z
  · exact z
  · have := Int.mul_nonneg (Int.le_of_lt hg) (show 0 ≤ -x by omega)
    rw [Int.mul_neg] at this
    omega
theorem ga_z {g x : Int} (hg : 0 < g) (h : g * x = 0) : x = 0 := by
  rcases Int.mul_eq_zero.mp h with z | z
  · omega
  · exact z
theorem ga_nz {g x : Int} (h : g * x = 0) (hx : x ≠ 0) : g = 0 := by
  rcases Int.mul_eq_zero.mp h with z | z
  · exact z
  · exact absurd z hx
/-- a share of a number with factor g ≥ 1 is no larger -/
theorem ga_shr {g x B : Int} (hg : 0 < g) (h1 : -B ≤ g * x) (h2 : g * x ≤ B) : -B ≤ x ∧ x ≤ B := by
  rcases ga_lg x 0 with z | z
  · have := Int.mul_nonneg (show 0 ≤ g - 1 by omega) (show 0 ≤ -x by omega)
    have e : (g - 1) * (-x) = x - g * x := by grind
    omega
  · have := Int.mul_nonneg (show 0 ≤ g - 1 by omega) z
    have e : (g - 1) * x = g * x - x := by grind
    omega
end
section
/-! the plain picture: corners, lines, edges -/
abbrev gv_V : Type := Int × Int × Int × Int
/-- the triangle's numbers: t (sign of ay), m (size of ay), ax, az, aw -/
abbrev gv_P : Type := Int × Int × Int × Int × Int
def gv_C : gv_V := (0, 0, 1, 1)
def gv_ok (E : gv_P) : Prop := (E.1 = 1 ∨ E.1 = -1) ∧ 1 ≤ E.2.1 ∧ E.2.1 ≤ 20 ∧ -20 ≤ E.2.2.1 ∧ E.2.2.1 ≤ 20 ∧ -20 ≤ E.2.2.2.1 ∧ E.2.2.2.1 ≤ 20 ∧ (E.2.2.2.2 = 1 ∨ (E.2.2.2.2 = 0 ∧ E.2.2.2.1 = 0))
def gv_a (E : gv_P) (i : Nat) : Int := if i = 0 then 1 else if i = 1 then -1 else if i ≤ 4 then 0 else -E.2.1
def gv_b (E : gv_P) (i : Nat) : Int := if i ≤ 1 then 0 else if i = 2 then 1 else if i = 3 then -1 else if i = 4 then E.1 * (E.2.2.2.1 - E.2.2.2.2) else E.1 * (E.2.2.1 - 4 * E.2.2.2.2)
def gv_c (E : gv_P) (i : Nat) : Int := if i ≤ 3 then 1 else if i = 4 then E.2.1 else 4 * E.2.1
def gv_ev (E : gv_P) (i : Nat) (v : gv_V) : Int := gv_a E i * v.1 + gv_b E i * v.2.1 + gv_c E i * v.2.2.2
def gv_la (E : gv_P) (v : gv_V) : Int := E.1 * v.2.1
def gv_lb (E : gv_P) (v : gv_V) : Int := E.2.1 * v.1 - E.1 * E.2.2.1 * v.2.1
def gv_pl (E : gv_P) (v : gv_V) : Prop := E.2.1 * (v.2.2.1 - v.2.2.2) = (E.2.2.2.1 - E.2.2.2.2) * (E.1 * v.2.1)
def gv_bd (v : gv_V) : Prop := (-1048576 ≤ v.1 ∧ v.1 ≤ 1048576) ∧ (-1048576 ≤ v.2.1 ∧ v.2.1 ≤ 1048576) ∧ (-1048576 ≤ v.2.2.1 ∧ v.2.2.1 ≤ 1048576) ∧ (-1048576 ≤ v.2.2.2 ∧ v.2.2.2 ≤ 1048576)
def gv_vk (E : gv_P) (s : Nat) (v : gv_V) : Prop := gv_pl E v ∧ 0 ≤ gv_la E v ∧ 0 ≤ gv_lb E v ∧ 0 ≤ gv_ev E 5 v ∧ 0 < gv_la E v + gv_lb E v + gv_ev E 5 v ∧ (∀ i, i < s → 0 ≤ gv_ev E i v)
def gv_mix (p p' : gv_V) (a b : Int) : gv_V := (p.1 * a + p'.1 * b, p.2.1 * a + p'.2.1 * b, p.2.2.1 * a + p'.2.2.1 * b, p.2.2.2 * a + p'.2.2.2 * b)
def gv_rel (g : Int) (p r : gv_V) : Prop := 0 < g ∧ p.1 = g * r.1 ∧ p.2.1 = g * r.2.1 ∧ p.2.2.1 = g * r.2.2.1 ∧ p.2.2.2 = g * r.2.2.2
def gv_ed (E : gv_P) (p p' : gv_V) : Prop := (∃ i, i ≤ 5 ∧ gv_ev E i p = 0 ∧ gv_ev E i p' = 0) ∨ (p = gv_C ∧ gv_lb E p' = 0 ∧ 0 < gv_la E p') ∨ (p' = gv_C ∧ gv_la E p = 0 ∧ 0 < gv_lb E p)
def gv_pr (v : gv_V) : Prop := ∀ d : Nat, d ∣ v.1.natAbs → d ∣ v.2.1.natAbs → d ∣ v.2.2.1.natAbs → d ∣ v.2.2.2.natAbs → d = 1

theorem gv_ev_mix (E : gv_P) (i : Nat) (p p' : gv_V) (a b : Int) : gv_ev E i (gv_mix p p' a b) = a * gv_ev E i p + b * gv_ev E i p' := by
  simp only [gv_ev, gv_mix]; grind
theorem gv_la_mix (E : gv_P) (p p' : gv_V) (a b : Int) : gv_la E (gv_mix p p' a b) = a * gv_la E p + b * gv_la E p' := by
  simp only [gv_la, gv_mix]; grind
theorem gv_lb_mix (E : gv_P) (p p' : gv_V) (a b : Int) : gv_lb E (gv_mix p p' a b) = a * gv_lb E p + b * gv_lb E p' := by
  simp only [gv_lb, gv_mix]; grind
theorem gv_pl_mix {E : gv_P} {p p' : gv_V} (a b : Int) (h : gv_pl E p) (h' : gv_pl E p') : gv_pl E (gv_mix p p' a b) := by
  simp only [gv_pl, gv_mix] at *; grind
theorem gv_ev_rel {E : gv_P} {g : Int} {p r : gv_V} (i : Nat) (h : gv_rel g p r) : gv_ev E i p = g * gv_ev E i r := by
  obtain ⟨_, h1, h2, h3, h4⟩ := h
  simp only [gv_ev, h1, h2, h4]; grind
theorem gv_la_rel {E : gv_P} {g : Int} {p r : gv_V} (h : gv_rel g p r) : gv_la E p = g * gv_la E r := by
  obtain ⟨_, h1, h2, h3, h4⟩ := h
  simp only [gv_la, h2]; grind
theorem gv_lb_rel {E : gv_P} {g : Int} {p r : gv_V} (h : gv_rel g p r) : gv_lb E p = g * gv_lb E r := by
  obtain ⟨_, h1, h2, h3, h4⟩ := h
  simp only [gv_lb, h1, h2]; grind
theorem gv_pl_rel {E : gv_P} {g : Int} {p r : gv_V} (h : gv_rel g p r) (hp : gv_pl E p) : gv_pl E r := by
  obtain ⟨h0, h1, h2, h3, h4⟩ := h
  simp only [gv_pl, h2, h3, h4] at *
  apply Int.eq_of_mul_eq_mul_left (a := g) (by omega)
  grind
theorem gv_bd_rel {g : Int} {p r : gv_V} (h : gv_rel g p r) (hp : gv_bd p) : gv_bd r := by
  obtain ⟨h0, h1, h2, h3, h4⟩ := h
  simp only [gv_bd, h1, h2, h3, h4] at *
  exact ⟨ga_shr h0 hp.1.1 hp.1.2, ga_shr h0 hp.2.1.1 hp.2.1.2, ga_shr h0 hp.2.2.1.1 hp.2.2.1.2, ga_shr h0 hp.2.2.2.1 hp.2.2.2.2⟩
theorem gv_C_rel {g : Int} {r : gv_V} (h : gv_rel g gv_C r) : r = gv_C := by
  obtain ⟨h0, h1, h2, h3, h4⟩ := h
  obtain ⟨x, y, z, w⟩ := r
  simp only [gv_C] at *
  have e1 : x = 0 := ga_z h0 h1.symm
  have e2 : y = 0 := ga_z h0 h2.symm
  have hw : 0 < w := ga_pp h0 (by omega)
  have hz : 0 < z := ga_pp h0 (by omega)
  have k1 := ga_shr (x := w) (B := 1) h0 (by omega) (by omega)
  have k2 := ga_shr (x := z) (B := 1) h0 (by omega) (by omega)
  have e3 : w = 1 := by omega
  have e4 : z = 1 := by omega
  rw [e1, e2, e3, e4]
theorem gv_vk_rel {E : gv_P} {g : Int} {s : Nat} {p r : gv_V} (h : gv_rel g p r) (hp : gv_vk E s p) : gv_vk E s r := by
  obtain ⟨k1, k2, k3, k4, k5, k6⟩ := hp
  have hg := h.1
  rw [gv_la_rel h] at k2 k5
  rw [gv_lb_rel h] at k3 k5
  rw [gv_ev_rel 5 h] at k4 k5
  refine ⟨gv_pl_rel h k1, ga_nn hg k2, ga_nn hg k3, ga_nn hg k4, ga_pp hg (by grind), fun i hi => ga_nn hg ?_⟩
  rw [← gv_ev_rel i h]; exact k6 i hi
theorem gv_vk_mix {E : gv_P} {s : Nat} {p p' : gv_V} {a b : Int} (ha : 0 < a) (hb : 0 < b) (hp : gv_vk E s p) (hp' : gv_vk E s p') : gv_vk E s (gv_mix p p' a b) := by
  obtain ⟨k1, k2, k3, k4, k5, k6⟩ := hp
  obtain ⟨j1, j2, j3, j4, j5, j6⟩ := hp'
  have A : ∀ x y : Int, 0 ≤ x → 0 ≤ y → 0 ≤ a * x + b * y := fun x y hx hy => Int.add_nonneg (Int.mul_nonneg (Int.le_of_lt ha) hx) (Int.mul_nonneg (Int.le_of_lt hb) hy)
  refine ⟨gv_pl_mix a b k1 j1, ?_, ?_, ?_, ?_, fun i hi => ?_⟩
  · rw [gv_la_mix]; exact A _ _ k2 j2
  · rw [gv_lb_mix]; exact A _ _ k3 j3
  · rw [gv_ev_mix]; exact A _ _ k4 j4
  · rw [gv_la_mix, gv_lb_mix, gv_ev_mix]
    have u1 := Int.mul_pos ha k5
    have u2 := Int.mul_pos hb j5
    grind
  · rw [gv_ev_mix]; exact A _ _ (k6 i hi) (j6 i hi)

theorem gv_ed_l {E : gv_P} {g : Int} {p r v : gv_V} (h : gv_rel g p r) (e : gv_ed E p v) : gv_ed E r v := by
  rcases e with ⟨i, hi, e1, e2⟩ | ⟨e1, e2, e3⟩ | ⟨e1, e2, e3⟩
  · exact Or.inl ⟨i, hi, ga_z h.1 (by rw [← gv_ev_rel i h]; exact e1), e2⟩
  · rw [e1] at h
    exact Or.inr (Or.inl ⟨gv_C_rel h, e2, e3⟩)
  · rw [gv_la_rel h] at e2
    rw [gv_lb_rel h] at e3
    exact Or.inr (Or.inr ⟨e1, ga_z h.1 e2, ga_pp h.1 e3⟩)
theorem gv_ed_r {E : gv_P} {g : Int} {p r v : gv_V} (h : gv_rel g p r) (e : gv_ed E v p) : gv_ed E v r := by
  rcases e with ⟨i, hi, e1, e2⟩ | ⟨e1, e2, e3⟩ | ⟨e1, e2, e3⟩
  · exact Or.inl ⟨i, hi, e1, ga_z h.1 (by rw [← gv_ev_rel i h]; exact e2)⟩
  · rw [gv_lb_rel h] at e2
    rw [gv_la_rel h] at e3
    exact Or.inr (Or.inl ⟨e1, ga_z h.1 e2, ga_pp h.1 e3⟩)
  · rw [e1] at h
    exact Or.inr (Or.inr ⟨gv_C_rel h, e2, e3⟩)
theorem gv_la_C (E : gv_P) : gv_la E gv_C = 0 := by simp only [gv_la, gv_C]; omega
theorem gv_lb_C (E : gv_P) : gv_lb E gv_C = 0 := by simp only [gv_lb, gv_C]; omega
theorem gv_ev_C (E : gv_P) (i : Nat) : gv_ev E i gv_C = gv_c E i := by simp only [gv_ev, gv_C]; omega
/-- the kept half of an edge, its far end not C -/
theorem gv_ed_h {E : gv_P} {g a b : Int} {p p' r : gv_V} (ha : 0 < a) (hb : 0 < b) (h : gv_rel g (gv_mix p p' a b) r) (hC : p' ≠ gv_C) (e : gv_ed E p p') : gv_ed E p r := by
  refine gv_ed_r h ?_
  rcases e with ⟨i, hi, e1, e2⟩ | ⟨e1, e2, e3⟩ | ⟨e1, e2, e3⟩
  · exact Or.inl ⟨i, hi, e1, by rw [gv_ev_mix, e1, e2]; omega⟩
  · refine Or.inr (Or.inl ⟨e1, ?_, ?_⟩)
    · rw [gv_lb_mix, e1, gv_lb_C, e2]; omega
    · rw [gv_la_mix, e1, gv_la_C]
      have := Int.mul_pos hb e3
      omega
  · exact absurd e1 hC
theorem gv_ed_t {E : gv_P} {g a b : Int} {p p' r : gv_V} (ha : 0 < a) (hb : 0 < b) (h : gv_rel g (gv_mix p p' a b) r) (hC : p ≠ gv_C) (e : gv_ed E p p') : gv_ed E r p' := by
  refine gv_ed_l h ?_
  rcases e with ⟨i, hi, e1, e2⟩ | ⟨e1, e2, e3⟩ | ⟨e1, e2, e3⟩
  · exact Or.inl ⟨i, hi, by rw [gv_ev_mix, e1, e2]; omega, e2⟩
  · exact absurd e1 hC
  · refine Or.inr (Or.inr ⟨e1, ?_, ?_⟩)
    · rw [gv_la_mix, e1, gv_la_C, e2]; omega
    · rw [gv_lb_mix, e1, gv_lb_C]
      have := Int.mul_pos ha e3
      omega
end
section
/-! a corner on two lines is bounded -/
theorem gb_par {x a b c X A B D : Int} (hg : ∀ d : Nat, d ∣ x.natAbs → d ∣ a.natAbs → d ∣ b.natAbs → d ∣ c.natAbs → d = 1) (h1 : x * A = a * X) (h2 : x * B = b * X) (h3 : x * D = c * X) (hn : X ≠ 0 ∨ A ≠ 0 ∨ B ≠ 0 ∨ D ≠ 0) : x.natAbs ≤ X.natAbs := by
  by_cases hX : X = 0
  · rw [hX, Int.mul_zero] at h1 h2 h3
    have hx : x = 0 := by
      rcases hn with z | z | z | z
      · exact absurd hX z
      · exact ga_nz h1 z
      · exact ga_nz h2 z
      · exact ga_nz h3 z
    rw [hx, hX]
    exact Nat.le_refl _
  · have hp : 0 < X.natAbs := by omega
    have k : ∀ y Y : Int, x * Y = y * X → x.natAbs ∣ y.natAbs * X.natAbs := by
      intro y Y e
      rw [← Int.natAbs_mul, ← e, Int.natAbs_mul]
      exact Nat.dvd_mul_right _ _
    have q0 : x.natAbs ∣ x.natAbs * X.natAbs := Nat.dvd_mul_right _ _
    have q1 := Nat.dvd_gcd q0 (k a A h1)
    rw [Nat.gcd_mul_right] at q1
    have q2 := Nat.dvd_gcd q1 (k b B h2)
    rw [Nat.gcd_mul_right] at q2
    have q3 := Nat.dvd_gcd q2 (k c D h3)
    rw [Nat.gcd_mul_right] at q3
    have d3 : Nat.gcd (Nat.gcd (Nat.gcd x.natAbs a.natAbs) b.natAbs) c.natAbs ∣ Nat.gcd (Nat.gcd x.natAbs a.natAbs) b.natAbs := Nat.gcd_dvd_left _ _
    have d2 : Nat.gcd (Nat.gcd x.natAbs a.natAbs) b.natAbs ∣ Nat.gcd x.natAbs a.natAbs := Nat.gcd_dvd_left _ _
    have e1 := hg _ (Nat.dvd_trans d3 (Nat.dvd_trans d2 (Nat.gcd_dvd_left _ _))) (Nat.dvd_trans d3 (Nat.dvd_trans d2 (Nat.gcd_dvd_right _ _))) (Nat.dvd_trans d3 (Nat.gcd_dvd_right _ _)) (Nat.gcd_dvd_right _ _)
    rw [e1, Nat.one_mul] at q3
    exact Nat.le_of_dvd hp q3
theorem gb_na {x X B : Int} (h : x.natAbs ≤ X.natAbs) (h1 : -B ≤ X) (h2 : X ≤ B) : -B ≤ x ∧ x ≤ B := by omega
/-- two lines (A, B, D) and (a, b, c) through r, the first not through a point where the second is off it -/
theorem gb_two {E : gv_P} {A B D a b c : Int} {r p : gv_V} (hE : gv_ok E) (hA : -80 ≤ A ∧ A ≤ 80) (hB : -80 ≤ B ∧ B ≤ 80) (hD : -80 ≤ D ∧ D ≤ 80) (ha : -80 ≤ a ∧ a ≤ 80) (hb : -80 ≤ b ∧ b ≤ 80) (hc : -80 ≤ c ∧ c ≤ 80)
    (hn : A ≠ 0 ∨ B ≠ 0 ∨ D ≠ 0) (l1 : A * r.1 + B * r.2.1 + D * r.2.2.2 = 0) (l2 : a * r.1 + b * r.2.1 + c * r.2.2.2 = 0) (l3 : A * p.1 + B * p.2.1 + D * p.2.2.2 = 0) (l4 : a * p.1 + b * p.2.1 + c * p.2.2.2 ≠ 0) (hl : gv_pl E r) (hp : gv_pr r) : gv_bd r := by
  obtain ⟨x, y, z, w⟩ := r
  obtain ⟨px, py, pz, pw⟩ := p
  obtain ⟨t, m, ax, az, aw⟩ := E
  simp only [gv_ok, gv_pl, gv_pr, gv_bd] at *
  obtain ⟨ht, hm1, hm2, hx1, hx2, hz1, hz2, hw⟩ := hE
  -- the product of the two lines
  have hu : ∃ u1 u2 u3 : Int, u1 = B * c - D * b ∧ u2 = D * a - A * c ∧ u3 = A * b - B * a := ⟨_, _, _, rfl, rfl, rfl⟩
  obtain ⟨u1, u2, u3, e1, e2, e3⟩ := hu
  have b1 : -12800 ≤ u1 ∧ u1 ≤ 12800 := by
    have := ga_ab hB.1 hB.2 hc.1 hc.2
    have := ga_ab hD.1 hD.2 hb.1 hb.2
    omega
  have b2 : -12800 ≤ u2 ∧ u2 ≤ 12800 := by
    have := ga_ab hD.1 hD.2 ha.1 ha.2
    have := ga_ab hA.1 hA.2 hc.1 hc.2
    omega
  have b3 : -12800 ≤ u3 ∧ u3 ≤ 12800 := by
    have := ga_ab hA.1 hA.2 hb.1 hb.2
    have := ga_ab hB.1 hB.2 ha.1 ha.2
    omega
  have c1 : x * u2 = y * u1 := by subst e1 e2; grind
  have c2 : x * u3 = w * u1 := by subst e1 e3; grind
  have c3 : y * u3 = w * u2 := by subst e2 e3; grind
  have un : u1 ≠ 0 ∨ u2 ≠ 0 ∨ u3 ≠ 0 := by
    apply Classical.byContradiction
    intro hh
    have v1 : u1 = 0 := Classical.byContradiction (fun q => hh (Or.inl q))
    have v2 : u2 = 0 := Classical.byContradiction (fun q => hh (Or.inr (Or.inl q)))
    have v3 : u3 = 0 := Classical.byContradiction (fun q => hh (Or.inr (Or.inr q)))
    rw [v1] at e1
    rw [v2] at e2
    rw [v3] at e3
    have f1 : A * (a * px + b * py + c * pw) = 0 := by grind
    have f2 : B * (a * px + b * py + c * pw) = 0 := by grind
    have f3 : D * (a * px + b * py + c * pw) = 0 := by grind
    rcases hn with q | q | q
    · exact q (ga_nz f1 l4)
    · exact q (ga_nz f2 l4)
    · exact q (ga_nz f3 l4)
  -- the plane gives the third part
  have hU : ∃ U1 U2 U3 U4 : Int, U1 = m * u1 ∧ U2 = m * u2 ∧ U3 = m * u3 + (az - aw) * (t * u2) ∧ U4 = m * u3 := ⟨_, _, _, _, rfl, rfl, rfl, rfl⟩
  obtain ⟨U1, U2, U3, U4, g1, g2, g3, g4⟩ := hU
  have m0 : m ≠ 0 := by omega
  have i12 : x * U2 = y * U1 := by subst g1 g2; grind
  have i14 : x * U4 = w * U1 := by subst g1 g4; grind
  have i24 : y * U4 = w * U2 := by subst g2 g4; grind
  have i13 : x * U3 = z * U1 := by
    apply Int.eq_of_mul_eq_mul_left m0
    subst g1 g3; grind
  have i23 : y * U3 = z * U2 := by
    apply Int.eq_of_mul_eq_mul_left m0
    subst g2 g3; grind
  have i43 : w * U3 = z * U4 := by
    apply Int.eq_of_mul_eq_mul_left m0
    subst g3 g4; grind
  have Un : U1 ≠ 0 ∨ U2 ≠ 0 ∨ U4 ≠ 0 := by
    rcases un with q | q | q
    · exact Or.inl (by rw [g1]; exact Int.mul_ne_zero m0 q)
    · exact Or.inr (Or.inl (by rw [g2]; exact Int.mul_ne_zero m0 q))
    · exact Or.inr (Or.inr (by rw [g4]; exact Int.mul_ne_zero m0 q))
  have B1 : -1048576 ≤ U1 ∧ U1 ≤ 1048576 := by
    have := ga_ab (x := m) (a := 20) (by omega) hm2 b1.1 b1.2
    omega
  have B2 : -1048576 ≤ U2 ∧ U2 ≤ 1048576 := by
    have := ga_ab (x := m) (a := 20) (by omega) hm2 b2.1 b2.2
    omega
  have B4 : -1048576 ≤ U4 ∧ U4 ≤ 1048576 := by
    have := ga_ab (x := m) (a := 20) (by omega) hm2 b3.1 b3.2
    omega
  have B3 : -1048576 ≤ U3 ∧ U3 ≤ 1048576 := by
    have k1 := ga_ab (x := m) (a := 20) (by omega) hm2 b3.1 b3.2
    have k2 : -12800 ≤ t * u2 ∧ t * u2 ≤ 12800 := by
      rcases ht with q | q
      · rw [q]; omega
      · rw [q]; omega
    have k3 := ga_ab (x := az - aw) (a := 21) (by omega) (by omega) k2.1 k2.2
    omega
  refine ⟨gb_na (gb_par (fun d d1 d2 d3 d4 => hp d d1 d2 d3 d4) i12 i13 i14 (by rcases Un with q | q | q; exact Or.inl q; exact Or.inr (Or.inl q); exact Or.inr (Or.inr (Or.inr q)))) B1.1 B1.2,
    gb_na (gb_par (X := U2) (fun d d1 d2 d3 d4 => hp d d2 d1 d3 d4) i12.symm i23 i24 (by rcases Un with q | q | q; exact Or.inr (Or.inl q); exact Or.inl q; exact Or.inr (Or.inr (Or.inr q)))) B2.1 B2.2,
    gb_na (gb_par (X := U3) (fun d d1 d2 d3 d4 => hp d d2 d3 d1 d4) i13.symm i23.symm i43.symm (by rcases Un with q | q | q; exact Or.inr (Or.inl q); exact Or.inr (Or.inr (Or.inl q)); exact Or.inr (Or.inr (Or.inr q)))) B3.1 B3.2,
    gb_na (gb_par (X := U4) (fun d d1 d2 d3 d4 => hp d d2 d3 d4 d1) i14.symm i24.symm i43 (by rcases Un with q | q | q; exact Or.inr (Or.inl q); exact Or.inr (Or.inr (Or.inl q)); exact Or.inl q)) B4.1 B4.2⟩
/-- the lines' numbers are small; their value at C is positive -/
theorem gb_co {E : gv_P} (hE : gv_ok E) (i : Nat) : (-80 ≤ gv_a E i ∧ gv_a E i ≤ 80) ∧ (-80 ≤ gv_b E i ∧ gv_b E i ≤ 80) ∧ (0 < gv_c E i ∧ gv_c E i ≤ 80) := by
  obtain ⟨t, m, ax, az, aw⟩ := E
  simp only [gv_ok] at hE
  obtain ⟨ht, hm1, hm2, hx1, hx2, hz1, hz2, hw⟩ := hE
  simp only [gv_a, gv_b, gv_c]
  refine ⟨?_, ?_, ?_⟩
  · split
    · omega
    · split
      · omega
      · split <;> omega
  · split
    · omega
    · split
      · omega
      · split
        · omega
        · split
          · rcases ht with q | q <;> rw [q] <;> omega
          · rcases ht with q | q <;> rw [q] <;> omega
  · split
    · omega
    · split <;> omega
/-- an edge's line -/
theorem gb_ln {E : gv_P} {p p' : gv_V} (hE : gv_ok E) (h : gv_ed E p p') : ∃ A B D : Int, (-80 ≤ A ∧ A ≤ 80) ∧ (-80 ≤ B ∧ B ≤ 80) ∧ (-80 ≤ D ∧ D ≤ 80) ∧ (A ≠ 0 ∨ B ≠ 0 ∨ D ≠ 0) ∧ A * p.1 + B * p.2.1 + D * p.2.2.2 = 0 ∧ A * p'.1 + B * p'.2.1 + D * p'.2.2.2 = 0 := by
  rcases h with ⟨i, hi, e1, e2⟩ | ⟨e1, e2, e3⟩ | ⟨e1, e2, e3⟩
  · obtain ⟨k1, k2, k3⟩ := gb_co hE i
    exact ⟨gv_a E i, gv_b E i, gv_c E i, k1, k2, by omega, Or.inr (Or.inr (by omega)), e1, e2⟩
  · obtain ⟨t, m, ax, az, aw⟩ := E
    simp only [gv_ok, gv_lb, gv_la] at *
    obtain ⟨ht, hm1, hm2, hx1, hx2, hz1, hz2, hw⟩ := hE
    refine ⟨m, -(t * ax), 0, by omega, ?_, by omega, Or.inl (by omega), ?_, ?_⟩
    · rcases ht with q | q <;> rw [q] <;> omega
    · rw [e1]; simp only [gv_C]; omega
    · grind
  · obtain ⟨t, m, ax, az, aw⟩ := E
    simp only [gv_ok, gv_lb, gv_la] at *
    obtain ⟨ht, hm1, hm2, hx1, hx2, hz1, hz2, hw⟩ := hE
    refine ⟨0, t, 0, by omega, by omega, by omega, Or.inr (Or.inl (by omega)), ?_, ?_⟩
    · grind
    · rw [e1]; simp only [gv_C]; omega
/-- a new corner on an edge and a side is bounded -/
theorem gb_new {E : gv_P} {s : Nat} {g a b : Int} {p p' r : gv_V} (hE : gv_ok E) (he : gv_ed E p p') (h : gv_rel g (gv_mix p p' a b) r) (hs : gv_ev E s r = 0) (hn : gv_ev E s p ≠ 0) (hl : gv_pl E r) (hp : gv_pr r) : gv_bd r := by
  obtain ⟨A, B, D, hA, hB, hD, hz, l1, l2⟩ := gb_ln hE he
  obtain ⟨k1, k2, k3⟩ := gb_co hE s
  refine gb_two hE hA hB hD k1 k2 (by omega) hz ?_ hs l1 hn hl hp
  obtain ⟨h0, h1, h2, h3, h4⟩ := h
  simp only [gv_mix] at *
  apply ga_z h0
  grind
end
section
/-! one clip, as a plain function, and what it keeps -/
def gc_g (v : gv_V) : Nat := Nat.gcd (Nat.gcd (Nat.gcd v.1.natAbs v.2.1.natAbs) v.2.2.1.natAbs) v.2.2.2.natAbs
def gc_red (v : gv_V) : gv_V := if 1 < gc_g v then (v.1.tdiv (gc_g v : Int), v.2.1.tdiv (gc_g v : Int), v.2.2.1.tdiv (gc_g v : Int), v.2.2.2.tdiv (gc_g v : Int)) else v
def gc_ps (s : Nat × (Nat → gv_V)) (v : gv_V) : Nat × (Nat → gv_V) := (s.1 + 1, fun j => if j = s.1 then v else s.2 j)
def gc_s1 (a b : Int) (p p' : gv_V) (s : Nat × (Nat → gv_V)) : Nat × (Nat → gv_V) := if 0 ≤ a then gc_ps s (gc_red (gv_mix p p' 1 0)) else s
def gc_s2 (a b : Int) (p p' : gv_V) (s : Nat × (Nat → gv_V)) : Nat × (Nat → gv_V) := if 0 < a ∧ b < 0 then gc_ps s (gc_red (gv_mix p p' (-b) a)) else s
def gc_s3 (a b : Int) (p p' : gv_V) (s : Nat × (Nat → gv_V)) : Nat × (Nat → gv_V) := if a < 0 ∧ 0 < b then gc_ps s (gc_red (gv_mix p p' b (-a))) else s
def gc_st (a b : Int) (p p' : gv_V) (s : Nat × (Nat → gv_V)) : Nat × (Nat → gv_V) := gc_s3 a b p p' (gc_s2 a b p p' (gc_s1 a b p p' s))
def gc_nx (n k : Nat) : Nat := if k + 1 < n then k + 1 else 0
def gc_pc (p : Nat → gv_V) (n k : Nat) : gv_V := p (if k < n then k else 0)
def gc_cf (h : gv_V → Int) (p : Nat → gv_V) (n : Nat) : Nat → Nat × (Nat → gv_V)
  | 0 => (0, fun _ => gv_C)
  | k + 1 => gc_st (h (p k)) (h (p (gc_nx n k))) (p k) (p (gc_nx n k)) (gc_cf h p n k)
def gc_h (s : Nat) (v : gv_V) : Int := if s = 0 then v.2.2.2 + v.1 else if s = 1 then v.2.2.2 - v.1 else if s = 2 then v.2.2.2 + v.2.1 else if s = 3 then v.2.2.2 - v.2.1 else if s = 4 then v.2.2.1 else v.2.2.2 - v.2.2.1

theorem gc_gd (v : gv_V) : gc_g v ∣ v.1.natAbs ∧ gc_g v ∣ v.2.1.natAbs ∧ gc_g v ∣ v.2.2.1.natAbs ∧ gc_g v ∣ v.2.2.2.natAbs := by
  unfold gc_g
  have d3 : Nat.gcd (Nat.gcd (Nat.gcd v.1.natAbs v.2.1.natAbs) v.2.2.1.natAbs) v.2.2.2.natAbs ∣ Nat.gcd (Nat.gcd v.1.natAbs v.2.1.natAbs) v.2.2.1.natAbs := Nat.gcd_dvd_left _ _
  have d2 : Nat.gcd (Nat.gcd v.1.natAbs v.2.1.natAbs) v.2.2.1.natAbs ∣ Nat.gcd v.1.natAbs v.2.1.natAbs := Nat.gcd_dvd_left _ _
  exact ⟨Nat.dvd_trans d3 (Nat.dvd_trans d2 (Nat.gcd_dvd_left _ _)), Nat.dvd_trans d3 (Nat.dvd_trans d2 (Nat.gcd_dvd_right _ _)), Nat.dvd_trans d3 (Nat.gcd_dvd_right _ _), Nat.gcd_dvd_right _ _⟩
theorem gc_rr {v : gv_V} (h : 0 < gc_g v) : gv_rel (gc_g v : Int) v (gc_red v) := by
  obtain ⟨d1, d2, d3, d4⟩ := gc_gd v
  have K : ∀ x : Int, gc_g v ∣ x.natAbs → x = (gc_g v : Int) * x.tdiv (gc_g v : Int) := fun x hx => (Int.mul_tdiv_cancel' (Int.ofNat_dvd_left.mpr hx)).symm
  by_cases c : 1 < gc_g v
  · unfold gc_red
    rw [if_pos c]
    exact ⟨by omega, K _ d1, K _ d2, K _ d3, K _ d4⟩
  · unfold gc_red
    rw [if_neg c]
    have e : gc_g v = 1 := by omega
    rw [e]
    refine ⟨by omega, ?_, ?_, ?_, ?_⟩ <;> omega
theorem gc_rp {v r : gv_V} (h : 0 < gc_g v) (hr : gv_rel (gc_g v : Int) v r) : gv_pr r := by
  intro d d1 d2 d3 d4
  obtain ⟨_, e1, e2, e3, e4⟩ := hr
  have K : ∀ x y : Int, x = (gc_g v : Int) * y → d ∣ y.natAbs → gc_g v * d ∣ x.natAbs := by
    intro x y e hd
    rw [e, Int.natAbs_mul, Int.natAbs_natCast]
    exact Nat.mul_dvd_mul_left _ hd
  have q := Nat.dvd_gcd (Nat.dvd_gcd (Nat.dvd_gcd (K _ _ e1 d1) (K _ _ e2 d2)) (K _ _ e3 d3)) (K _ _ e4 d4)
  have q' : gc_g v * d ∣ gc_g v * 1 := by rw [Nat.mul_one]; exact q
  exact Nat.dvd_one.mp (Nat.dvd_of_mul_dvd_mul_left h q')
theorem gc_pos {E : gv_P} {s : Nat} {v : gv_V} (h : gv_vk E s v) : 0 < gc_g v := by
  apply Nat.pos_of_ne_zero
  intro hz
  obtain ⟨d1, d2, d3, d4⟩ := gc_gd v
  rw [hz] at d1 d2 d3 d4
  have e1 : v.1 = 0 := Int.natAbs_eq_zero.mp (Nat.eq_zero_of_zero_dvd d1)
  have e2 : v.2.1 = 0 := Int.natAbs_eq_zero.mp (Nat.eq_zero_of_zero_dvd d2)
  have e4 : v.2.2.2 = 0 := Int.natAbs_eq_zero.mp (Nat.eq_zero_of_zero_dvd d4)
  have k := h.2.2.2.2.1
  simp only [gv_la, gv_lb, gv_ev, e1, e2, e4, Int.mul_zero] at k
  omega
theorem gc_m1 (p p' : gv_V) : gv_mix p p' 1 0 = p := by
  simp only [gv_mix, Int.mul_one, Int.mul_zero, Int.add_zero]
theorem gc_vs {E : gv_P} {s : Nat} {v : gv_V} (h : gv_vk E s v) (hs : 0 ≤ gv_ev E s v) : gv_vk E (s + 1) v := by
  obtain ⟨k1, k2, k3, k4, k5, k6⟩ := h
  refine ⟨k1, k2, k3, k4, k5, fun i hi => ?_⟩
  by_cases e : i = s
  · rw [e]; exact hs
  · exact k6 i (by omega)
def gc_B (E : gv_P) (s : Nat) (fi : gv_V → Prop) (st : Nat × (Nat → gv_V)) : Prop :=
  (∀ i, i < st.1 → gv_vk E (s + 1) (st.2 i) ∧ gv_bd (st.2 i)) ∧ (∀ i, i + 1 < st.1 → gv_ed E (st.2 i) (st.2 (i + 1))) ∧ (0 < st.1 → fi (st.2 0))
theorem gc_pl (st : Nat × (Nat → gv_V)) (r : gv_V) : (gc_ps st r).2 ((gc_ps st r).1 - 1) = r := by
  show (if st.1 + 1 - 1 = st.1 then r else _) = r
  rw [if_pos (by omega)]
theorem gc_po {st : Nat × (Nat → gv_V)} {r : gv_V} {i : Nat} (h : i < st.1) : (gc_ps st r).2 i = st.2 i := by
  show (if i = st.1 then r else st.2 i) = st.2 i
  rw [if_neg (by omega)]
theorem gc_pe {st : Nat × (Nat → gv_V)} {r : gv_V} : (gc_ps st r).2 st.1 = r := by
  show (if st.1 = st.1 then r else st.2 st.1) = r
  rw [if_pos rfl]
theorem gc_push {E : gv_P} {s : Nat} {fi : gv_V → Prop} {st : Nat × (Nat → gv_V)} {r : gv_V} (h : gc_B E s fi st) (hv : gv_vk E (s + 1) r ∧ gv_bd r) (he : 0 < st.1 → gv_ed E (st.2 (st.1 - 1)) r) (hf : st.1 = 0 → fi r) : gc_B E s fi (gc_ps st r) := by
  obtain ⟨b1, b2, b3⟩ := h
  refine ⟨fun i hi => ?_, fun i hi => ?_, fun _ => ?_⟩
  · have hi' : i < st.1 + 1 := hi
    by_cases e : i = st.1
    · rw [e, gc_pe]; exact hv
    · rw [gc_po (by omega)]; exact b1 i (by omega)
  · have hi' : i + 1 < st.1 + 1 := hi
    rw [gc_po (i := i) (by omega)]
    by_cases e : i + 1 = st.1
    · rw [e, gc_pe]
      have := he (by omega)
      rw [show st.1 - 1 = i by omega] at this
      exact this
    · rw [gc_po (by omega)]; exact b2 i (by omega)
  · by_cases e : st.1 = 0
    · have := gc_pe (st := st) (r := r)
      rw [e] at this
      rw [this]; exact hf e
    · rw [gc_po (by omega)]; exact b3 (by omega)
def gc_ph (a : Int) : Nat := if a < 0 then 1 else 0
def gc_fi (E : gv_P) (s : Nat) (h0 : Int) (p0 v : gv_V) : Prop := (0 ≤ h0 → ∃ g, gv_rel g p0 v) ∧ (h0 < 0 → gv_ev E s v = 0)
def gc_I (E : gv_P) (s : Nat) (h : gv_V → Int) (p : Nat → gv_V) (n k : Nat) (st : Nat × (Nat → gv_V)) : Prop :=
  gc_B E s (gc_fi E s (h (p 0)) (p 0)) st ∧
  (st.1 = 0 → k = 0 ∨ (h (p 0) < 0 ∧ h (gc_pc p n k) ≤ 0)) ∧
  (0 < st.1 → (0 ≤ h (gc_pc p n k) → gv_ed E (st.2 (st.1 - 1)) (gc_pc p n k)) ∧ (h (gc_pc p n k) < 0 → gv_ev E s (st.2 (st.1 - 1)) = 0)) ∧
  (2 * st.1 + gc_ph (h (p 0)) ≤ 3 * k + gc_ph (h (gc_pc p n k))) ∧
  (∀ c, c < k → p c = gv_C → ∃ i, i < st.1 ∧ st.2 i = gv_C)
theorem gc_kC {p : Nat → gv_V} {k : Nat} {st st' : Nat × (Nat → gv_V)} (h : ∀ c, c < k → p c = gv_C → ∃ i, i < st.1 ∧ st.2 i = gv_C) (hk : p k = gv_C → ∃ i, i < st'.1 ∧ st'.2 i = gv_C) (hs : ∀ i, i < st.1 → i < st'.1 ∧ st'.2 i = st.2 i) : ∀ c, c < k + 1 → p c = gv_C → ∃ i, i < st'.1 ∧ st'.2 i = gv_C := by
  intro c hc e
  by_cases q : c = k
  · rw [q] at e; exact hk e
  · obtain ⟨i, hi, ei⟩ := h c (by omega) e
    obtain ⟨u1, u2⟩ := hs i hi
    exact ⟨i, u1, by rw [u2]; exact ei⟩
theorem gc_step {E : gv_P} {s : Nat} {h : gv_V → Int} {p : Nat → gv_V} {n k : Nat} {κ : Int} {st : Nat × (Nat → gv_V)} (hE : gv_ok E) (hs : s ≤ 5) (h0 : 0 < κ) (hκ : ∀ k, k < n → κ * h (p k) = gv_ev E s (p k)) (hv : ∀ k, k < n → gv_vk E s (p k) ∧ gv_bd (p k)) (he : ∀ k, k < n → gv_ed E (p k) (p (gc_nx n k))) (hC : 0 ≤ h gv_C) (hk : k < n) (hI : gc_I E s h p n k st) : gc_I E s h p n (k + 1) (gc_st (h (p k)) (h (p (gc_nx n k))) (p k) (p (gc_nx n k)) st) := by
  obtain ⟨iB, i3, i4, i6, i7⟩ := hI
  have epc : gc_pc p n k = p k := by unfold gc_pc; rw [if_pos hk]
  have epn : gc_pc p n (k + 1) = p (gc_nx n k) := rfl
  have hn : gc_nx n k < n := by unfold gc_nx; split <;> omega
  rw [epc] at i3 i4 i6
  have vP := hv k hk
  have vQ := hv _ hn
  have eE := he k hk
  have kP := hκ k hk
  have kQ := hκ _ hn
  unfold gc_I
  rw [epn]
  generalize hP : p k = P at *
  generalize hQ : p (gc_nx n k) = Q at *
  generalize ha : h P = a at *
  generalize hb : h Q = b at *
  have CP : a < 0 → P ≠ gv_C := fun z e => by rw [e] at ha; omega
  have CQ : b < 0 → Q ≠ gv_C := fun z e => by rw [e] at hb; omega
  have gP := gc_rr (gc_pos vP.1)
  -- what is pushed when P is inside
  have pushP : 0 ≤ a → gc_B E s (gc_fi E s (h (p 0)) (p 0)) (gc_ps st (gc_red P)) := by
    intro z
    refine gc_push iB ⟨gv_vk_rel gP (gc_vs vP.1 (by rw [← kP]; exact Int.mul_nonneg (Int.le_of_lt h0) z)), gv_bd_rel gP vP.2⟩ (fun l => gv_ed_r gP ((i4 l).1 z)) (fun l => ?_)
    rcases i3 l with q | q
    · have e0 : p 0 = P := by rw [q] at hP; exact hP
      rw [e0, ha]
      exact ⟨fun _ => ⟨_, gP⟩, fun y => absurd z (by omega)⟩
    · have az : a = 0 := by omega
      refine ⟨fun y => absurd y (by omega), fun _ => ga_z gP.1 ?_⟩
      rw [← gv_ev_rel s gP, ← kP, az, Int.mul_zero]
  by_cases ca : 0 ≤ a
  · have s3 : ∀ t', gc_s3 a b P Q t' = t' := fun t' => by unfold gc_s3; rw [if_neg (by omega)]
    have s1 : gc_s1 a b P Q st = gc_ps st (gc_red P) := by unfold gc_s1; rw [if_pos ca, gc_m1]
    have B1 := pushP ca
    by_cases cb : 0 < a ∧ b < 0
    · -- out over the side
      have s2 : gc_s2 a b P Q (gc_ps st (gc_red P)) = gc_ps (gc_ps st (gc_red P)) (gc_red (gv_mix P Q (-b) a)) := by unfold gc_s2; rw [if_pos cb]
      have vm := gv_vk_mix (a := -b) (b := a) (by omega) (by omega) vP.1 vQ.1
      have gM := gc_rr (gc_pos vm)
      have z0 : gv_ev E s (gv_mix P Q (-b) a) = 0 := by rw [gv_ev_mix, ← kP, ← kQ]; grind
      have z1 : gv_ev E s (gc_red (gv_mix P Q (-b) a)) = 0 := ga_z gM.1 (by rw [← gv_ev_rel s gM]; exact z0)
      have eN : gv_ed E (gc_red P) (gc_red (gv_mix P Q (-b) a)) := gv_ed_l gP (gv_ed_h (by omega) (by omega) gM (CQ cb.2) eE)
      have vN := gv_vk_rel gM (gc_vs vm (by omega))
      have nP : gv_ev E s P ≠ 0 := by rw [← kP]; exact Int.mul_ne_zero (by omega) (by omega)
      have bN := gb_new hE eE gM z1 nP vN.1 (gc_rp (gc_pos vm) gM)
      have B2 := gc_push B1 ⟨vN, bN⟩ (fun _ => by rw [gc_pl]; exact eN) (fun q => absurd q (Nat.succ_ne_zero _))
      unfold gc_st
      rw [s1, s2, s3]
      refine ⟨B2, fun q => absurd q (Nat.succ_ne_zero _), fun _ => ⟨fun q => absurd q (by omega), fun _ => by rw [gc_pl]; exact z1⟩, ?_, gc_kC i7 (fun e => ⟨st.1, ?_, ?_⟩) (fun i hi => ⟨?_, ?_⟩)⟩
      · show 2 * (st.1 + 1 + 1) + _ ≤ _
        unfold gc_ph at i6 ⊢
        rw [if_neg (by omega : ¬ a < 0)] at i6
        rw [if_pos cb.2]
        omega
      · show st.1 < st.1 + 1 + 1
        omega
      · rw [gc_po (show st.1 < st.1 + 1 by omega), gc_pe]
        rw [hP] at e
        rw [e] at gP ⊢
        exact gv_C_rel gP
      · show i < st.1 + 1 + 1
        omega
      · rw [gc_po (show i < st.1 + 1 by omega), gc_po hi]
    · have s2 : ∀ t', gc_s2 a b P Q t' = t' := fun t' => by unfold gc_s2; rw [if_neg cb]
      unfold gc_st
      rw [s1, s2, s3]
      refine ⟨B1, fun q => absurd q (Nat.succ_ne_zero _), fun _ => ⟨fun q => by rw [gc_pl]; exact gv_ed_l gP eE, fun q => ?_⟩, ?_, gc_kC i7 (fun e => ⟨st.1, ?_, ?_⟩) (fun i hi => ⟨?_, ?_⟩)⟩
      · rw [gc_pl]
        have az : a = 0 := by omega
        refine ga_z gP.1 ?_
        rw [← gv_ev_rel s gP, ← kP, az, Int.mul_zero]
      · show 2 * (st.1 + 1) + _ ≤ _
        unfold gc_ph at i6 ⊢
        rw [if_neg (by omega : ¬ a < 0)] at i6
        omega
      · show st.1 < st.1 + 1
        omega
      · rw [gc_pe]
        rw [hP] at e
        rw [e] at gP ⊢
        exact gv_C_rel gP
      · show i < st.1 + 1
        omega
      · rw [gc_po hi]
  · have s1 : gc_s1 a b P Q st = st := by unfold gc_s1; rw [if_neg ca]
    have s2 : gc_s2 a b P Q st = st := by unfold gc_s2; rw [if_neg (by omega)]
    by_cases cb : 0 < b
    · -- in over the side
      have s3 : gc_s3 a b P Q st = gc_ps st (gc_red (gv_mix P Q b (-a))) := by unfold gc_s3; rw [if_pos (by omega)]
      have vm := gv_vk_mix (a := b) (b := -a) (by omega) (by omega) vP.1 vQ.1
      have gM := gc_rr (gc_pos vm)
      have z0 : gv_ev E s (gv_mix P Q b (-a)) = 0 := by rw [gv_ev_mix, ← kP, ← kQ]; grind
      have z1 : gv_ev E s (gc_red (gv_mix P Q b (-a))) = 0 := ga_z gM.1 (by rw [← gv_ev_rel s gM]; exact z0)
      have vN := gv_vk_rel gM (gc_vs vm (by omega))
      have nP : gv_ev E s P ≠ 0 := by rw [← kP]; exact Int.mul_ne_zero (by omega) (by omega)
      have bN := gb_new hE eE gM z1 nP vN.1 (gc_rp (gc_pos vm) gM)
      have B2 := gc_push iB ⟨vN, bN⟩ (fun l => Or.inl ⟨s, hs, (i4 l).2 (by omega), z1⟩) (fun l => ⟨fun q => ?_, fun _ => z1⟩)
      · unfold gc_st
        rw [s1, s2, s3]
        refine ⟨B2, fun q => absurd q (Nat.succ_ne_zero _), fun _ => ⟨fun _ => by rw [gc_pl]; exact gv_ed_t (by omega) (by omega) gM (CP (by omega)) eE, fun q => absurd q (by omega)⟩, ?_, gc_kC i7 (fun e => absurd (hP ▸ e) (CP (by omega))) (fun i hi => ⟨?_, ?_⟩)⟩
        · show 2 * (st.1 + 1) + _ ≤ _
          unfold gc_ph at i6 ⊢
          rw [if_pos (by omega : a < 0)] at i6
          omega
        · show i < st.1 + 1
          omega
        · rw [gc_po hi]
      · rcases i3 l with y | y
        · have e0 : p 0 = P := by rw [y] at hP; exact hP
          rw [e0, ha] at q
          omega
        · omega
    · have s3 : gc_s3 a b P Q st = st := by unfold gc_s3; rw [if_neg (by omega)]
      unfold gc_st
      rw [s1, s2, s3]
      refine ⟨iB, fun l => Or.inr ⟨?_, by omega⟩, fun l => ⟨fun q => ?_, fun q => (i4 l).2 (by omega)⟩, ?_, gc_kC i7 (fun e => absurd (hP ▸ e) (CP (by omega))) (fun i hi => ⟨hi, rfl⟩)⟩
      · rcases i3 l with y | y
        · have e0 : p 0 = P := by rw [y] at hP; exact hP
          rw [e0, ha]; omega
        · exact y.1
      · have bz : b = 0 := by omega
        exact Or.inl ⟨s, hs, (i4 l).2 (by omega), by rw [← kQ, bz, Int.mul_zero]⟩
      · unfold gc_ph at i6 ⊢
        rw [if_pos (by omega : a < 0)] at i6
        omega
/-- a polygon that is clipped by sides below s -/
def gc_G (E : gv_P) (s : Nat) (p : Nat → gv_V) (n : Nat) : Prop := (∀ k, k < n → gv_vk E s (p k) ∧ gv_bd (p k)) ∧ (∀ k, k < n → gv_ed E (p k) (p (gc_nx n k))) ∧ (∃ c, c < n ∧ p c = gv_C)
theorem gc_all {E : gv_P} {s : Nat} {h : gv_V → Int} {p : Nat → gv_V} {n : Nat} {κ : Int} (hE : gv_ok E) (hs : s ≤ 5) (h0 : 0 < κ) (hκ : ∀ k, k < n → κ * h (p k) = gv_ev E s (p k)) (hG : gc_G E s p n) (hC : 0 ≤ h gv_C) : ∀ k, k ≤ n → gc_I E s h p n k (gc_cf h p n k) := by
  obtain ⟨hv, he, c, hc, _⟩ := hG
  intro k
  induction k with
  | zero =>
    intro _
    refine ⟨⟨fun i hi => absurd hi (Nat.not_lt_zero _), fun i hi => absurd hi (Nat.not_lt_zero _), fun q => absurd q (Nat.not_lt_zero _)⟩, fun _ => Or.inl rfl, fun q => absurd q (Nat.not_lt_zero _), ?_, fun c hc => absurd hc (Nat.not_lt_zero _)⟩
    show 2 * 0 + gc_ph (h (p 0)) ≤ 3 * 0 + gc_ph (h (p (if 0 < n then 0 else 0)))
    rw [if_pos (by omega)]
    omega
  | succ k ih =>
    intro hk
    exact gc_step hE hs h0 hκ hv he hC (by omega) (ih (by omega))
theorem gc_clip {E : gv_P} {s : Nat} {h : gv_V → Int} {p : Nat → gv_V} {n : Nat} {κ : Int} (hE : gv_ok E) (hs : s ≤ 5) (h0 : 0 < κ) (hκ : ∀ k, k < n → κ * h (p k) = gv_ev E s (p k)) (hG : gc_G E s p n) (hC : 0 ≤ h gv_C) : gc_G E (s + 1) (gc_cf h p n n).2 (gc_cf h p n n).1 ∧ 2 * (gc_cf h p n n).1 ≤ 3 * n := by
  obtain ⟨iB, i3, i4, i6, i7⟩ := gc_all hE hs h0 hκ hG hC n (Nat.le_refl n)
  obtain ⟨b1, b2, b3⟩ := iB
  have e0 : gc_pc p n n = p 0 := by unfold gc_pc; rw [if_neg (by omega)]
  rw [e0] at i3 i4 i6
  obtain ⟨c, hc, ec⟩ := hG.2.2
  obtain ⟨i, hi, ei⟩ := i7 c hc ec
  refine ⟨⟨b1, fun k hk => ?_, ⟨i, hi, ei⟩⟩, by omega⟩
  unfold gc_nx
  by_cases q : k + 1 < (gc_cf h p n n).1
  · rw [if_pos q]; exact b2 k q
  · rw [if_neg q]
    have l : 0 < (gc_cf h p n n).1 := by omega
    have ek : k = (gc_cf h p n n).1 - 1 := by omega
    rw [ek]
    have f := b3 l
    rcases ga_lg (h (p 0)) 0 with z | z
    · exact Or.inl ⟨s, hs, (i4 l).2 z, f.2 z⟩
    · obtain ⟨g, hg⟩ := f.1 z
      exact gv_ed_r hg ((i4 l).1 z)
theorem gc_hk {E : gv_P} {s : Nat} {v : gv_V} (hs : s ≤ 4) (hp : gv_pl E v) : (if s = 4 then E.2.1 else 1) * gc_h s v = gv_ev E s v := by
  simp only [gv_pl] at hp
  simp only [gc_h, gv_ev, gv_a, gv_b, gv_c]
  rcases (show s = 0 ∨ s = 1 ∨ s = 2 ∨ s = 3 ∨ s = 4 by omega) with q | q | q | q | q <;> subst q
  · simp; omega
  · simp; omega
  · simp; omega
  · simp; omega
  · simp; grind
theorem gc_side {E : gv_P} {s : Nat} {p : Nat → gv_V} {n : Nat} (hE : gv_ok E) (hs : s ≤ 4) (hG : gc_G E s p n) : gc_G E (s + 1) (gc_cf (gc_h s) p n n).2 (gc_cf (gc_h s) p n n).1 ∧ 2 * (gc_cf (gc_h s) p n n).1 ≤ 3 * n := by
  refine gc_clip (κ := if s = 4 then E.2.1 else 1) hE (by omega) ?_ (fun k hk => gc_hk hs (hG.1 k hk).1.1) hG ?_
  · have := hE.2.1
    split <;> omega
  · simp only [gc_h, gv_C]
    rcases (show s = 0 ∨ s = 1 ∨ s = 2 ∨ s = 3 ∨ s = 4 by omega) with q | q | q | q | q <;> subst q <;> decide
end
section
/-! the last side, and the rows of pixels -/
def gm_5 (h : gv_V → Int) (p : Nat → gv_V) (k : Nat) (st : Nat × (Nat → gv_V)) : Prop := st.1 ≤ k ∧ ∀ i, i < st.1 → ∃ c, c < k ∧ st.2 i = gc_red (p c) ∧ 0 ≤ h (p c)
theorem gm_5s {h : gv_V → Int} {p : Nat → gv_V} {n : Nat} (hn : ∀ k, k < n → ¬ (0 < h (p k) ∧ h (p (gc_nx n k)) < 0) ∧ ¬ (h (p k) < 0 ∧ 0 < h (p (gc_nx n k)))) : ∀ k, k ≤ n → gm_5 h p k (gc_cf h p n k) := by
  intro k
  induction k with
  | zero => exact fun _ => ⟨Nat.le_refl 0, fun i hi => absurd hi (Nat.not_lt_zero _)⟩
  | succ k ih =>
    intro hk
    obtain ⟨i1, i2⟩ := ih (by omega)
    obtain ⟨n1, n2⟩ := hn k (by omega)
    show gm_5 h p (k + 1) (gc_st (h (p k)) (h (p (gc_nx n k))) (p k) (p (gc_nx n k)) (gc_cf h p n k))
    unfold gc_st gc_s3 gc_s2
    rw [if_neg n2, if_neg n1]
    unfold gc_s1
    split
    · rename_i z
      rw [gc_m1]
      refine ⟨Nat.succ_le_succ i1, fun i hi => ?_⟩
      by_cases e : i = (gc_cf h p n k).1
      · rw [e, gc_pe]
        exact ⟨k, Nat.lt_succ_self k, rfl, z⟩
      · have hi' : i < (gc_cf h p n k).1 := by
          have : i < (gc_cf h p n k).1 + 1 := hi
          omega
        rw [gc_po hi']
        obtain ⟨c, hc, e2⟩ := i2 i hi'
        exact ⟨c, by omega, e2⟩
    · refine ⟨by omega, fun i hi => ?_⟩
      obtain ⟨c, hc, e2⟩ := i2 i hi
      exact ⟨c, by omega, e2⟩
theorem gm_5a {h : gv_V → Int} {p : Nat → gv_V} {n : Nat} (hn : ∀ k, k < n → 0 ≤ h (p k)) : ∀ k, k ≤ n → (gc_cf h p n k).1 = k ∧ ∀ i, i < k → (gc_cf h p n k).2 i = gc_red (p i) := by
  intro k
  induction k with
  | zero => exact fun _ => ⟨rfl, fun i hi => absurd hi (Nat.not_lt_zero _)⟩
  | succ k ih =>
    intro hk
    obtain ⟨i1, i2⟩ := ih (by omega)
    have hx : gc_nx n k < n := by unfold gc_nx; split <;> omega
    have n1 := hn k (by omega)
    have n2 := hn _ hx
    have e : gc_cf h p n (k + 1) = gc_ps (gc_cf h p n k) (gc_red (p k)) := by
      show gc_st (h (p k)) (h (p (gc_nx n k))) (p k) (p (gc_nx n k)) (gc_cf h p n k) = _
      unfold gc_st gc_s3 gc_s2 gc_s1
      rw [if_neg (by omega), if_neg (by omega), if_pos n1, gc_m1]
    rw [e]
    refine ⟨by show (gc_cf h p n k).1 + 1 = k + 1; omega, fun i hi => ?_⟩
    by_cases q : i = k
    · rw [q]
      have := gc_pe (st := gc_cf h p n k) (r := gc_red (p k))
      rw [i1] at this
      exact this
    · rw [gc_po (by omega)]
      exact i2 i (by omega)
theorem gm_h5 {E : gv_P} {v : gv_V} (hp : gv_pl E v) : E.2.1 * gc_h 5 v = (E.2.2.2.2 - E.2.2.2.1) * gv_la E v := by
  simp only [gv_pl] at hp
  simp only [gc_h, gv_la]
  simp
  grind
/-- side 5 keeps all -/
theorem gm_in {E : gv_P} {p : Nat → gv_V} {n : Nat} (hE : gv_ok E) (hz : E.2.2.2.1 ≤ E.2.2.2.2) (hG : gc_G E 5 p n) : gc_G E 5 (gc_cf (gc_h 5) p n n).2 (gc_cf (gc_h 5) p n n).1 ∧ (gc_cf (gc_h 5) p n n).1 = n := by
  obtain ⟨hv, he, c, hc, ec⟩ := hG
  have hm := hE.2.1
  obtain ⟨a1, a2⟩ := gm_5a (h := gc_h 5) (p := p) (n := n) (fun k hk => ga_nn (g := E.2.1) (by omega) (by
    rw [gm_h5 (hv k hk).1.1]
    exact Int.mul_nonneg (by omega) (hv k hk).1.2.1)) n (Nat.le_refl n)
  rw [a1]
  refine ⟨⟨fun k hk => ?_, fun k hk => ?_, ⟨c, hc, ?_⟩⟩, rfl⟩
  · rw [a2 k hk]
    have g := gc_rr (gc_pos (hv k hk).1)
    exact ⟨gv_vk_rel g (hv k hk).1, gv_bd_rel g (hv k hk).2⟩
  · have hx : gc_nx n k < n := by unfold gc_nx; split <;> omega
    rw [a2 k hk, a2 _ hx]
    exact gv_ed_l (gc_rr (gc_pos (hv k hk).1)) (gv_ed_r (gc_rr (gc_pos (hv _ hx).1)) (he k hk))
  · rw [a2 c hc, ec]
    have g := gc_rr (gc_pos (hv c hc).1)
    rw [ec] at g
    exact gv_C_rel g
/-- side 5 keeps the corners of row 0 alone -/
theorem gm_out {E : gv_P} {p : Nat → gv_V} {n : Nat} (hE : gv_ok E) (hz : E.2.2.2.2 < E.2.2.2.1) (hG : gc_G E 5 p n) : (gc_cf (gc_h 5) p n n).1 ≤ n ∧ ∀ i, i < (gc_cf (gc_h 5) p n n).1 → gv_vk E 5 ((gc_cf (gc_h 5) p n n).2 i) ∧ gv_bd ((gc_cf (gc_h 5) p n n).2 i) ∧ gv_la E ((gc_cf (gc_h 5) p n n).2 i) = 0 := by
  obtain ⟨hv, he, c, hc, ec⟩ := hG
  have hm := hE.2.1
  have K : ∀ k, k < n → gc_h 5 (p k) ≤ 0 := fun k hk => by
    have := ga_nn (g := E.2.1) (x := -(gc_h 5 (p k))) (by omega) (by
      rw [Int.mul_neg, gm_h5 (hv k hk).1.1, ← Int.neg_mul]
      exact Int.mul_nonneg (by omega) (hv k hk).1.2.1)
    omega
  obtain ⟨a1, a2⟩ := gm_5s (h := gc_h 5) (p := p) (n := n) (fun k hk => by
    have hx : gc_nx n k < n := by unfold gc_nx; split <;> omega
    have := K k hk
    have := K _ hx
    omega) n (Nat.le_refl n)
  refine ⟨a1, fun i hi => ?_⟩
  obtain ⟨d, hd, e, hz2⟩ := a2 i hi
  rw [e]
  have g := gc_rr (gc_pos (hv d hd).1)
  refine ⟨gv_vk_rel g (hv d hd).1, gv_bd_rel g (hv d hd).2, ga_z g.1 ?_⟩
  rw [← gv_la_rel g]
  have k0 : gc_h 5 (p d) = 0 := by
    have := K d hd
    omega
  have k1 := gm_h5 (hv d hd).1.1
  rw [k0, Int.mul_zero] at k1
  exact ga_z (g := E.2.2.2.1 - E.2.2.2.2) (by omega) (by grind)

def gm_f (py : Int) (v : gv_V) : Int := 16 * v.2.1 - py * v.2.2.2
/-- the row's line meets the edge from p on (its far end left out) at X / W -/
def gm_met (py : Int) (p p' : gv_V) (X W : Int) : Prop :=
  (gm_f py p = 0 ∧ X = p.1 ∧ W = p.2.2.2) ∨
  (gm_f py p < 0 ∧ 0 < gm_f py p' ∧ X = p.1 * gm_f py p' + p'.1 * (-(gm_f py p)) ∧ W = p.2.2.2 * gm_f py p' + p'.2.2.2 * (-(gm_f py p))) ∨
  (0 < gm_f py p ∧ gm_f py p' < 0 ∧ X = p.1 * (-(gm_f py p')) + p'.1 * gm_f py p ∧ W = p.2.2.2 * (-(gm_f py p')) + p'.2.2.2 * gm_f py p)
theorem gm_w {py X W : Int} {p p' : gv_V} (h : gm_met py p p' X W) : ∃ a b : Int, 0 < a ∧ 0 ≤ b ∧ X = p.1 * a + p'.1 * b ∧ W = p.2.2.2 * a + p'.2.2.2 * b ∧ 16 * (p.2.1 * a + p'.2.1 * b) = py * W := by
  rcases h with ⟨h1, h2, h3⟩ | ⟨h1, h2, h3, h4⟩ | ⟨h1, h2, h3, h4⟩
  · refine ⟨1, 0, by omega, by omega, by omega, by omega, ?_⟩
    rw [h3]
    unfold gm_f at h1
    omega
  · refine ⟨_, _, h2, by omega, h3, h4, ?_⟩
    rw [h4]
    unfold gm_f
    grind
  · refine ⟨_, _, (by omega : 0 < -(gm_f py p')), by omega, h3, h4, ?_⟩
    rw [h4]
    unfold gm_f
    grind
theorem gm_1 {A B D px py X W : Int} {p p' : gv_V} (h : gm_met py p p' X W) (hw : 0 < p.2.2.2) (hw' : 0 < p'.2.2.2) (l : 0 ≤ A * p.1 + B * p.2.1 + D * p.2.2.2) (l' : 0 ≤ A * p'.1 + B * p'.2.1 + D * p'.2.2.2) (hg : 0 ≤ -(A * (16 * X - px * W))) : 0 ≤ A * px + B * py + D * 16 := by
  obtain ⟨a, b, ha, hb, e1, e2, e3⟩ := gm_w h
  have W0 : 0 < W := by
    have u1 := Int.mul_pos hw ha
    have u2 := Int.mul_nonneg (Int.le_of_lt hw') hb
    omega
  have u1 := Int.mul_nonneg l (Int.le_of_lt ha)
  have u2 := Int.mul_nonneg l' hb
  apply ga_nn W0
  have e : W * (A * px + B * py + D * 16) = 16 * ((A * p.1 + B * p.2.1 + D * p.2.2.2) * a + (A * p'.1 + B * p'.2.1 + D * p'.2.2.2) * b) + -(A * (16 * X - px * W)) := by
    have e4 : B * (py * W) = B * (16 * (p.2.1 * a + p'.2.1 * b)) := by rw [e3]
    subst e1
    subst e2
    grind
  rw [e]
  omega
theorem gm_snd {A B D px py X1 W1 X2 W2 : Int} {p1 p1' p2 p2' : gv_V} (m1 : gm_met py p1 p1' X1 W1) (m2 : gm_met py p2 p2' X2 W2) (w1 : 0 < p1.2.2.2) (w1' : 0 < p1'.2.2.2) (w2 : 0 < p2.2.2.2) (w2' : 0 < p2'.2.2.2)
    (l1 : 0 ≤ A * p1.1 + B * p1.2.1 + D * p1.2.2.2) (l1' : 0 ≤ A * p1'.1 + B * p1'.2.1 + D * p1'.2.2.2) (l2 : 0 ≤ A * p2.1 + B * p2.2.1 + D * p2.2.2.2) (l2' : 0 ≤ A * p2'.1 + B * p2'.2.1 + D * p2'.2.2.2)
    (g1 : 16 * X1 - px * W1 ≤ 0) (g2 : 0 ≤ 16 * X2 - px * W2) : 0 ≤ A * px + B * py + D * 16 := by
  rcases ga_lg A 0 with z | z
  · refine gm_1 m2 w2 w2' l2 l2' ?_
    have := Int.mul_nonneg (show 0 ≤ -A by omega) g2
    rw [Int.neg_mul] at this
    exact this
  · refine gm_1 m1 w1 w1' l1 l1' ?_
    have := Int.mul_nonneg z (show 0 ≤ -(16 * X1 - px * W1) by omega)
    rw [Int.mul_neg] at this
    exact this
def gm_T (E : gv_P) (px py : Int) (v : gv_V) : Int := E.1 * (px * v.2.1 - py * v.1)
def gm_F (E : gv_P) (py : Int) (v : gv_V) : Int := E.1 * gm_f py v
theorem gm_mT (E : gv_P) (px py : Int) (v : gv_V) : E.2.1 * gm_T E px py v = gv_la E v * (E.2.1 * px - E.1 * E.2.2.1 * py) - gv_lb E v * (E.1 * py) := by
  simp only [gm_T, gv_la, gv_lb]; grind
/-- where the row's line runs over from one side to the other, seen along theta -/
theorem gm_up {E : gv_P} {px py : Int} {p p' : gv_V} (ht : E.1 = 1 ∨ E.1 = -1) (hp : 0 < E.1 * py) (h1 : gm_F E py p < 0) (h2 : 0 < gm_F E py p') (hT : 0 ≤ gm_F E py p' * gm_T E px py p - gm_F E py p * gm_T E px py p') : ∃ X W, gm_met py p p' X W ∧ 16 * X - px * W ≤ 0 := by
  have hm : gm_met py p p' (p.1 * gm_F E py p' + p'.1 * (-(gm_F E py p))) (p.2.2.2 * gm_F E py p' + p'.2.2.2 * (-(gm_F E py p))) := by
    rcases ht with q | q
    · simp only [gm_F, q, Int.one_mul] at *
      exact Or.inr (Or.inl ⟨h1, h2, rfl, rfl⟩)
    · simp only [gm_F, q] at *
      refine Or.inr (Or.inr ⟨by omega, by omega, ?_, ?_⟩) <;> grind
  refine ⟨_, _, hm, ?_⟩
  have k : 0 ≤ (E.1 * py) * -(16 * (p.1 * gm_F E py p' + p'.1 * (-(gm_F E py p))) - px * (p.2.2.2 * gm_F E py p' + p'.2.2.2 * (-(gm_F E py p)))) := by
    have e : (E.1 * py) * -(16 * (p.1 * gm_F E py p' + p'.1 * (-(gm_F E py p))) - px * (p.2.2.2 * gm_F E py p' + p'.2.2.2 * (-(gm_F E py p)))) = 16 * (gm_F E py p' * gm_T E px py p - gm_F E py p * gm_T E px py p') := by
      simp only [gm_F, gm_f, gm_T]; grind
    rw [e]
    omega
  have := ga_nn hp k
  omega
theorem gm_dn {E : gv_P} {px py : Int} {p p' : gv_V} (ht : E.1 = 1 ∨ E.1 = -1) (hp : 0 < E.1 * py) (h1 : 0 < gm_F E py p) (h2 : gm_F E py p' < 0) (hT : -(gm_F E py p') * gm_T E px py p + gm_F E py p * gm_T E px py p' ≤ 0) : ∃ X W, gm_met py p p' X W ∧ 0 ≤ 16 * X - px * W := by
  have hm : gm_met py p p' (p.1 * (-(gm_F E py p')) + p'.1 * gm_F E py p) (p.2.2.2 * (-(gm_F E py p')) + p'.2.2.2 * gm_F E py p) := by
    rcases ht with q | q
    · simp only [gm_F, q, Int.one_mul] at *
      exact Or.inr (Or.inr ⟨h1, h2, rfl, rfl⟩)
    · simp only [gm_F, q] at *
      refine Or.inr (Or.inl ⟨by omega, by omega, ?_, ?_⟩) <;> grind
  refine ⟨_, _, hm, ?_⟩
  apply ga_nn hp
  have e : (E.1 * py) * (16 * (p.1 * (-(gm_F E py p')) + p'.1 * gm_F E py p) - px * (p.2.2.2 * (-(gm_F E py p')) + p'.2.2.2 * gm_F E py p)) = -(16 * (-(gm_F E py p') * gm_T E px py p + gm_F E py p * gm_T E px py p')) := by
    simp only [gm_F, gm_f, gm_T]; grind
  rw [e]
  omega
theorem gm_ze {E : gv_P} {px py : Int} {p p' : gv_V} (ht : E.1 = 1 ∨ E.1 = -1) (h1 : gm_F E py p = 0) : gm_met py p p' p.1 p.2.2.2 ∧ (E.1 * py) * (16 * p.1 - px * p.2.2.2) = -(16 * gm_T E px py p) := by
  have h0 : gm_f py p = 0 := by
    unfold gm_F at h1
    rcases ht with q | q
    · rw [q] at h1; omega
    · rw [q] at h1; omega
  refine ⟨Or.inl ⟨h0, rfl, rfl⟩, ?_⟩
  simp only [gm_f] at h0
  simp only [gm_T]
  grind
/-- the edge over the ray from C through the pixel: the pixel lies on C's side -/
theorem gm_e {E : gv_P} {px py : Int} {p p' : gv_V} (hE : gv_ok E) {i : Nat} (l : gv_ev E i p = 0) (l' : gv_ev E i p' = 0) (hQ : 0 ≤ gv_a E i * px + gv_b E i * py + gv_c E i * 16) (a1 : 0 ≤ gv_la E p) (a2 : 0 ≤ gv_la E p') (t1 : 0 ≤ gm_T E px py p) (t2 : gm_T E px py p' < 0) : 0 ≤ gm_F E py p' * gm_T E px py p - gm_F E py p * gm_T E px py p' := by
  have hc := (gb_co hE i).2.2.1
  apply ga_nn hc
  have hy : 0 ≤ gv_la E p' * gm_T E px py p + gv_la E p * -(gm_T E px py p') := Int.add_nonneg (Int.mul_nonneg a2 t1) (Int.mul_nonneg a1 (by omega))
  have hm := Int.mul_nonneg hQ hy
  have e : gv_c E i * (gm_F E py p' * gm_T E px py p - gm_F E py p * gm_T E px py p') = (gv_a E i * px + gv_b E i * py + gv_c E i * 16) * (gv_la E p' * gm_T E px py p + gv_la E p * -(gm_T E px py p')) := by
    simp only [gv_ev] at l l'
    simp only [gm_F, gm_f, gm_T, gv_la]
    generalize gv_a E i = a at *
    generalize gv_b E i = b at *
    generalize gv_c E i = c at *
    obtain ⟨x, y, z, w⟩ := p
    obtain ⟨x', y', z', w'⟩ := p'
    obtain ⟨t, m, ax, az, aw⟩ := E
    simp only at *
    have e1 : c * w = -(a * x + b * y) := by omega
    have e2 : c * w' = -(a * x' + b * y') := by omega
    grind
  rw [e]
  exact hm
theorem gm_ln {E : gv_P} {px py : Int} {p p' : gv_V} (hE : gv_ok E) (hb : 0 ≤ E.2.1 * px - E.1 * E.2.2.1 * py) (he : gv_ed E p p') (t2 : gm_T E px py p' < 0) : ∃ i, i ≤ 5 ∧ gv_ev E i p = 0 ∧ gv_ev E i p' = 0 := by
  rcases he with h | ⟨e1, e2, e3⟩ | ⟨e1, e2, e3⟩
  · exact h
  · have k := gm_mT E px py p'
    rw [e2, Int.zero_mul, Int.sub_zero] at k
    have k2 := Int.mul_nonneg (Int.le_of_lt e3) hb
    rw [← k] at k2
    have := ga_nn (by have := hE.2.1; omega) k2
    omega
  · rw [e1] at t2
    simp only [gm_T, gv_C] at t2
    omega
end
section
/-! the pixels of a row between its crossings are those of the region -/
theorem gp_pn {x y : Int} (h1 : 0 ≤ x) (h2 : y ≤ 0) : x * y ≤ 0 := by
  have := Int.mul_nonneg h1 (show 0 ≤ -y by omega)
  rw [Int.mul_neg] at this
  omega
theorem gp_nn {x y : Int} (h1 : x < 0) (h2 : y < 0) : 0 < x * y := by
  have := Int.mul_pos (show 0 < -x by omega) (show 0 < -y by omega)
  rw [Int.neg_mul_neg] at this
  exact this
theorem gp_np {x y : Int} (h1 : x ≤ 0) (h2 : 0 ≤ y) : x * y ≤ 0 := by
  rw [Int.mul_comm]
  exact gp_pn h2 h1
def gp_Q (E : gv_P) (px py : Int) : Prop := 0 < E.1 * py ∧ 0 ≤ E.2.1 * px - E.1 * E.2.2.1 * py ∧ ∀ i, i ≤ 5 → 0 ≤ gv_a E i * px + gv_b E i * py + gv_c E i * 16
theorem gp_TC (E : gv_P) (px py : Int) : gm_T E px py gv_C = 0 := by simp only [gm_T, gv_C]; omega
theorem gp_FC (E : gv_P) (py : Int) : gm_F E py gv_C = -(E.1 * py) := by simp only [gm_F, gm_f, gv_C]; grind
theorem gp_tl {E : gv_P} {px py : Int} {p : gv_V} (hE : gv_ok E) (hp : 0 < E.1 * py) (he : gv_ed E p gv_C) : gm_T E px py p < 0 := by
  rcases he with ⟨i, hi, e1, e2⟩ | ⟨e1, e2, e3⟩ | ⟨e1, e2, e3⟩
  · rw [gv_ev_C] at e2
    have := (gb_co hE i).2.2.1
    omega
  · rw [gv_la_C] at e3
    omega
  · have k := gm_mT E px py p
    rw [e2, Int.zero_mul] at k
    have k2 := Int.mul_pos e3 hp
    have k3 := ga_pp (g := E.2.1) (x := -(gm_T E px py p)) (by have := hE.2.1; omega) (by rw [Int.mul_neg, k]; omega)
    omega
theorem gp_L {E : gv_P} {b : Nat → gv_V} {n : Nat} {px py : Int} (hE : gv_ok E) (hv : ∀ i, i ≤ n → 0 ≤ gv_la E (b i)) (he : ∀ i, i < n → gv_ed E (b i) (b (i + 1))) (b0 : b 0 = gv_C) (bn : b n = gv_C) (hn : 0 < n) (hQ : gp_Q E px py) : ∃ i, i < n ∧ ∃ X W, gm_met py (b i) (b (i + 1)) X W ∧ 16 * X - px * W ≤ 0 := by
  obtain ⟨hp, hb, hl⟩ := hQ
  have ht := hE.1
  have tl : gm_T E px py (b (n - 1)) < 0 := by
    have := he (n - 1) (by omega)
    rw [show n - 1 + 1 = n by omega, bn] at this
    exact gp_tl hE hp this
  obtain ⟨I, hI, hm⟩ := pk_least (fun i => gm_T E px py (b i) < 0) ⟨n - 1, tl⟩
  have hI0 : I ≠ 0 := by
    intro e
    rw [e, b0, gp_TC] at hI
    omega
  have hIn : I ≤ n - 1 := by
    rcases Nat.lt_or_ge (n - 1) I with z | z
    · exact absurd tl (hm _ z)
    · exact z
  have tp : ∀ j, j < I → 0 ≤ gm_T E px py (b j) := fun j hj => by
    have := hm j hj
    omega
  by_cases hF : ∃ i, i < I ∧ 0 ≤ gm_F E py (b i)
  · obtain ⟨i, ⟨hi, f1⟩, hj⟩ := pk_least (fun i => i < I ∧ 0 ≤ gm_F E py (b i)) hF
    have i0 : i ≠ 0 := by
      intro e
      rw [e, b0, gp_FC] at f1
      omega
    have f0 : gm_F E py (b (i - 1)) < 0 := by
      have := hj (i - 1) (by omega)
      rcases ga_lg (gm_F E py (b (i - 1))) 0 with z | z
      · exact z
      · exact absurd ⟨by omega, z⟩ this
    rcases ga_lg 0 (gm_F E py (b i)) with z | z
    · refine ⟨i - 1, by omega, ?_⟩
      rw [show i - 1 + 1 = i by omega]
      refine gm_up ht hp f0 z ?_
      have u1 := Int.mul_nonneg f1 (tp (i - 1) (by omega))
      have u2 := gp_np (Int.le_of_lt f0) (tp i hi)
      omega
    · have fz : gm_F E py (b i) = 0 := by omega
      obtain ⟨k1, k2⟩ := gm_ze (px := px) (p' := b (i + 1)) ht fz
      refine ⟨i, by omega, _, _, k1, ?_⟩
      have := ga_nn (g := E.1 * py) (x := -(16 * (b i).1 - px * (b i).2.2.2)) hp (by rw [Int.mul_neg, k2]; have := tp i hi; omega)
      omega
  · have f0 : gm_F E py (b (I - 1)) < 0 := by
      rcases ga_lg (gm_F E py (b (I - 1))) 0 with z | z
      · exact z
      · exact absurd ⟨I - 1, by omega, z⟩ hF
    have ee := he (I - 1) (by omega)
    rw [show I - 1 + 1 = I by omega] at ee
    obtain ⟨l, hl5, l1, l2⟩ := gm_ln hE hb ee hI
    have k := gm_e hE l1 l2 (hl l hl5) (hv _ (by omega)) (hv _ (by omega)) (tp (I - 1) (by omega)) hI
    have u1 := gp_nn f0 hI
    have u2 : 0 < gm_F E py (b I) := by
      have u3 : 0 < gm_T E px py (b (I - 1)) * gm_F E py (b I) := by rw [Int.mul_comm]; omega
      rcases ga_lg 0 (gm_F E py (b I)) with z | z
      · exact z
      · have := gp_pn (tp (I - 1) (by omega)) z
        omega
    refine ⟨I - 1, by omega, ?_⟩
    rw [show I - 1 + 1 = I by omega]
    exact gm_up ht hp f0 u2 k
theorem gp_R {E : gv_P} {b : Nat → gv_V} {n : Nat} {px py : Int} (hE : gv_ok E) (hv : ∀ i, i ≤ n → 0 ≤ gv_la E (b i)) (he : ∀ i, i < n → gv_ed E (b i) (b (i + 1))) (b0 : b 0 = gv_C) (bn : b n = gv_C) (hn : 0 < n) (hQ : gp_Q E px py) : ∃ i, i < n ∧ ∃ X W, gm_met py (b i) (b (i + 1)) X W ∧ 0 ≤ 16 * X - px * W := by
  obtain ⟨hp, hb, hl⟩ := hQ
  have ht := hE.1
  have tl : gm_T E px py (b (n - 1)) < 0 := by
    have := he (n - 1) (by omega)
    rw [show n - 1 + 1 = n by omega, bn] at this
    exact gp_tl hE hp this
  have tz : 0 ≤ gm_T E px py (b (n - 1 - (n - 1))) := by
    rw [show n - 1 - (n - 1) = 0 by omega, b0, gp_TC]
    omega
  obtain ⟨J, hJ, hm⟩ := pk_least (fun j => 0 ≤ gm_T E px py (b (n - 1 - j))) ⟨n - 1, tz⟩
  have hJ0 : J ≠ 0 := by
    intro e
    rw [e, Nat.sub_zero] at hJ
    omega
  have hJn : J ≤ n - 1 := by
    rcases Nat.lt_or_ge (n - 1) J with z | z
    · exact absurd tz (hm _ z)
    · exact z
  have tn : ∀ i, n - 1 - J < i → i ≤ n → gm_T E px py (b i) ≤ 0 := fun i h1 h2 => by
    by_cases e : i = n
    · rw [e, bn, gp_TC]
      omega
    · have := hm (n - 1 - i) (by omega)
      rw [show n - 1 - (n - 1 - i) = i by omega] at this
      omega
  by_cases hF : ∃ j, j < J ∧ 0 ≤ gm_F E py (b (n - 1 - j))
  · obtain ⟨K, ⟨hK, f1⟩, hj⟩ := pk_least (fun j => j < J ∧ 0 ≤ gm_F E py (b (n - 1 - j))) hF
    have f0 : gm_F E py (b (n - 1 - K + 1)) < 0 := by
      by_cases e : K = 0
      · rw [e, show n - 1 - 0 + 1 = n by omega, bn, gp_FC]
        omega
      · have := hj (K - 1) (by omega)
        rw [show n - 1 - (K - 1) = n - 1 - K + 1 by omega] at this
        rcases ga_lg (gm_F E py (b (n - 1 - K + 1))) 0 with z | z
        · exact z
        · exact absurd ⟨by omega, z⟩ this
    have t0 := tn (n - 1 - K) (by omega) (by omega)
    have t1 := tn (n - 1 - K + 1) (by omega) (by omega)
    refine ⟨n - 1 - K, by omega, ?_⟩
    rcases ga_lg 0 (gm_F E py (b (n - 1 - K))) with z | z
    · refine gm_dn ht hp z f0 ?_
      have u1 := gp_pn (show 0 ≤ -(gm_F E py (b (n - 1 - K + 1))) by omega) t0
      have u2 := gp_pn (Int.le_of_lt z) t1
      omega
    · have fz : gm_F E py (b (n - 1 - K)) = 0 := by omega
      obtain ⟨k1, k2⟩ := gm_ze (px := px) (p' := b (n - 1 - K + 1)) ht fz
      refine ⟨_, _, k1, ga_nn hp ?_⟩
      rw [k2]
      omega
  · have I1 : n - 1 - J + 1 = n - 1 - (J - 1) := by omega
    have f0 : gm_F E py (b (n - 1 - J + 1)) < 0 := by
      rcases ga_lg (gm_F E py (b (n - 1 - J + 1))) 0 with z | z
      · exact z
      · exact absurd ⟨J - 1, by omega, by rw [← I1]; exact z⟩ hF
    have t1 : gm_T E px py (b (n - 1 - J + 1)) < 0 := by
      have := hm (J - 1) (by omega)
      rw [← I1] at this
      omega
    have ee := he (n - 1 - J) (by omega)
    obtain ⟨l, hl5, l1, l2⟩ := gm_ln hE hb ee t1
    have k := gm_e hE l1 l2 (hl l hl5) (hv _ (by omega)) (hv _ (by omega)) hJ t1
    have u1 := gp_np (Int.le_of_lt f0) hJ
    have u2 : 0 ≤ gm_F E py (b (n - 1 - J)) := by
      apply ga_nn (g := -(gm_T E px py (b (n - 1 - J + 1)))) (by omega)
      rw [Int.neg_mul, Int.mul_comm]
      omega
    refine ⟨n - 1 - J, by omega, ?_⟩
    rcases ga_lg 0 (gm_F E py (b (n - 1 - J))) with z | z
    · refine gm_dn ht hp z f0 ?_
      rw [Int.neg_mul]
      omega
    · have fz : gm_F E py (b (n - 1 - J)) = 0 := by omega
      obtain ⟨k1, k2⟩ := gm_ze (px := px) (p' := b (n - 1 - J + 1)) ht fz
      refine ⟨_, _, k1, ga_nn hp ?_⟩
      rw [k2]
      rw [fz, Int.zero_mul] at k
      have tz2 : gm_T E px py (b (n - 1 - J)) = 0 := by
        rcases ga_lg 0 (gm_T E px py (b (n - 1 - J))) with y | y
        · have := Int.mul_pos (show 0 < -(gm_F E py (b (n - 1 - J + 1))) by omega) y
          rw [Int.neg_mul] at this
          omega
        · omega
      omega
theorem gp_md {n k : Nat} (h : k < n) : (k + 1) % n = gc_nx n k := by
  unfold gc_nx
  split
  · exact Nat.mod_eq_of_lt (by assumption)
  · rw [show k + 1 = n by omega, Nat.mod_self]
def gp_lo (px py : Int) (q : Nat → gv_V) (n : Nat) : Prop := ∃ k, k < n ∧ ∃ X W, gm_met py (q k) (q (gc_nx n k)) X W ∧ 16 * X - px * W ≤ 0
def gp_hi (px py : Int) (q : Nat → gv_V) (n : Nat) : Prop := ∃ k, k < n ∧ ∃ X W, gm_met py (q k) (q (gc_nx n k)) X W ∧ 0 ≤ 16 * X - px * W
theorem gp_cmp {E : gv_P} {q : Nat → gv_V} {n : Nat} {px py : Int} (hE : gv_ok E) (hG : gc_G E 5 q n) (hQ : gp_Q E px py) : gp_lo px py q n ∧ gp_hi px py q n := by
  obtain ⟨hv, he, c, hc, ec⟩ := hG
  have hn : 0 < n := by omega
  have B0 : (fun i => q ((c + i) % n)) 0 = gv_C := by
    show q ((c + 0) % n) = gv_C
    rw [Nat.add_zero, Nat.mod_eq_of_lt hc, ec]
  have Bn : (fun i => q ((c + i) % n)) n = gv_C := by
    show q ((c + n) % n) = gv_C
    rw [Nat.add_mod_right, Nat.mod_eq_of_lt hc, ec]
  have nx : ∀ i, (c + (i + 1)) % n = gc_nx n ((c + i) % n) := fun i => by
    rw [← gp_md (Nat.mod_lt _ hn), Nat.mod_add_mod]
    rfl
  have Be : ∀ i, i < n → gv_ed E ((fun i => q ((c + i) % n)) i) ((fun i => q ((c + i) % n)) (i + 1)) := fun i hi => by
    show gv_ed E (q ((c + i) % n)) (q ((c + (i + 1)) % n))
    rw [nx]
    exact he _ (Nat.mod_lt _ hn)
  have Bv : ∀ i, i ≤ n → 0 ≤ gv_la E ((fun i => q ((c + i) % n)) i) := fun i hi => (hv _ (Nat.mod_lt _ hn)).1.2.1
  constructor
  · obtain ⟨i, hi, X, W, h1, h2⟩ := gp_L hE Bv Be B0 Bn hn hQ
    refine ⟨(c + i) % n, Nat.mod_lt _ hn, X, W, ?_, h2⟩
    rw [← nx]
    exact h1
  · obtain ⟨i, hi, X, W, h1, h2⟩ := gp_R hE Bv Be B0 Bn hn hQ
    refine ⟨(c + i) % n, Nat.mod_lt _ hn, X, W, ?_, h2⟩
    rw [← nx]
    exact h1
/-- the region's pixels, as the law says them -/
def gp_in (E : gv_P) (px py : Int) : Prop := 0 ≤ E.1 * py ∧ 0 ≤ E.2.1 * px - E.1 * E.2.2.1 * py ∧ 0 ≤ -E.2.1 * px + E.1 * (E.2.2.1 - 4 * E.2.2.2.2) * py + 4 * E.2.1 * 16 ∧ 0 ≤ E.1 * (E.2.2.2.1 - E.2.2.2.2) * py + E.2.1 * 16 ∧ E.1 * (E.2.2.2.1 - E.2.2.2.2) * py ≤ 0
/-- corners behind the first four sides -/
def gp_wx (v : gv_V) : Prop := 0 < v.2.2.2 ∧ v.2.2.2 ≤ 1048576 ∧ -v.2.2.2 ≤ v.1 ∧ v.1 ≤ v.2.2.2 ∧ -1048576 ≤ v.2.1 ∧ v.2.1 ≤ 1048576
theorem gp_vx {E : gv_P} {v : gv_V} (h : gv_vk E 5 v) (hb : gv_bd v) : gp_wx v := by
  obtain ⟨k1, k2, k3, k4, k5, k6⟩ := h
  have s0 := k6 0 (by omega)
  have s1 := k6 1 (by omega)
  have s2 := k6 2 (by omega)
  have s3 := k6 3 (by omega)
  simp [gv_ev, gv_a, gv_b, gv_c] at s0 s1 s2 s3
  have w0 : v.2.2.2 ≠ 0 := by
    intro e
    have e1 : v.1 = 0 := by omega
    have e2 : v.2.1 = 0 := by omega
    simp only [gv_la, gv_lb, gv_ev, e, e1, e2, Int.mul_zero] at k5
    omega
  obtain ⟨b1, b2, b3, b4⟩ := hb
  refine ⟨?_, ?_, ?_, ?_, ?_, ?_⟩ <;> omega
theorem gp_snd {E : gv_P} {q : Nat → gv_V} {n : Nat} {px py : Int} (hv : ∀ k, k < n → gv_vk E 5 (q k) ∧ gv_bd (q k)) (h1 : gp_lo px py q n) (h2 : gp_hi px py q n) : 0 ≤ E.1 * py ∧ 0 ≤ E.2.1 * px - E.1 * E.2.2.1 * py ∧ ∀ i, i ≤ 5 → 0 ≤ gv_a E i * px + gv_b E i * py + gv_c E i * 16 := by
  obtain ⟨k, hk, X, W, m1, g1⟩ := h1
  obtain ⟨l, hl, Y, U, m2, g2⟩ := h2
  have hx : ∀ k, k < n → gc_nx n k < n := fun k hk => by unfold gc_nx; split <;> omega
  have w : ∀ k, k < n → 0 < (q k).2.2.2 := fun k hk => (gp_vx (hv k hk).1 (hv k hk).2).1
  have S : ∀ A B D : Int, (∀ k, k < n → 0 ≤ A * (q k).1 + B * (q k).2.1 + D * (q k).2.2.2) → 0 ≤ A * px + B * py + D * 16 := fun A B D hl2 =>
    gm_snd m1 m2 (w k hk) (w _ (hx k hk)) (w l hl) (w _ (hx l hl)) (hl2 k hk) (hl2 _ (hx k hk)) (hl2 l hl) (hl2 _ (hx l hl)) g1 g2
  refine ⟨?_, ?_, fun i hi => ?_⟩
  · have := S 0 E.1 0 (fun k hk => by
      have := (hv k hk).1.2.1
      unfold gv_la at this
      omega)
    omega
  · have := S E.2.1 (-(E.1 * E.2.2.1)) 0 (fun k hk => by
      have := (hv k hk).1.2.2.1
      unfold gv_lb at this
      rw [Int.neg_mul]
      omega)
    rw [Int.neg_mul] at this
    omega
  · refine S _ _ _ (fun k hk => ?_)
    by_cases e : i = 5
    · rw [e]
      exact (hv k hk).1.2.2.2.1
    · exact (hv k hk).1.2.2.2.2.2 i (by omega)
theorem gp_iff {E : gv_P} {q : Nat → gv_V} {n : Nat} {px py : Int} (hE : gv_ok E) (hz : E.2.2.2.1 ≤ E.2.2.2.2) (hG : gc_G E 5 q n) (h1 : -15 ≤ px) (h2 : px ≤ 15) (h3 : -15 ≤ py) (h4 : py ≤ 15) (h5 : py ≠ 0) : (gp_lo px py q n ∧ gp_hi px py q n) ↔ gp_in E px py := by
  constructor
  · intro h
    obtain ⟨k1, k2, k3⟩ := gp_snd hG.1 h.1 h.2
    have l5 := k3 5 (by omega)
    have l4 := k3 4 (by omega)
    simp [gv_a, gv_b, gv_c] at l5 l4
    refine ⟨k1, k2, l5, l4, ?_⟩
    have := gp_np (show E.2.2.2.1 - E.2.2.2.2 ≤ 0 by omega) k1
    have e : (E.2.2.2.1 - E.2.2.2.2) * (E.1 * py) = E.1 * (E.2.2.2.1 - E.2.2.2.2) * py := by grind
    omega
  · intro h
    obtain ⟨k1, k2, k3, k4, k5⟩ := h
    refine gp_cmp hE hG ⟨?_, k2, fun i hi => ?_⟩
    · rcases hE.1 with t | t
      · rw [t] at k1 ⊢
        omega
      · rw [t] at k1 ⊢
        omega
    · rcases (show i = 0 ∨ i = 1 ∨ i = 2 ∨ i = 3 ∨ i = 4 ∨ i = 5 by omega) with z | z | z | z | z | z <;> subst z <;> simp [gv_a, gv_b, gv_c]
      · omega
      · omega
      · omega
      · omega
      · exact k4
      · exact k3
theorem gp_no {E : gv_P} {q : Nat → gv_V} {n : Nat} {px py : Int} (hE : gv_ok E) (hz : E.2.2.2.2 < E.2.2.2.1) (hv : ∀ i, i < n → gv_vk E 5 (q i) ∧ gv_bd (q i) ∧ gv_la E (q i) = 0) (h5 : py ≠ 0) : (gp_lo px py q n ∧ gp_hi px py q n) ↔ gp_in E px py := by
  constructor
  · intro h
    obtain ⟨⟨k, hk, X, W, m1, _⟩, _⟩ := h
    have hx : gc_nx n k < n := by unfold gc_nx; split <;> omega
    have y : ∀ i, i < n → gm_f py (q i) = -(py * (q i).2.2.2) ∧ 0 < (q i).2.2.2 := fun i hi => by
      obtain ⟨u1, u2, u3⟩ := hv i hi
      have y0 : (q i).2.1 = 0 := by
        unfold gv_la at u3
        rcases hE.1 with t | t
        · rw [t] at u3
          omega
        · rw [t] at u3
          omega
      refine ⟨?_, (gp_vx u1 u2).1⟩
      unfold gm_f
      rw [y0]
      omega
    obtain ⟨a1, a2⟩ := y k hk
    obtain ⟨c1, c2⟩ := y _ hx
    exfalso
    rcases ga_lg py 0 with z | z
    · have d1 := Int.mul_pos (show 0 < -py by omega) a2
      have d2 := Int.mul_pos (show 0 < -py by omega) c2
      rw [Int.neg_mul] at d1 d2
      rcases m1 with ⟨e1, _⟩ | ⟨e1, e2, _⟩ | ⟨e1, e2, _⟩ <;> omega
    · have d1 := Int.mul_pos (show 0 < py by omega) a2
      have d2 := Int.mul_pos (show 0 < py by omega) c2
      rcases m1 with ⟨e1, _⟩ | ⟨e1, e2, _⟩ | ⟨e1, e2, _⟩ <;> omega
  · intro h
    obtain ⟨k1, k2, k3, k4, k5⟩ := h
    exfalso
    have p1 : 0 < E.1 * py := by
      rcases hE.1 with t | t
      · rw [t] at k1 ⊢
        omega
      · rw [t] at k1 ⊢
        omega
    have := Int.mul_pos (show 0 < E.2.2.2.1 - E.2.2.2.2 by omega) p1
    have e : (E.2.2.2.1 - E.2.2.2.2) * (E.1 * py) = E.1 * (E.2.2.2.1 - E.2.2.2.2) * py := by grind
    omega
end
section
/-! divisor, inside, keep -/
def gk_p (a b c d : Nat → Int64) (k : Nat) : gv_V := ((a k).toInt, (b k).toInt, (c k).toInt, (d k).toInt)
def gk_O (a b c d : Nat → Int64) (st : Nat × (Nat → gv_V)) : Prop := ∀ i, i < st.1 → gk_p a b c d i = st.2 i
theorem gk_of {a : Int64} {n : Nat} (h : a.toInt = (n : Int)) (hn : n < 2 ^ 63) : a = lN n := by
  apply Int64.toInt_inj.mp
  rw [h, pk_lT hn]
theorem gk_d0 {post : Int64 → Prop} {n a k : Nat} (h : post (lN a)) : wX_divisor_31 post (n + 1) (lN a) (lN 0) (nI k) :=
  br_c (fun _ => h) (fun _ => br_t rfl h)
theorem gk_d1 {post : Int64 → Prop} {n a b k : Nat} (hk : k < 100) (ha : a < 2 ^ 63) (hb : b < 2 ^ 63) (h0 : b ≠ 0) (h : wX_divisor_31 post n (lN b) (lN (a % b)) (nI (k + 1))) : wX_divisor_31 post (n + 1) (lN a) (lN b) (nI k) := by
  have hz : ¬ lN b = 0 := fun e => h0 ((pk_lEQ hb (by decide)).mp (show lN b = lN 0 from e))
  exact br_f (nI_ge (b := 100) hk (by decide)) (br_f hz ⟨hz, nm_r (pk_lRem ha (by omega) hb) (nm_r (nI_1 k) h)⟩)
theorem gk_gs (a b : Nat) : Nat.gcd a b = Nat.gcd b (a % b) := by
  rw [Nat.gcd_comm a b, Nat.gcd_rec b a, Nat.gcd_comm]
theorem gk_dv {post : Int64 → Prop} : ∀ (c a b k n : Nat), b < 2 ^ c → k + 2 * c ≤ 100 → 2 * c < n → a < 2 ^ 63 → b < 2 ^ 63 → post (lN (Nat.gcd a b)) → wX_divisor_31 post n (lN a) (lN b) (nI k) := by
  intro c
  induction c with
  | zero =>
    intro a b k n hb _ hn _ _ hp
    have b0 : b = 0 := by omega
    subst b0
    obtain ⟨n', rfl⟩ : ∃ n', n = n' + 1 := ⟨n - 1, by omega⟩
    rw [Nat.gcd_zero_right] at hp
    exact gk_d0 hp
  | succ c ih =>
    intro a b k n hb hk hn ha hb2 hp
    obtain ⟨n', rfl⟩ : ∃ n', n = n' + 2 := ⟨n - 2, by omega⟩
    by_cases b0 : b = 0
    · subst b0
      rw [Nat.gcd_zero_right] at hp
      exact gk_d0 hp
    · rw [gk_gs] at hp
      have hr : a % b < b := Nat.mod_lt _ (by omega)
      refine gk_d1 (by omega) ha hb2 b0 ?_
      by_cases r0 : a % b = 0
      · rw [r0] at hp ⊢
        rw [Nat.gcd_zero_right] at hp
        exact gk_d0 hp
      · rw [gk_gs] at hp
        have hr2 : b % (a % b) < a % b := Nat.mod_lt _ (by omega)
        refine gk_d1 (by omega) hb2 (by omega) r0 (ih _ _ _ _ ?_ (by omega) (by omega) (by omega) (by omega) hp)
        have hh : b % (a % b) ≤ b / 2 := by
          rcases Nat.lt_or_ge (b / 2) (a % b) with z | z
          · rw [Nat.mod_eq_sub_mod (by omega), Nat.mod_eq_of_lt (by omega)]
            omega
          · omega
        have : 2 ^ (c + 1) = 2 * 2 ^ c := by rw [Nat.pow_succ]; omega
        omega
/-- the divisor of two longs -/
theorem gk_div {post : Int64 → Prop} {p q : Int64} {x y : Int} (hp : p.toInt = x) (hq : q.toInt = y) (x1 : -8796093022207 ≤ x) (x2 : x ≤ 8796093022207) (y1 : -8796093022207 ≤ y) (y2 : y ≤ 8796093022207) (h : post (lN (Nat.gcd x.natAbs y.natAbs))) : wpX_divisor post () p q := by
  have A : ∀ (r : Int64) (z : Int), r.toInt = z → 0 ≤ z → z ≤ 8796093022207 → r = lN z.natAbs := fun r z e z1 z2 => gk_of (by omega) (by omega)
  have B : ∀ (r : Int64) (z : Int), r.toInt = z → z < 0 → -8796093022207 ≤ z → -r = lN z.natAbs := fun r z e z1 z2 => gk_of (by rw [ga_neg e (by omega) (by omega)]; omega) (by omega)
  have L : ∀ a b : Nat, a < 2 ^ 63 → b < 2 ^ 43 → post (lN (Nat.gcd a b)) → ∃ fu, wX_divisor_31 post fu (lN a) (lN b) 0 := fun a b ha hb hg => ⟨87, gk_dv 43 a b 0 87 hb (by omega) (by omega) ha (by omega) hg⟩
  have M : wX_divisor_12 post q (lN x.natAbs) := by
    unfold wX_divisor_12
    rcases ga_lg y 0 with z | z
    · refine br_f (fun k => ?_) (nm_r (B q y hq z y1) (L _ _ (by omega) (by omega) h))
      rw [Int64.le_iff_toInt_le, hq] at k
      exact absurd k (by rw [show (0 : Int64).toInt = 0 from rfl]; omega)
    · refine br_t ?_ ?_
      · rw [Int64.le_iff_toInt_le, hq]
        exact z
      · rw [A q y hq z y2]
        exact L _ _ (by omega) (by omega) h
  unfold wpX_divisor
  rcases ga_lg x 0 with z | z
  · refine br_f (fun k => ?_) (by rw [B p x hp z x1]; exact M)
    rw [Int64.le_iff_toInt_le, hp] at k
    exact absurd k (by rw [show (0 : Int64).toInt = 0 from rfl]; omega)
  · refine br_t ?_ (by rw [A p x hp z x2]; exact M)
    rw [Int64.le_iff_toInt_le, hp]
    exact z
theorem gk_tdv {a : Int64} {x : Int} {g : Nat} (ha : a.toInt = x) (h0 : 0 < g) (hg : g < 2 ^ 63) : (a / lN g).toInt = x.tdiv (g : Int) := by
  rw [Int64.toInt_div_of_ne_right, ha, pk_lT hg]
  intro e
  have := congrArg Int64.toInt e
  rw [pk_lT hg] at this
  have k : (-1 : Int64).toInt = -1 := by decide
  omega
theorem gk_ps {a b c d : Nat → Int64} {st : Nat × (Nat → gv_V)} {x y z w : Int64} {r : gv_V} (hO : gk_O a b c d st) (hr : (x.toInt, y.toInt, z.toInt, w.toInt) = r) : gk_O (vp_updL a st.1 x) (vp_updL b st.1 y) (vp_updL c st.1 z) (vp_updL d st.1 w) (gc_ps st r) := by
  intro i hi
  have hi' : i < st.1 + 1 := hi
  by_cases e : i = st.1
  · subst e
    rw [gc_pe]
    unfold gk_p
    rw [pk_uLs, pk_uLs, pk_uLs, pk_uLs]
    exact hr
  · rw [gc_po (by omega)]
    unfold gk_p
    rw [pk_uLn e, pk_uLn e, pk_uLn e, pk_uLn e]
    exact hO i (by omega)
theorem gk_152 {post : St2 → Prop} {l sz cu : Int32} {a1 a2 a3 a4 a5 : Nat → Int32} {a6 a7 a8 a9 a10 a11 a12 a13 a14 a15 a16 a17 : Nat → Int64} {st : Nat × (Nat → gv_V)} {x y z w : Int64} {r : gv_V} (hm : st.1 < 16) (hO : gk_O a14 a15 a16 a17 st) (hr : (x.toInt, y.toInt, z.toInt, w.toInt) = r)
    (H : ∀ b14 b15 b16 b17, gk_O b14 b15 b16 b17 (gc_ps st r) → post (l, sz, nI (st.1 + 1), cu, a1, a2, a3, a4, a5, a6, a7, a8, a9, a10, a11, a12, a13, b14, b15, b16, b17)) : wX_keep_152 post x y z w l sz (nI st.1) cu a1 a2 a3 a4 a5 a6 a7 a8 a9 a10 a11 a12 a13 a14 a15 a16 a17 := by
  have k := gk_ps hO hr
  have c : (nI st.1).toNatClampNeg = st.1 := nI_clamp (by omega)
  have v : vp_in (nI st.1) 16 := vp_in_nI hm (by decide)
  unfold wX_keep_152
  rw [c]
  exact ⟨v, nm_e ⟨v, nm_e ⟨v, nm_e ⟨v, nm_e (nm_r (nI_1 _) (H _ _ _ _ k))⟩⟩⟩⟩
theorem gk_mx {a : Nat → Int64} {k k' : Nat} {s1 s2 : Int64} {S1 S2 : Int} (h1 : s1.toInt = S1) (h2 : s2.toInt = S2) (u1 : -2097152 ≤ S1) (u2 : S1 ≤ 2097152) (v1 : -2097152 ≤ S2) (v2 : S2 ≤ 2097152) (b1 : -1048576 ≤ (a k).toInt ∧ (a k).toInt ≤ 1048576) (b2 : -1048576 ≤ (a k').toInt ∧ (a k').toInt ≤ 1048576) :
    (a k * s1 + a k' * s2).toInt = (a k).toInt * S1 + (a k').toInt * S2 ∧ -8796093022207 ≤ (a k).toInt * S1 + (a k').toInt * S2 ∧ (a k).toInt * S1 + (a k').toInt * S2 ≤ 8796093022207 := by
  have e1 := ga_ab b1.1 b1.2 u1 u2
  have e2 := ga_ab b2.1 b2.2 v1 v2
  refine ⟨ga_add (ga_mul rfl h1 (by omega) (by omega)) (ga_mul rfl h2 (by omega) (by omega)) (by omega) (by omega), by omega, by omega⟩
theorem gk_keep {post : St2 → Prop} {l sz cu : Int32} {a1 a2 a3 a4 a5 : Nat → Int32} {a6 a7 a8 a9 a10 a11 a12 a13 a14 a15 a16 a17 : Nat → Int64} {st : Nat × (Nat → gv_V)} {k k' : Nat} {s1 s2 : Int64} {S1 S2 : Int} (hk : k < 16) (hk' : k' < 16) (hm : st.1 < 16) (h1 : s1.toInt = S1) (h2 : s2.toInt = S2) (u1 : -2097152 ≤ S1) (u2 : S1 ≤ 2097152) (v1 : -2097152 ≤ S2) (v2 : S2 ≤ 2097152)
    (bk : gv_bd (gk_p a10 a11 a12 a13 k)) (bk' : gv_bd (gk_p a10 a11 a12 a13 k')) (hO : gk_O a14 a15 a16 a17 st)
    (H : ∀ b14 b15 b16 b17, gk_O b14 b15 b16 b17 (gc_ps st (gc_red (gv_mix (gk_p a10 a11 a12 a13 k) (gk_p a10 a11 a12 a13 k') S1 S2))) → post (l, sz, nI (st.1 + 1), cu, a1, a2, a3, a4, a5, a6, a7, a8, a9, a10, a11, a12, a13, b14, b15, b16, b17)) : wpX_keep post (l, sz, nI st.1, cu, a1, a2, a3, a4, a5, a6, a7, a8, a9, a10, a11, a12, a13, a14, a15, a16, a17) (nI k) (nI k') s1 s2 := by
  have c1 : (nI k).toNatClampNeg = k := nI_clamp (by omega)
  have c2 : (nI k').toNatClampNeg = k' := nI_clamp (by omega)
  have w1 : vp_in (nI k) 16 := vp_in_nI hk (by decide)
  have w2 : vp_in (nI k') 16 := vp_in_nI hk' (by decide)
  have n16 : ¬ nI st.1 = 16 := fun e => absurd ((nI_eq (by omega) (by decide)).mp (show nI st.1 = nI 16 from e)) (by omega)
  unfold wpX_keep
  dsimp only
  rw [c1, c2]
  obtain ⟨d1, d2, d3, d4⟩ := bk
  obtain ⟨d1', d2', d3', d4'⟩ := bk'
  obtain ⟨m1, m1a, m1b⟩ := gk_mx (a := a10) (k := k) (k' := k') h1 h2 u1 u2 v1 v2 d1 d1'
  obtain ⟨m2, m2a, m2b⟩ := gk_mx (a := a11) (k := k) (k' := k') h1 h2 u1 u2 v1 v2 d2 d2'
  obtain ⟨m3, m3a, m3b⟩ := gk_mx (a := a12) (k := k) (k' := k') h1 h2 u1 u2 v1 v2 d3 d3'
  obtain ⟨m4, m4a, m4b⟩ := gk_mx (a := a13) (k := k) (k' := k') h1 h2 u1 u2 v1 v2 d4 d4'
  refine br_f n16 ⟨w1, w2, nm_e ⟨w1, w2, nm_e ⟨w1, w2, nm_e ⟨w1, w2, nm_e ?_⟩⟩⟩⟩
  have gb : ∀ (x y : Int), -8796093022207 ≤ x → x ≤ 8796093022207 → (Nat.gcd x.natAbs y.natAbs) ≤ 8796093022207 ∨ x = 0 := fun x y h1 h2 => by
    by_cases e : x = 0
    · exact Or.inr e
    · have := Nat.gcd_le_left (m := x.natAbs) y.natAbs (by omega)
      exact Or.inl (by omega)
  have gl : ∀ a b : Nat, a ≤ 8796093022207 → b ≤ 8796093022207 → Nat.gcd a b ≤ 8796093022207 := fun a b h1 h2 => by
    by_cases e : a = 0
    · rw [e, Nat.gcd_zero_left]
      exact h2
    · exact Nat.le_trans (Nat.gcd_le_left b (by omega)) h1
  have g1 := gl _ _ (show ((a10 k).toInt * S1 + (a10 k').toInt * S2).natAbs ≤ 8796093022207 by omega) (show ((a11 k).toInt * S1 + (a11 k').toInt * S2).natAbs ≤ 8796093022207 by omega)
  have g2 := gl _ _ g1 (show ((a12 k).toInt * S1 + (a12 k').toInt * S2).natAbs ≤ 8796093022207 by omega)
  have g3 := gl _ _ g2 (show ((a13 k).toInt * S1 + (a13 k').toInt * S2).natAbs ≤ 8796093022207 by omega)
  refine gk_div m1 m2 m1a m1b m2a m2b ?_
  refine gk_div (pk_lT (by omega)) m3 (by omega) (by omega) m3a m3b ?_
  rw [Int.natAbs_natCast]
  refine gk_div (pk_lT (by omega)) m4 (by omega) (by omega) m4a m4b ?_
  rw [Int.natAbs_natCast]
  have gg : Nat.gcd (Nat.gcd (Nat.gcd ((a10 k).toInt * S1 + (a10 k').toInt * S2).natAbs ((a11 k).toInt * S1 + (a11 k').toInt * S2).natAbs) ((a12 k).toInt * S1 + (a12 k').toInt * S2).natAbs) ((a13 k).toInt * S1 + (a13 k').toInt * S2).natAbs = gc_g (gv_mix (gk_p a10 a11 a12 a13 k) (gk_p a10 a11 a12 a13 k') S1 S2) := rfl
  rw [gg] at g3 ⊢
  by_cases c : 1 < gc_g (gv_mix (gk_p a10 a11 a12 a13 k) (gk_p a10 a11 a12 a13 k') S1 S2)
  · have nz : ¬ lN (gc_g (gv_mix (gk_p a10 a11 a12 a13 k) (gk_p a10 a11 a12 a13 k') S1 S2)) = 0 := fun e => absurd ((pk_lEQ (by omega) (by decide)).mp (show lN _ = lN 0 from e)) (by omega)
    refine br_f (fun q => absurd ((pk_lLE (by omega) (by decide)).mp (show lN _ ≤ lN 1 from q)) (by omega)) ⟨nz, nm_e ⟨nz, nm_e ⟨nz, nm_e ⟨nz, nm_e ?_⟩⟩⟩⟩
    refine gk_152 hm hO ?_ H
    rw [gk_tdv m1 (by omega) (by omega), gk_tdv m2 (by omega) (by omega), gk_tdv m3 (by omega) (by omega), gk_tdv m4 (by omega) (by omega)]
    unfold gc_red
    rw [if_pos c]
    rfl
  · refine br_t ((pk_lLE (by omega) (by decide)).mpr (show _ ≤ 1 by omega)) ?_
    refine gk_152 hm hO ?_ H
    rw [m1, m2, m3, m4]
    unfold gc_red
    rw [if_neg c]
    rfl
theorem gk_inside {post : Int64 → Prop} {l sz md cu : Int32} {a1 a2 a3 a4 a5 : Nat → Int32} {a6 a7 a8 a9 a10 a11 a12 a13 a14 a15 a16 a17 : Nat → Int64} {s k : Nat} (hs : s ≤ 5) (hk : k < 16) (bk : gv_bd (gk_p a10 a11 a12 a13 k)) (H : ∀ r : Int64, r.toInt = gc_h s (gk_p a10 a11 a12 a13 k) → post r) : wpX_inside post (l, sz, md, cu, a1, a2, a3, a4, a5, a6, a7, a8, a9, a10, a11, a12, a13, a14, a15, a16, a17) (nI s) (nI k) := by
  have c1 : (nI k).toNatClampNeg = k := nI_clamp (by omega)
  have w1 : vp_in (nI k) 16 := vp_in_nI hk (by decide)
  obtain ⟨d1, d2, d3, d4⟩ := bk
  unfold wpX_inside
  dsimp only
  rw [c1]
  rcases (show s = 0 ∨ s = 1 ∨ s = 2 ∨ s = 3 ∨ s = 4 ∨ s = 5 by omega) with q | q | q | q | q | q <;> subst q
  · exact br_f (by decide) (br_t (by decide) ⟨w1, w1, H _ (ga_add rfl rfl (by omega) (by omega))⟩)
  · exact br_f (by decide) (br_f (by decide) ⟨w1, w1, H _ (ga_sub rfl rfl (by omega) (by omega))⟩)
  · exact br_t (by decide) (br_f (by decide) (br_t (by decide) ⟨w1, w1, H _ (ga_add rfl rfl (by omega) (by omega))⟩))
  · exact br_t (by decide) (br_f (by decide) (br_f (by decide) ⟨w1, w1, H _ (ga_sub rfl rfl (by omega) (by omega))⟩))
  · exact br_t (by decide) (br_t (by decide) (br_t (by decide) ⟨w1, H _ rfl⟩))
  · exact br_t (by decide) (br_t (by decide) (br_f (by decide) ⟨w1, w1, H _ (ga_sub rfl rfl (by omega) (by omega))⟩))
end
section
/-! clip -/
theorem gl_ge {a : Int64} {x : Int} (h : a.toInt = x) (hx : 0 ≤ x) : 0 ≤ a := by rw [Int64.le_iff_toInt_le, h]; exact hx
theorem gl_nge {a : Int64} {x : Int} (h : a.toInt = x) (hx : x < 0) : ¬ 0 ≤ a := by
  rw [Int64.le_iff_toInt_le, h]
  exact fun k => absurd k (by rw [show (0 : Int64).toInt = 0 from rfl]; omega)
theorem gl_le {a : Int64} {x : Int} (h : a.toInt = x) (hx : x ≤ 0) : a ≤ 0 := by rw [Int64.le_iff_toInt_le, h]; exact hx
theorem gl_nle {a : Int64} {x : Int} (h : a.toInt = x) (hx : 0 < x) : ¬ a ≤ 0 := by
  rw [Int64.le_iff_toInt_le, h]
  exact fun k => absurd k (by rw [show (0 : Int64).toInt = 0 from rfl]; omega)
theorem gl_lt {a : Int64} {x : Int} (h : a.toInt = x) (hx : x < 0) : a < 0 := by rw [Int64.lt_iff_toInt_lt, h]; exact hx
theorem gl_nlt {a : Int64} {x : Int} (h : a.toInt = x) (hx : 0 ≤ x) : ¬ a < 0 := by
  rw [Int64.lt_iff_toInt_lt, h]
  exact fun k => absurd k (by rw [show (0 : Int64).toInt = 0 from rfl]; omega)
theorem gl_gt {a : Int64} {x : Int} (h : a.toInt = x) (hx : 0 < x) : 0 < a := by rw [Int64.lt_iff_toInt_lt, h]; exact hx
theorem gl_ngt {a : Int64} {x : Int} (h : a.toInt = x) (hx : x ≤ 0) : ¬ 0 < a := by
  rw [Int64.lt_iff_toInt_lt, h]
  exact fun k => absurd k (by rw [show (0 : Int64).toInt = 0 from rfl]; omega)
theorem gl_eq {a : Int64} {x : Int} (h : a.toInt = x) (hx : x = 0) : a = 0 := by
  apply Int64.toInt_inj.mp
  rw [h]; exact hx
theorem gl_ne {a : Int64} {x : Int} (h : a.toInt = x) (hx : x ≠ 0) : ¬ a = 0 := by
  intro e
  rw [e] at h
  exact hx h.symm
theorem gl_hb {s : Nat} {v : gv_V} (h : gv_bd v) : -2097152 ≤ gc_h s v ∧ gc_h s v ≤ 2097152 := by
  obtain ⟨d1, d2, d3, d4⟩ := h
  unfold gc_h
  split
  · omega
  · split
    · omega
    · split
      · omega
      · split
        · omega
        · split <;> omega
theorem gl_m1 (a b : Int) (P P' : gv_V) (st : Nat × (Nat → gv_V)) : st.1 ≤ (gc_s1 a b P P' st).1 := by
  unfold gc_s1; split
  · exact Nat.le_succ _
  · exact Nat.le_refl _
theorem gl_m2 (a b : Int) (P P' : gv_V) (st : Nat × (Nat → gv_V)) : st.1 ≤ (gc_s2 a b P P' st).1 := by
  unfold gc_s2; split
  · exact Nat.le_succ _
  · exact Nat.le_refl _
theorem gl_m3 (a b : Int) (P P' : gv_V) (st : Nat × (Nat → gv_V)) : st.1 ≤ (gc_s3 a b P P' st).1 := by
  unfold gc_s3; split
  · exact Nat.le_succ _
  · exact Nat.le_refl _
theorem gl_mc {h : gv_V → Int} {p : Nat → gv_V} {n : Nat} : ∀ d k, (gc_cf h p n k).1 ≤ (gc_cf h p n (k + d)).1 := by
  intro d
  induction d with
  | zero => intro k; exact Nat.le_refl _
  | succ d ih =>
    intro k
    refine Nat.le_trans (ih k) ?_
    show (gc_cf h p n (k + d)).1 ≤ (gc_st _ _ _ _ (gc_cf h p n (k + d))).1
    exact Nat.le_trans (gl_m1 _ _ _ _ _) (Nat.le_trans (gl_m2 _ _ _ _ _) (gl_m3 _ _ _ _ _))
theorem gl_89 {post : St2 → Prop} {J : Int32 → Int32 → Int32 → Int32 → Int32 → (Nat → Int32) → (Nat → Int32) → (Nat → Int32) → (Nat → Int32) → (Nat → Int32) → (Nat → Int64) → (Nat → Int64) → (Nat → Int64) → (Nat → Int64) → (Nat → Int64) → (Nat → Int64) → (Nat → Int64) → (Nat → Int64) → (Nat → Int64) → (Nat → Int64) → (Nat → Int64) → (Nat → Int64) → Prop} {x1 l sz cu : Int32} {a1 a2 a3 a4 a5 : Nat → Int32} {a6 a7 a8 a9 a10 a11 a12 a13 a14 a15 a16 a17 : Nat → Int64} {st : Nat × (Nat → gv_V)} {k k' : Nat} {x4 x6 : Int64} {a b : Int} (hk : k < 16) (hk' : k' < 16) (e4 : x4.toInt = a) (e6 : x6.toInt = b) (a1' : -2097152 ≤ a) (a2' : a ≤ 2097152) (b1' : -2097152 ≤ b) (b2' : b ≤ 2097152)
    (bk : gv_bd (gk_p a10 a11 a12 a13 k)) (bk' : gv_bd (gk_p a10 a11 a12 a13 k')) (hO : gk_O a14 a15 a16 a17 st) (hm : (gc_s3 a b (gk_p a10 a11 a12 a13 k) (gk_p a10 a11 a12 a13 k') st).1 ≤ 16)
    (H : ∀ b14 b15 b16 b17, gk_O b14 b15 b16 b17 (gc_s3 a b (gk_p a10 a11 a12 a13 k) (gk_p a10 a11 a12 a13 k') st) → J (nI (k + 1)) l sz (nI (gc_s3 a b (gk_p a10 a11 a12 a13 k) (gk_p a10 a11 a12 a13 k') st).1) cu a1 a2 a3 a4 a5 a6 a7 a8 a9 a10 a11 a12 a13 b14 b15 b16 b17) : wX_clip_89 post J x1 (nI k) (nI k') x4 x6 l sz (nI st.1) cu a1 a2 a3 a4 a5 a6 a7 a8 a9 a10 a11 a12 a13 a14 a15 a16 a17 := by
  unfold wX_clip_89
  rcases ga_lg a 0 with z | z
  · rcases ga_lg 0 b with y | y
    · have e : gc_s3 a b (gk_p a10 a11 a12 a13 k) (gk_p a10 a11 a12 a13 k') st = gc_ps st (gc_red (gv_mix (gk_p a10 a11 a12 a13 k) (gk_p a10 a11 a12 a13 k') b (-a))) := by unfold gc_s3; rw [if_pos ⟨z, y⟩]
      rw [e] at H hm
      exact br_f (gl_nge e4 z) (br_f (gl_nle e6 y) (gk_keep hk hk' hm e6 (ga_neg e4 (by omega) (by omega)) b1' b2' (by omega) (by omega) bk bk' hO (fun b14 b15 b16 b17 hb => nm_r (nI_1 k) (H b14 b15 b16 b17 hb))))
    · have e : gc_s3 a b (gk_p a10 a11 a12 a13 k) (gk_p a10 a11 a12 a13 k') st = st := by unfold gc_s3; rw [if_neg (by omega)]
      rw [e] at H
      exact br_f (gl_nge e4 z) (br_t (gl_le e6 y) (nm_r (nI_1 k) (H _ _ _ _ hO)))
  · have e : gc_s3 a b (gk_p a10 a11 a12 a13 k) (gk_p a10 a11 a12 a13 k') st = st := by unfold gc_s3; rw [if_neg (by omega)]
    rw [e] at H
    exact br_t (gl_ge e4 z) (nm_r (nI_1 k) (H _ _ _ _ hO))
theorem gl_64 {post : St2 → Prop} {J : Int32 → Int32 → Int32 → Int32 → Int32 → (Nat → Int32) → (Nat → Int32) → (Nat → Int32) → (Nat → Int32) → (Nat → Int32) → (Nat → Int64) → (Nat → Int64) → (Nat → Int64) → (Nat → Int64) → (Nat → Int64) → (Nat → Int64) → (Nat → Int64) → (Nat → Int64) → (Nat → Int64) → (Nat → Int64) → (Nat → Int64) → (Nat → Int64) → Prop} {x1 l sz cu : Int32} {a1 a2 a3 a4 a5 : Nat → Int32} {a6 a7 a8 a9 a10 a11 a12 a13 a14 a15 a16 a17 : Nat → Int64} {st : Nat × (Nat → gv_V)} {k k' : Nat} {x4 x6 : Int64} {a b : Int} (hk : k < 16) (hk' : k' < 16) (e4 : x4.toInt = a) (e6 : x6.toInt = b) (a1' : -2097152 ≤ a) (a2' : a ≤ 2097152) (b1' : -2097152 ≤ b) (b2' : b ≤ 2097152)
    (bk : gv_bd (gk_p a10 a11 a12 a13 k)) (bk' : gv_bd (gk_p a10 a11 a12 a13 k')) (hO : gk_O a14 a15 a16 a17 st) (hm : (gc_s3 a b (gk_p a10 a11 a12 a13 k) (gk_p a10 a11 a12 a13 k') (gc_s2 a b (gk_p a10 a11 a12 a13 k) (gk_p a10 a11 a12 a13 k') st)).1 ≤ 16)
    (H : ∀ b14 b15 b16 b17, gk_O b14 b15 b16 b17 (gc_s3 a b (gk_p a10 a11 a12 a13 k) (gk_p a10 a11 a12 a13 k') (gc_s2 a b (gk_p a10 a11 a12 a13 k) (gk_p a10 a11 a12 a13 k') st)) → J (nI (k + 1)) l sz (nI (gc_s3 a b (gk_p a10 a11 a12 a13 k) (gk_p a10 a11 a12 a13 k') (gc_s2 a b (gk_p a10 a11 a12 a13 k) (gk_p a10 a11 a12 a13 k') st)).1) cu a1 a2 a3 a4 a5 a6 a7 a8 a9 a10 a11 a12 a13 b14 b15 b16 b17) : wX_clip_64 post J x1 (nI k) (nI k') x4 x6 l sz (nI st.1) cu a1 a2 a3 a4 a5 a6 a7 a8 a9 a10 a11 a12 a13 a14 a15 a16 a17 := by
  unfold wX_clip_64
  have m3 := gl_m3 a b (gk_p a10 a11 a12 a13 k) (gk_p a10 a11 a12 a13 k') (gc_s2 a b (gk_p a10 a11 a12 a13 k) (gk_p a10 a11 a12 a13 k') st)
  rcases ga_lg 0 a with z | z
  · rcases ga_lg b 0 with y | y
    · have e : gc_s2 a b (gk_p a10 a11 a12 a13 k) (gk_p a10 a11 a12 a13 k') st = gc_ps st (gc_red (gv_mix (gk_p a10 a11 a12 a13 k) (gk_p a10 a11 a12 a13 k') (-b) a)) := by unfold gc_s2; rw [if_pos ⟨z, y⟩]
      rw [e] at H hm m3
      refine br_f (gl_nle e4 z) (br_f (gl_nge e6 y) (gk_keep hk hk' (Nat.lt_of_lt_of_le (Nat.lt_succ_self _) (Nat.le_trans m3 hm)) (ga_neg e6 (by omega) (by omega)) e4 (by omega) (by omega) a1' a2' bk bk' hO (fun b14 b15 b16 b17 hb => ?_)))
      exact gl_89 (st := gc_ps st (gc_red (gv_mix (gk_p a10 a11 a12 a13 k) (gk_p a10 a11 a12 a13 k') (-b) a))) hk hk' e4 e6 a1' a2' b1' b2' bk bk' hb hm H
    · have e : gc_s2 a b (gk_p a10 a11 a12 a13 k) (gk_p a10 a11 a12 a13 k') st = st := by unfold gc_s2; rw [if_neg (by omega)]
      rw [e] at H hm
      exact br_f (gl_nle e4 z) (br_t (gl_ge e6 y) (gl_89 hk hk' e4 e6 a1' a2' b1' b2' bk bk' hO hm H))
  · have e : gc_s2 a b (gk_p a10 a11 a12 a13 k) (gk_p a10 a11 a12 a13 k') st = st := by unfold gc_s2; rw [if_neg (by omega)]
    rw [e] at H hm
    exact br_t (gl_le e4 z) (gl_89 hk hk' e4 e6 a1' a2' b1' b2' bk bk' hO hm H)
theorem gl_32 {post : St2 → Prop} {J : Int32 → Int32 → Int32 → Int32 → Int32 → (Nat → Int32) → (Nat → Int32) → (Nat → Int32) → (Nat → Int32) → (Nat → Int32) → (Nat → Int64) → (Nat → Int64) → (Nat → Int64) → (Nat → Int64) → (Nat → Int64) → (Nat → Int64) → (Nat → Int64) → (Nat → Int64) → (Nat → Int64) → (Nat → Int64) → (Nat → Int64) → (Nat → Int64) → Prop} {l sz cu : Int32} {a1 a2 a3 a4 a5 : Nat → Int32} {a6 a7 a8 a9 a10 a11 a12 a13 a14 a15 a16 a17 : Nat → Int64} {st : Nat × (Nat → gv_V)} {s k k' : Nat} (hs : s ≤ 5) (hk : k < 16) (hk' : k' < 16) {P P' : gv_V} (eP : gk_p a10 a11 a12 a13 k = P) (eP' : gk_p a10 a11 a12 a13 k' = P')
    (bk : gv_bd P) (bk' : gv_bd P') (hO : gk_O a14 a15 a16 a17 st) (hm : (gc_st (gc_h s P) (gc_h s P') P P' st).1 ≤ 16)
    (H : ∀ b14 b15 b16 b17, gk_O b14 b15 b16 b17 (gc_st (gc_h s P) (gc_h s P') P P' st) → J (nI (k + 1)) l sz (nI (gc_st (gc_h s P) (gc_h s P') P P' st).1) cu a1 a2 a3 a4 a5 a6 a7 a8 a9 a10 a11 a12 a13 b14 b15 b16 b17) : wX_clip_32 post J (nI s) (nI k) (nI k') l sz (nI st.1) cu a1 a2 a3 a4 a5 a6 a7 a8 a9 a10 a11 a12 a13 a14 a15 a16 a17 := by
  subst eP
  subst eP'
  unfold wX_clip_32
  refine gk_inside hs hk bk (fun r e4 => gk_inside hs hk' bk' (fun r' e6 => ?_))
  obtain ⟨a1', a2'⟩ := gl_hb (s := s) bk
  obtain ⟨b1', b2'⟩ := gl_hb (s := s) bk'
  unfold gc_st at H hm
  rw [← e4, ← e6] at H hm
  rw [← e4] at a1' a2'
  rw [← e6] at b1' b2'
  generalize ha : r.toInt = a at *
  generalize hb : r'.toInt = b at *
  have m3 := gl_m3 a b (gk_p a10 a11 a12 a13 k) (gk_p a10 a11 a12 a13 k') (gc_s2 a b (gk_p a10 a11 a12 a13 k) (gk_p a10 a11 a12 a13 k') (gc_s1 a b (gk_p a10 a11 a12 a13 k) (gk_p a10 a11 a12 a13 k') st))
  have m2 := gl_m2 a b (gk_p a10 a11 a12 a13 k) (gk_p a10 a11 a12 a13 k') (gc_s1 a b (gk_p a10 a11 a12 a13 k) (gk_p a10 a11 a12 a13 k') st)
  rcases ga_lg a 0 with z | z
  · have e : gc_s1 a b (gk_p a10 a11 a12 a13 k) (gk_p a10 a11 a12 a13 k') st = st := by unfold gc_s1; rw [if_neg (by omega)]
    rw [e] at H hm
    exact br_t (gl_lt ha z) (gl_64 hk hk' ha hb a1' a2' b1' b2' bk bk' hO hm H)
  · have e : gc_s1 a b (gk_p a10 a11 a12 a13 k) (gk_p a10 a11 a12 a13 k') st = gc_ps st (gc_red (gv_mix (gk_p a10 a11 a12 a13 k) (gk_p a10 a11 a12 a13 k') 1 0)) := by unfold gc_s1; rw [if_pos z]
    rw [e] at H hm m2 m3
    refine br_f (gl_nlt ha z) (gk_keep (S1 := 1) (S2 := 0) hk hk' (Nat.lt_of_lt_of_le (Nat.lt_succ_self _) (Nat.le_trans m2 (Nat.le_trans m3 hm))) rfl rfl (by omega) (by omega) (by omega) (by omega) bk bk' hO (fun b14 b15 b16 b17 hO2 => ?_))
    exact gl_64 (st := gc_ps st (gc_red (gv_mix (gk_p a10 a11 a12 a13 k) (gk_p a10 a11 a12 a13 k') 1 0))) hk hk' ha hb a1' a2' b1' b2' bk bk' hO2 hm H
theorem gl_122 {post : St2 → Prop} {l sz cu : Int32} {a1 a2 a3 a4 a5 : Nat → Int32} {a6 a7 a8 a9 a10 a11 a12 a13 a14 a15 a16 a17 : Nat → Int64} {st : Nat × (Nat → gv_V)} (hm : st.1 ≤ 16) (hO : gk_O a14 a15 a16 a17 st)
    (H : ∀ b10 b11 b12 b13, gk_O b10 b11 b12 b13 st → post (l, nI st.1, nI st.1, cu, a1, a2, a3, a4, a5, a6, a7, a8, a9, b10, b11, b12, b13, a14, a15, a16, a17)) : ∃ fu, wX_clip_122 post l sz (nI st.1) cu fu 0 a1 a2 a3 a4 a5 a6 a7 a8 a9 a10 a11 a12 a13 a14 a15 a16 a17 :=
  pk_loop (σ := (Nat → Int64) × (Nat → Int64) × (Nat → Int64) × (Nat → Int64)) (fun fu i s => wX_clip_122 post l sz (nI st.1) cu fu (nI i) a1 a2 a3 a4 a5 a6 a7 a8 a9 s.1 s.2.1 s.2.2.1 s.2.2.2 a14 a15 a16 a17) (fun i s => ∀ j, j < i → gk_p s.1 s.2.1 s.2.2.1 s.2.2.2 j = st.2 j) st.1 0 (a10, a11, a12, a13) (Nat.zero_le _) (fun j hj => absurd hj (Nat.not_lt_zero _))
    (fun fu s h => pk_le st.1 st.1 (fun _ => H _ _ _ _ h) (fun z => absurd z (by omega)))
    (fun fu i s hi h hw => pk_le st.1 i (fun z => absurd z (by omega)) (fun _ => by
      have c : (nI i).toNatClampNeg = i := nI_clamp (by omega)
      have v : vp_in (nI i) 16 := vp_in_nI (by omega) (by decide)
      rw [c]
      refine ⟨v, v, nm_e ⟨v, v, nm_e ⟨v, v, nm_e ⟨v, v, nm_e (nm_r (nI_1 i) (hw (vp_updL s.1 i (a14 i), vp_updL s.2.1 i (a15 i), vp_updL s.2.2.1 i (a16 i), vp_updL s.2.2.2 i (a17 i)) (fun j hj => ?_)))⟩⟩⟩⟩
      by_cases e : j = i
      · subst e
        unfold gk_p
        dsimp only
        rw [pk_uLs, pk_uLs, pk_uLs, pk_uLs]
        exact hO j hi
      · have := h j (by omega)
        unfold gk_p at this ⊢
        dsimp only
        rw [pk_uLn e, pk_uLn e, pk_uLn e, pk_uLn e]
        exact this))
theorem gl_clip {post : St2 → Prop} {l md cu : Int32} {a1 a2 a3 a4 a5 : Nat → Int32} {a6 a7 a8 a9 a10 a11 a12 a13 a14 a15 a16 a17 : Nat → Int64} {s n : Nat} {p : Nat → gv_V} (hs : s ≤ 5) (hn : n ≤ 16) (hM : ∀ k, k < n → gk_p a10 a11 a12 a13 k = p k) (hb : ∀ k, k < n → gv_bd (p k)) (hc : (gc_cf (gc_h s) p n n).1 ≤ 16)
    (H : ∀ b10 b11 b12 b13 b14 b15 b16 b17, gk_O b10 b11 b12 b13 (gc_cf (gc_h s) p n n) → post (l, nI (gc_cf (gc_h s) p n n).1, nI (gc_cf (gc_h s) p n n).1, cu, a1, a2, a3, a4, a5, a6, a7, a8, a9, b10, b11, b12, b13, b14, b15, b16, b17)) : wpX_clip post (l, nI n, md, cu, a1, a2, a3, a4, a5, a6, a7, a8, a9, a10, a11, a12, a13, a14, a15, a16, a17) (nI s) := by
  unfold wpX_clip
  dsimp only
  have mono : ∀ i, i < n → (gc_cf (gc_h s) p n (i + 1)).1 ≤ 16 := fun i hi => by
    have := gl_mc (h := gc_h s) (p := p) (n := n) (n - (i + 1)) (i + 1)
    rw [show i + 1 + (n - (i + 1)) = n by omega] at this
    omega
  refine pk_loop (σ := (Nat → Int64) × (Nat → Int64) × (Nat → Int64) × (Nat → Int64)) (fun fu i σ => wX_clip_7 post (nI s) fu (nI i) l (nI n) (nI (gc_cf (gc_h s) p n i).1) cu a1 a2 a3 a4 a5 a6 a7 a8 a9 a10 a11 a12 a13 σ.1 σ.2.1 σ.2.2.1 σ.2.2.2) (fun i σ => gk_O σ.1 σ.2.1 σ.2.2.1 σ.2.2.2 (gc_cf (gc_h s) p n i)) n 0 (a14, a15, a16, a17) (Nat.zero_le _) (fun i hi => absurd hi (Nat.not_lt_zero _)) ?_ ?_
  · intro fu σ h
    exact pk_le n n (fun _ => gl_122 hc h (fun b10 b11 b12 b13 hO => H _ _ _ _ _ _ _ _ hO)) (fun z => absurd z (by omega))
  · intro fu i σ hi h hw
    have hx : gc_nx n i < n := by unfold gc_nx; split <;> omega
    have key : wX_clip_32 post (wX_clip_7 post (nI s) fu) (nI s) (nI i) (nI (gc_nx n i)) l (nI n) (nI (gc_cf (gc_h s) p n i).1) cu a1 a2 a3 a4 a5 a6 a7 a8 a9 a10 a11 a12 a13 σ.1 σ.2.1 σ.2.2.1 σ.2.2.2 :=
      gl_32 hs (by omega) (by omega) (hM i hi) (hM _ hx) (hb i hi) (hb _ hx) h (mono i hi) (fun b14 b15 b16 b17 hO => hw (b14, b15, b16, b17) hO)
    refine pk_le n i (fun z => absurd z (by omega)) (fun _ => pk_le n (i + 1) (fun z => ?_) (fun z => ?_) rfl (nI_1 i))
    · have e : gc_nx n i = 0 := by unfold gc_nx; rw [if_neg (by omega)]
      rw [e] at key
      exact key
    · have e : gc_nx n i = i + 1 := by unfold gc_nx; rw [if_pos (by omega)]
      rw [e, ← nI_1] at key
      exact key
end
section
/-! minor, findDepth, loadCorners, clear -/
theorem gd_ix (a f : Nat) : ((12 * 0 + 4 * nI a) + nI f : Int32) = nI (4 * a + f) := by
  show (nI 12 * nI 0 + nI 4 * nI a) + nI f = _
  rw [pk_mul, pk_mul, nI_add, nI_add]
  exact congrArg nI (by omega)
theorem gd_iy (a : Nat) : (12 * 0 + 4 * nI a : Int32) = nI (4 * a) := by
  show nI 12 * nI 0 + nI 4 * nI a = _
  rw [pk_mul, pk_mul, nI_add]
  exact congrArg nI (by omega)
theorem gd_i0 (j : Nat) : (16 * 0 + nI j : Int32) = nI j := by
  show nI 16 * nI 0 + nI j = _
  rw [pk_mul, nI_add]
  exact congrArg nI (by omega)
theorem gd_v {a f : Nat} (ha : a < 3) (hf : f < 4) : vp_in ((12 * 0 + 4 * nI a) + nI f) 120 := by
  rw [gd_ix]
  exact vp_in_nI (by omega) (by decide)
theorem gd_c {a f : Nat} (ha : a < 3) (hf : f < 4) : ((12 * 0 + 4 * nI a) + nI f : Int32).toNatClampNeg = 4 * a + f := by
  rw [gd_ix]
  exact nI_clamp (by omega)
theorem gd_minor {post : Int64 → Prop} {l sz md cu : Int32} {a1 a2 a3 a4 a5 : Nat → Int32} {a6 a7 a8 a9 a10 a11 a12 a13 a14 a15 a16 a17 : Nat → Int64} {a b f g : Nat} (ha : a < 3) (hb : b < 3) (hf : f < 4) (hg : g < 4) (H : post ((a2 (4 * a + f)).toInt64 * (a2 (4 * b + g)).toInt64 - (a2 (4 * b + f)).toInt64 * (a2 (4 * a + g)).toInt64)) : wpX_minor post (l, sz, md, cu, a1, a2, a3, a4, a5, a6, a7, a8, a9, a10, a11, a12, a13, a14, a15, a16, a17) 0 (nI a) (nI b) (nI f) (nI g) := by
  unfold wpX_minor
  dsimp only
  refine nm_e ⟨gd_v ha hf, gd_v hb hg, nm_e ⟨gd_v hb hf, gd_v ha hg, nm_e ?_⟩⟩
  rw [gd_c ha hf, gd_c hb hg, gd_c hb hf, gd_c ha hg]
  exact H
theorem gd_50 {post : St2 → Prop} {J : Int64 → Int64 → Int64 → Int64 → Int32 → Prop} {x2 x4 x6 x8 : Int64} {l sz md cu : Int32} {a1 a2 a3 a4 a5 : Nat → Int32} {a6 a7 a8 a9 a10 a11 a12 a13 a14 a15 a16 a17 : Nat → Int64} {k a b : Nat} (hk : k < 3) (ha : a < 3) (hb : b < 3)
    (H : ∀ y2 y4 y6 y8, y8 = x8 + (a2 (4 * k + 3)).toInt64 * ((a2 (4 * a + 0)).toInt64 * (a2 (4 * b + 1)).toInt64 - (a2 (4 * b + 0)).toInt64 * (a2 (4 * a + 1)).toInt64) → J y2 y4 y6 y8 (nI (k + 1))) : wX_findDepth_50 post J 0 x2 x4 x6 x8 (nI k) (nI a) (nI b) l sz md cu a1 a2 a3 a4 a5 a6 a7 a8 a9 a10 a11 a12 a13 a14 a15 a16 a17 := by
  unfold wX_findDepth_50
  refine ⟨gd_v (f := 2) hk (by decide), nm_e (gd_minor (f := 1) (g := 3) ha hb (by decide) (by decide) (gd_minor (f := 0) (g := 3) ha hb (by decide) (by decide) (nm_e (gd_minor (f := 0) (g := 1) ha hb (by decide) (by decide) (nm_e (nm_e (nm_e ⟨gd_v (f := 3) hk (by decide), nm_e (nm_r (nI_1 k) (H _ _ _ _ ?_))⟩)))))))⟩
  have c := gd_c (f := 3) hk (by decide)
  exact congrArg (fun i => x8 + (a2 i).toInt64 * ((a2 (4 * a + 0)).toInt64 * (a2 (4 * b + 1)).toInt64 - (a2 (4 * b + 0)).toInt64 * (a2 (4 * a + 1)).toInt64)) c
theorem gd_184 {post : St2 → Prop} {x2 x4 x6 x8 z : Int64} {l sz md cu : Int32} {a1 a2 a3 a4 a5 : Nat → Int32} {a6 a7 a8 a9 a10 a11 a12 a13 a14 a15 a16 a17 : Nat → Int64} (H : ∀ b6 b7 b8 b9, b9 0 = z * x8 * 16 → post (l, sz, md, cu, a1, a2, a3, a4, a5, b6, b7, b8, b9, a10, a11, a12, a13, a14, a15, a16, a17)) : wX_findDepth_184 post 0 x2 x4 x6 x8 z l sz md cu a1 a2 a3 a4 a5 a6 a7 a8 a9 a10 a11 a12 a13 a14 a15 a16 a17 := by
  have v : vp_in 0 10 := pk_in 0 10 (by decide)
  unfold wX_findDepth_184
  exact ⟨v, nm_e ⟨v, nm_e ⟨v, nm_e ⟨v, nm_e (H _ _ _ _ (by rw [sb_cl0, pk_uLs]))⟩⟩⟩⟩
/-- the corners of the triangle -/
def gd_tri (a2 : Nat → Int32) (ax ay az aw : Int) : Prop := (a2 0).toInt = ax ∧ (a2 1).toInt = ay ∧ (a2 2).toInt = az ∧ (a2 3).toInt = aw ∧ a2 4 = 4 ∧ a2 5 = 0 ∧ a2 6 = 1 ∧ a2 7 = 1 ∧ a2 8 = 0 ∧ a2 9 = 0 ∧ a2 10 = 1 ∧ a2 11 = 1
theorem gd_find {post : St2 → Prop} {l sz md cu : Int32} {a1 a2 a3 a4 a5 : Nat → Int32} {a6 a7 a8 a9 a10 a11 a12 a13 a14 a15 a16 a17 : Nat → Int64} {ax ay az aw : Int} (ht : gd_tri a2 ax ay az aw) (y1 : -20 ≤ ay) (y2 : ay ≤ 20) (H : ∀ b6 b7 b8 b9, (b9 0 = 0 ↔ ay = 0) → post (l, sz, md, cu, a1, a2, a3, a4, a5, b6, b7, b8, b9, a10, a11, a12, a13, a14, a15, a16, a17)) : wpX_findDepth post (l, sz, md, cu, a1, a2, a3, a4, a5, a6, a7, a8, a9, a10, a11, a12, a13, a14, a15, a16, a17) 0 := by
  obtain ⟨t0, t1, t2, t3, t4, t5, t6, t7, t8, t9, t10, t11⟩ := ht
  unfold wpX_findDepth
  dsimp only
  refine ⟨4, br_f (by decide) (br_f (by decide) (br_f (by decide) (gd_50 (k := 0) (a := 1) (b := 2) (by decide) (by decide) (by decide) (fun p2 p4 p6 p8 e1 => ?_))))⟩
  refine br_f (by decide) (br_f (by decide) (br_t (by decide) (gd_50 (k := 1) (a := 2) (b := 0) (by decide) (by decide) (by decide) (fun q2 q4 q6 q8 e2 => ?_))))
  refine br_f (by decide) (br_t (by decide) (br_f (by decide) (gd_50 (k := 2) (a := 0) (b := 1) (by decide) (by decide) (by decide) (fun r2 r4 r6 r8 e3 => ?_))))
  have f1 : p8 = 0 + (a2 3).toInt64 * ((a2 4).toInt64 * (a2 9).toInt64 - (a2 8).toInt64 * (a2 5).toInt64) := e1
  have f2 : q8 = p8 + (a2 7).toInt64 * ((a2 8).toInt64 * (a2 1).toInt64 - (a2 0).toInt64 * (a2 9).toInt64) := e2
  have f3 : r8 = q8 + (a2 11).toInt64 * ((a2 0).toInt64 * (a2 5).toInt64 - (a2 4).toInt64 * (a2 1).toInt64) := e3
  rw [t4, t9, t8, t5, show (4 : Int32).toInt64 = 4 from rfl, show (0 : Int32).toInt64 = 0 from rfl] at f1
  rw [t7, t8, t9, show (1 : Int32).toInt64 = 1 from rfl, show (0 : Int32).toInt64 = 0 from rfl, f1] at f2
  rw [t11, t5, t4, show (4 : Int32).toInt64 = 4 from rfl, show (1 : Int32).toInt64 = 1 from rfl, show (0 : Int32).toInt64 = 0 from rfl, f2] at f3
  have f4 : r8 = (-4) * (a2 1).toInt64 := by rw [f3]; grind
  have f5 : r8.toInt = (-4) * ay := by
    rw [f4]
    exact ga_mul (show (-4 : Int64).toInt = -4 from rfl) (by rw [Int32.toInt_toInt64, t1]) (by omega) (by omega)
  have K : ∀ (z : Int64) (s : Int), z.toInt = s → (s = 1 ∨ s = -1) → ((z * r8 * 16 : Int64) = 0 ↔ ay = 0) := by
    intro z s hz hs
    have e : (z * r8 * 16 : Int64).toInt = s * ((-4) * ay) * 16 := by
      rcases hs with q | q <;> subst q
      · exact ga_mul (ga_mul hz f5 (by omega) (by omega)) (show (16 : Int64).toInt = 16 from rfl) (by omega) (by omega)
      · exact ga_mul (ga_mul hz f5 (by omega) (by omega)) (show (16 : Int64).toInt = 16 from rfl) (by omega) (by omega)
    constructor
    · intro q
      rw [q, show (0 : Int64).toInt = 0 from rfl] at e
      rcases hs with y | y <;> subst y <;> omega
    · intro q
      apply gl_eq e
      rw [q]
      rcases hs with y | y <;> subst y <;> omega
  refine br_t (by decide) (br_c (fun _ => ?_) (fun _ => ?_))
  · exact gd_184 (fun b6 b7 b8 b9 e => H b6 b7 b8 b9 (by rw [e]; exact K 1 1 rfl (Or.inl rfl)))
  · exact gd_184 (fun b6 b7 b8 b9 e => H b6 b7 b8 b9 (by rw [e]; exact K (-1) (-1) rfl (Or.inr rfl)))
theorem gd_load {post : St2 → Prop} {l sz md cu : Int32} {a1 a2 a3 a4 a5 : Nat → Int32} {a6 a7 a8 a9 a10 a11 a12 a13 a14 a15 a16 a17 : Nat → Int64} (H : ∀ b10 b11 b12 b13, (∀ j, j < 3 → gk_p b10 b11 b12 b13 j = ((a2 (4 * j)).toInt, (a2 (4 * j + 1)).toInt, (a2 (4 * j + 2)).toInt, (a2 (4 * j + 3)).toInt)) → post (l, nI 3, md, cu, a1, a2, a3, a4, a5, a6, a7, a8, a9, b10, b11, b12, b13, a14, a15, a16, a17)) : wpX_loadCorners post (l, sz, md, cu, a1, a2, a3, a4, a5, a6, a7, a8, a9, a10, a11, a12, a13, a14, a15, a16, a17) 0 := by
  unfold wpX_loadCorners
  dsimp only
  refine pk_loop (σ := (Nat → Int64) × (Nat → Int64) × (Nat → Int64) × (Nat → Int64)) (fun fu i s => wX_loadCorners_2 post 0 l sz md cu fu (nI i) a1 a2 a3 a4 a5 a6 a7 a8 a9 s.1 s.2.1 s.2.2.1 s.2.2.2 a14 a15 a16 a17) (fun i s => ∀ j, j < i → gk_p s.1 s.2.1 s.2.2.1 s.2.2.2 j = ((a2 (4 * j)).toInt, (a2 (4 * j + 1)).toInt, (a2 (4 * j + 2)).toInt, (a2 (4 * j + 3)).toInt)) 3 0 (a10, a11, a12, a13) (by decide) (fun j hj => absurd hj (Nat.not_lt_zero _)) ?_ ?_
  · intro fu s h
    exact pk_le 3 3 (fun _ => H _ _ _ _ h) (fun z => absurd z (by omega))
  · intro fu i s hi h hw
    have c : (nI i).toNatClampNeg = i := nI_clamp (by omega)
    have v : vp_in (nI i) 16 := vp_in_nI (by omega) (by decide)
    have v0 : vp_in (12 * 0 + 4 * nI i) 120 := by rw [gd_iy]; exact vp_in_nI (by omega) (by decide)
    have c0 : (12 * 0 + 4 * nI i : Int32).toNatClampNeg = 4 * i := by rw [gd_iy]; exact nI_clamp (by omega)
    have c1 : (12 * 0 + 4 * nI i + 1 : Int32).toNatClampNeg = 4 * i + 1 := gd_c (f := 1) hi (by decide)
    have c2 : (12 * 0 + 4 * nI i + 2 : Int32).toNatClampNeg = 4 * i + 2 := gd_c (f := 2) hi (by decide)
    have c3 : (12 * 0 + 4 * nI i + 3 : Int32).toNatClampNeg = 4 * i + 3 := gd_c (f := 3) hi (by decide)
    refine pk_le 3 i (fun z => absurd z (by omega)) (fun _ => ?_)
    rw [c, c0, c1, c2, c3]
    refine ⟨v0, v, nm_e ⟨gd_v (f := 1) hi (by decide), v, nm_e ⟨gd_v (f := 2) hi (by decide), v, nm_e ⟨gd_v (f := 3) hi (by decide), v, nm_e (nm_r (nI_1 i) (hw (vp_updL s.1 i (a2 (4 * i)).toInt64, vp_updL s.2.1 i (a2 (4 * i + 1)).toInt64, vp_updL s.2.2.1 i (a2 (4 * i + 2)).toInt64, vp_updL s.2.2.2 i (a2 (4 * i + 3)).toInt64) (fun j hj => ?_)))⟩⟩⟩⟩
    by_cases e : j = i
    · subst e
      unfold gk_p
      dsimp only
      rw [pk_uLs, pk_uLs, pk_uLs, pk_uLs, Int32.toInt_toInt64, Int32.toInt_toInt64, Int32.toInt_toInt64, Int32.toInt_toInt64]
    · have := h j (by omega)
      unfold gk_p at this ⊢
      dsimp only
      rw [pk_uLn e, pk_uLn e, pk_uLn e, pk_uLn e]
      exact this
theorem gd_clear {post : St2 → Prop} {l sz md cu : Int32} {a1 a2 a3 a4 a5 : Nat → Int32} {a6 a7 a8 a9 a10 a11 a12 a13 a14 a15 a16 a17 : Nat → Int64} (H : ∀ b3 b4, (∀ j, j < 16 → b3 j = 16 ∧ b4 j = -1) → post (l, sz, md, cu, a1, a2, b3, b4, a5, a6, a7, a8, a9, a10, a11, a12, a13, a14, a15, a16, a17)) : wpX_clear post (l, sz, md, cu, a1, a2, a3, a4, a5, a6, a7, a8, a9, a10, a11, a12, a13, a14, a15, a16, a17) 0 := by
  unfold wpX_clear
  dsimp only
  refine pk_loop (σ := (Nat → Int32) × (Nat → Int32)) (fun fu i s => wX_clear_2 post 0 l sz md cu fu (nI i) a1 a2 s.1 s.2 a5 a6 a7 a8 a9 a10 a11 a12 a13 a14 a15 a16 a17) (fun i s => ∀ j, j < i → s.1 j = 16 ∧ s.2 j = -1) 16 0 (a3, a4) (by decide) (fun j hj => absurd hj (Nat.not_lt_zero _)) ?_ ?_
  · intro fu s h
    exact pk_le 16 16 (fun _ => H _ _ h) (fun z => absurd z (by omega))
  · intro fu i s hi h hw
    have c : (16 * 0 + nI i : Int32).toNatClampNeg = i := by rw [gd_i0]; exact nI_clamp (by omega)
    have v : vp_in (16 * 0 + nI i) 160 := by rw [gd_i0]; exact vp_in_nI (by omega) (by decide)
    refine pk_le 16 i (fun z => absurd z (by omega)) (fun _ => ?_)
    rw [c]
    refine ⟨v, nm_e ⟨v, nm_e (nm_r (nI_1 i) (hw (upd s.1 i 16, upd s.2 i (-1)) (fun j hj => ?_)))⟩⟩
    by_cases e : j = i
    · subst e
      exact ⟨pk_us, pk_us⟩
    · have := h j (by omega)
      dsimp only
      rw [pk_un e, pk_un e]
      exact this
end
section
/-! meet, fillRow -/
theorem ge_last {X W i : Int} (hW : 0 < W) : i ≤ (16 * X + 17 * W) / (2 * W) - 1 ↔ 0 ≤ 16 * X - (2 * i - 15) * W := by
  have h := Int.le_ediv_iff_mul_le (a := i + 1) (b := 16 * X + 17 * W) (c := 2 * W) (by omega)
  have e1 : (i + 1) * (2 * W) = 2 * (i * W) + 2 * W := by grind
  have e2 : (2 * i - 15) * W = 2 * (i * W) - 15 * W := by grind
  rw [e1] at h
  rw [e2]
  constructor
  · intro k
    have := h.mp (by omega)
    omega
  · intro k
    have := h.mpr (by omega)
    omega
theorem ge_first {X W i : Int} (hW : 0 < W) : (16 * X + 17 * W + 2 * W - 1) / (2 * W) - 1 ≤ i ↔ 16 * X - (2 * i - 15) * W ≤ 0 := by
  have h := Int.ediv_lt_iff_lt_mul (a := 16 * X + 17 * W + 2 * W - 1) (b := i + 2) (c := 2 * W) (by omega)
  have e1 : (i + 2) * (2 * W) = 2 * (i * W) + 4 * W := by grind
  have e2 : (2 * i - 15) * W = 2 * (i * W) - 15 * W := by grind
  rw [e1] at h
  rw [e2]
  constructor
  · intro k
    have := h.mp (by omega)
    omega
  · intro k
    have := h.mpr (by omega)
    omega
theorem ge_dv {n d : Int64} {N D : Int} (hn : n.toInt = N) (hd : d.toInt = D) (h0 : 0 < D) (hN : 0 ≤ N) (hq : N / D ≤ 1000) : ((n / d).toInt32 - 1).toInt = N / D - 1 := by
  have q0 : 0 ≤ N / D := Int.ediv_nonneg hN (Int.le_of_lt h0)
  have e : (n / d).toInt = N / D := by
    rw [Int64.toInt_div_of_ne_right, hn, hd, Int.tdiv_eq_ediv_of_nonneg hN]
    intro z
    rw [z, show (-1 : Int64).toInt = -1 from rfl] at hd
    omega
  have e2 : (n / d).toInt32.toInt = N / D := by
    rw [Int64.toInt_toInt32, e, ga_bw (by omega) (by omega)]
  exact gw_sub e2 (show (1 : Int32).toInt = 1 from rfl) (by omega) (by omega)
def ge_R (j : Nat) (a3 a4 b3 b4 : Nat → Int32) (lo hi : Int → Prop) : Prop := (∀ i, i ≠ j → b3 i = a3 i ∧ b4 i = a4 i) ∧ (0 ≤ (b3 j).toInt ∧ (b3 j).toInt ≤ 16) ∧ (-1 ≤ (b4 j).toInt ∧ (b4 j).toInt ≤ 15) ∧ (∀ i : Int, (b3 j).toInt ≤ i ↔ (a3 j).toInt ≤ i ∨ lo i) ∧ (∀ i : Int, i ≤ (b4 j).toInt ↔ i ≤ (a4 j).toInt ∨ hi i)
theorem ge_Rc {j : Nat} {a3 a4 b3 b4 : Nat → Int32} {lo hi lo' hi' : Int → Prop} (h : ge_R j a3 a4 b3 b4 lo hi) (h1 : ∀ i, lo i ↔ lo' i) (h2 : ∀ i, hi i ↔ hi' i) : ge_R j a3 a4 b3 b4 lo' hi' :=
  ⟨h.1, h.2.1, h.2.2.1, fun i => by rw [h.2.2.2.1 i, h1 i], fun i => by rw [h.2.2.2.2 i, h2 i]⟩
theorem ge_R0 {j : Nat} {a3 a4 : Nat → Int32} {lo hi : Int → Prop} (r3 : 0 ≤ (a3 j).toInt ∧ (a3 j).toInt ≤ 16) (r4 : -1 ≤ (a4 j).toInt ∧ (a4 j).toInt ≤ 15) (h1 : ∀ i, ¬ lo i) (h2 : ∀ i, ¬ hi i) : ge_R j a3 a4 a3 a4 lo hi :=
  ⟨fun i _ => ⟨rfl, rfl⟩, r3, r4, fun i => ⟨fun z => Or.inl z, fun z => z.elim id (fun y => absurd y (h1 i))⟩, fun i => ⟨fun z => Or.inl z, fun z => z.elim id (fun y => absurd y (h2 i))⟩⟩
theorem ge_Rt {j : Nat} {a3 a4 b3 b4 c3 c4 : Nat → Int32} {lo hi lo' hi' : Int → Prop} (h : ge_R j a3 a4 b3 b4 lo hi) (h' : ge_R j b3 b4 c3 c4 lo' hi') : ge_R j a3 a4 c3 c4 (fun i => lo i ∨ lo' i) (fun i => hi i ∨ hi' i) :=
  ⟨fun i e => ⟨by rw [(h'.1 i e).1, (h.1 i e).1], by rw [(h'.1 i e).2, (h.1 i e).2]⟩, h'.2.1, h'.2.2.1, fun i => by rw [h'.2.2.2.1 i, h.2.2.2.1 i, or_assoc], fun i => by rw [h'.2.2.2.2 i, h.2.2.2.2 i, or_assoc]⟩
theorem ge_84 {post : St2 → Prop} {l sz md cu x11 : Int32} {a1 a2 a3 a4 a5 : Nat → Int32} {a6 a7 a8 a9 a10 a11 a12 a13 a14 a15 a16 a17 : Nat → Int64} {j : Nat} {L : Int} (hj : j < 16) (e11 : x11.toInt = L) (H : ∀ b4, (∀ i, i ≠ j → b4 i = a4 i) → ((b4 j).toInt = L ∨ (b4 j).toInt = (a4 j).toInt) → (∀ i : Int, i ≤ (b4 j).toInt ↔ i ≤ (a4 j).toInt ∨ i ≤ L) → post (l, sz, md, cu, a1, a2, a3, b4, a5, a6, a7, a8, a9, a10, a11, a12, a13, a14, a15, a16, a17)) : wX_meet_84 post x11 (nI j) l sz md cu a1 a2 a3 a4 a5 a6 a7 a8 a9 a10 a11 a12 a13 a14 a15 a16 a17 := by
  have c : (nI j).toNatClampNeg = j := nI_clamp (by omega)
  have v : vp_in (nI j) 160 := vp_in_nI (by omega) (by decide)
  unfold wX_meet_84
  rw [c]
  refine ⟨v, br_c (fun z => ?_) (fun z => ⟨v, nm_e ?_⟩)⟩
  · rw [Int32.le_iff_toInt_le, e11] at z
    exact H a4 (fun _ _ => rfl) (Or.inr rfl) (fun i => ⟨fun y => Or.inl y, fun y => by omega⟩)
  · rw [Int32.le_iff_toInt_le, e11] at z
    refine H _ (fun i e => pk_un e) (Or.inl (by rw [pk_us, e11])) (fun i => ?_)
    rw [pk_us, e11]
    exact ⟨fun y => Or.inr y, fun y => by omega⟩
theorem ge_meet {post : St2 → Prop} {l sz md cu : Int32} {a1 a2 a3 a4 a5 : Nat → Int32} {a6 a7 a8 a9 a10 a11 a12 a13 a14 a15 a16 a17 : Nat → Int64} {j : Nat} {x w : Int64} {X W : Int} (hj : j < 16) (ex : x.toInt = X) (ew : w.toInt = W) (w0 : 0 < W) (w1 : W ≤ 70368744177664) (x1 : -W ≤ X) (x2 : X ≤ W) (r3 : 0 ≤ (a3 j).toInt ∧ (a3 j).toInt ≤ 16) (r4 : -1 ≤ (a4 j).toInt ∧ (a4 j).toInt ≤ 15)
    (H : ∀ b3 b4, ge_R j a3 a4 b3 b4 (fun i => 16 * X - (2 * i - 15) * W ≤ 0) (fun i => 0 ≤ 16 * X - (2 * i - 15) * W) → post (l, sz, md, cu, a1, a2, b3, b4, a5, a6, a7, a8, a9, a10, a11, a12, a13, a14, a15, a16, a17)) : wpX_meet post (l, sz, md, cu, a1, a2, a3, a4, a5, a6, a7, a8, a9, a10, a11, a12, a13, a14, a15, a16, a17) 0 (nI j) x w := by
  have c : (nI j).toNatClampNeg = j := nI_clamp (by omega)
  have v : vp_in (nI j) 160 := vp_in_nI (by omega) (by decide)
  have e7 : (16 * x + 17 * w).toInt = 16 * X + 17 * W := ga_add (ga_mul (show (16 : Int64).toInt = 16 from rfl) ex (by omega) (by omega)) (ga_mul (show (17 : Int64).toInt = 17 from rfl) ew (by omega) (by omega)) (by omega) (by omega)
  have e9 : (2 * w).toInt = 2 * W := ga_mul (show (2 : Int64).toInt = 2 from rfl) ew (by omega) (by omega)
  have e8 : (16 * x + 17 * w + 2 * w - 1).toInt = 16 * X + 17 * W + 2 * W - 1 := ga_sub (ga_add e7 e9 (by omega) (by omega)) (show (1 : Int64).toInt = 1 from rfl) (by omega) (by omega)
  have n9 : ¬ (2 * w : Int64) = 0 := gl_ne e9 (by omega)
  have l1 := (ge_last (X := X) (i := -1) w0).mpr (by omega)
  have l2 := ge_last (X := X) (i := 16) w0
  have l3 : (16 * X + 17 * W) / (2 * W) - 1 ≤ 15 := by
    rcases ga_lg ((16 * X + 17 * W) / (2 * W) - 1) 16 with z | z
    · omega
    · have := l2.mp z
      omega
  have f1 := (ge_first (X := X) (i := 16) w0).mpr (by omega)
  have f2 := ge_first (X := X) (i := -1) w0
  have f3 : 0 ≤ (16 * X + 17 * W + 2 * W - 1) / (2 * W) - 1 := by
    rcases ga_lg (-1) ((16 * X + 17 * W + 2 * W - 1) / (2 * W) - 1) with z | z
    · omega
    · have := f2.mp z
      omega
  have e11 := ge_dv e7 e9 (by omega) (by omega) (by omega)
  have e12 := ge_dv e8 e9 (by omega) (by omega) (by omega)
  unfold wpX_meet
  dsimp only
  refine br_t (gl_gt ew w0) (nm_e (nm_e ⟨n9, nm_e ⟨n9, nm_e (nm_r (gd_i0 j) ?_)⟩⟩))
  rw [c]
  refine ⟨v, br_c (fun z => ?_) (fun z => ⟨v, nm_e ?_⟩)⟩
  · rw [Int32.le_iff_toInt_le, e12] at z
    refine ge_84 hj e11 (fun b4 k1 k2 k3 => H _ _ ⟨fun i e => ⟨rfl, k1 i e⟩, r3, by omega, fun i => ?_, fun i => ?_⟩)
    · dsimp only; rw [← ge_first w0]
      exact ⟨fun y => Or.inl y, fun y => by omega⟩
    · dsimp only; rw [← ge_last w0]
      exact k3 i
  · rw [Int32.le_iff_toInt_le, e12] at z
    refine ge_84 hj e11 (fun b4 k1 k2 k3 => H _ _ ⟨fun i e => ⟨pk_un e, k1 i e⟩, by rw [pk_us, e12]; omega, by omega, fun i => ?_, fun i => ?_⟩)
    · dsimp only; rw [← ge_first w0, pk_us, e12]
      exact ⟨fun y => Or.inr y, fun y => by omega⟩
    · dsimp only; rw [← ge_last w0]
      exact k3 i
theorem ge_u {py X W X' W' : Int} {p p' : gv_V} (h : gm_met py p p' X W) (h' : gm_met py p p' X' W') : X' = X ∧ W' = W := by
  rcases h with ⟨h1, h2, h3⟩ | ⟨h1, h2, h3, h4⟩ | ⟨h1, h2, h3, h4⟩ <;> rcases h' with ⟨k1, k2, k3⟩ | ⟨k1, k2, k3, k4⟩ | ⟨k1, k2, k3, k4⟩
  · exact ⟨by rw [h2, k2], by rw [h3, k3]⟩
  · omega
  · omega
  · omega
  · exact ⟨by rw [h3, k3], by rw [h4, k4]⟩
  · omega
  · omega
  · omega
  · exact ⟨by rw [h3, k3], by rw [h4, k4]⟩
def ge_lo (py : Int) (p p' : gv_V) (i : Int) : Prop := ∃ X W, gm_met py p p' X W ∧ 16 * X - (2 * i - 15) * W ≤ 0
def ge_hi (py : Int) (p p' : gv_V) (i : Int) : Prop := ∃ X W, gm_met py p p' X W ∧ 0 ≤ 16 * X - (2 * i - 15) * W
theorem ge_lou {py X W : Int} {p p' : gv_V} (h : gm_met py p p' X W) (i : Int) : 16 * X - (2 * i - 15) * W ≤ 0 ↔ ge_lo py p p' i := by
  constructor
  · exact fun k => ⟨X, W, h, k⟩
  · rintro ⟨X', W', m, k⟩
    obtain ⟨u1, u2⟩ := ge_u h m
    rw [u1, u2] at k
    exact k
theorem ge_hiu {py X W : Int} {p p' : gv_V} (h : gm_met py p p' X W) (i : Int) : 0 ≤ 16 * X - (2 * i - 15) * W ↔ ge_hi py p p' i := by
  constructor
  · exact fun k => ⟨X, W, h, k⟩
  · rintro ⟨X', W', m, k⟩
    obtain ⟨u1, u2⟩ := ge_u h m
    rw [u1, u2] at k
    exact k
theorem ge_fb {py : Int} {v : gv_V} (h : gp_wx v) (y1 : -15 ≤ py) (y2 : py ≤ 15) : -32505856 ≤ gm_f py v ∧ gm_f py v ≤ 32505856 ∧ -15728640 ≤ py * v.2.2.2 ∧ py * v.2.2.2 ≤ 15728640 := by
  obtain ⟨w0, w1, x1, x2, q1, q2⟩ := h
  have := ga_ab (x := py) (y := v.2.2.2) (a := 15) (b := 1048576) y1 y2 (by omega) w1
  unfold gm_f
  omega
theorem ge_mw {x w x' w' a b : Int} (h0 : 0 < w) (h1 : w ≤ 1048576) (h2 : -w ≤ x) (h3 : x ≤ w) (k0 : 0 < w') (k1 : w' ≤ 1048576) (k2 : -w' ≤ x') (k3 : x' ≤ w') (a0 : 0 < a) (a1 : a ≤ 32505856) (b0 : 0 < b) (b1 : b ≤ 32505856) :
    0 < w * b + w' * a ∧ w * b + w' * a ≤ 70368744177664 ∧ -(w * b + w' * a) ≤ x * b + x' * a ∧ x * b + x' * a ≤ w * b + w' * a ∧ (0 ≤ w * b ∧ w * b ≤ 34084860461056) ∧ (0 ≤ w' * a ∧ w' * a ≤ 34084860461056) ∧ (-34084860461056 ≤ x * b ∧ x * b ≤ 34084860461056) ∧ (-34084860461056 ≤ x' * a ∧ x' * a ≤ 34084860461056) := by
  have u1 := Int.mul_pos h0 b0
  have u2 := Int.mul_pos k0 a0
  have u3 := ga_ab (x := w) (y := b) (a := 1048576) (b := 32505856) (by omega) h1 (by omega) b1
  have u4 := ga_ab (x := w') (y := a) (a := 1048576) (b := 32505856) (by omega) k1 (by omega) a1
  have u5 := ga_ab (x := x) (y := b) (a := w) (b := b) h2 h3 (by omega) (by omega)
  have u6 := ga_ab (x := x') (y := a) (a := w') (b := a) k2 k3 (by omega) (by omega)
  omega
theorem ge_177 {post : St2 → Prop} {J : Int32 → Int32 → Int32 → Int32 → Int32 → (Nat → Int32) → (Nat → Int32) → (Nat → Int32) → (Nat → Int32) → (Nat → Int32) → (Nat → Int64) → (Nat → Int64) → (Nat → Int64) → (Nat → Int64) → (Nat → Int64) → (Nat → Int64) → (Nat → Int64) → (Nat → Int64) → (Nat → Int64) → (Nat → Int64) → (Nat → Int64) → (Nat → Int64) → Prop} {x3 : Int64} {l sz md cu : Int32} {a1 a2 a3 a4 a5 : Nat → Int32} {a6 a7 a8 a9 a10 a11 a12 a13 a14 a15 a16 a17 : Nat → Int64} {j k k' : Nat} {x11 z0 : Int64} {a b : Int} {P P' : gv_V} (hj : j < 16) (hk : k < 16) (hk' : k' < 16) (eP : gk_p a10 a11 a12 a13 k = P) (eP' : gk_p a10 a11 a12 a13 k' = P') (wP : gp_wx P) (wP' : gp_wx P') (ea : x11.toInt = a) (eb : z0.toInt = b) (a0 : 0 < a) (a1' : a ≤ 32505856) (b0 : 0 < b) (b1' : b ≤ 32505856) (r3 : 0 ≤ (a3 j).toInt ∧ (a3 j).toInt ≤ 16) (r4 : -1 ≤ (a4 j).toInt ∧ (a4 j).toInt ≤ 15)
    (H : ∀ b3 b4, ge_R j a3 a4 b3 b4 (fun i => 16 * (P.1 * b + P'.1 * a) - (2 * i - 15) * (P.2.2.2 * b + P'.2.2.2 * a) ≤ 0) (fun i => 0 ≤ 16 * (P.1 * b + P'.1 * a) - (2 * i - 15) * (P.2.2.2 * b + P'.2.2.2 * a)) → J (nI (k + 1)) l sz md cu a1 a2 b3 b4 a5 a6 a7 a8 a9 a10 a11 a12 a13 a14 a15 a16 a17) : wX_fillRow_177 post J 0 (nI j) x3 (nI k) (nI k') x11 z0 l sz md cu a1 a2 a3 a4 a5 a6 a7 a8 a9 a10 a11 a12 a13 a14 a15 a16 a17 := by
  subst eP
  subst eP'
  have c1 : (nI k).toNatClampNeg = k := nI_clamp (by omega)
  have c2 : (nI k').toNatClampNeg = k' := nI_clamp (by omega)
  have v1 : vp_in (nI k) 16 := vp_in_nI hk (by decide)
  have v2 : vp_in (nI k') 16 := vp_in_nI hk' (by decide)
  obtain ⟨w0, w1, x1, x2, _, _⟩ := wP
  obtain ⟨w0', w1', x1', x2', _, _⟩ := wP'
  obtain ⟨q1, q2, q3, q4, q5, q6, q7, q8⟩ := ge_mw w0 w1 x1 x2 w0' w1' x1' x2' a0 a1' b0 b1'
  unfold wX_fillRow_177
  rw [c1, c2]
  refine ⟨v1, v2, v1, v2, ge_meet hj (ga_add (ga_mul rfl eb ?_ ?_) (ga_mul rfl ea ?_ ?_) ?_ ?_) (ga_add (ga_mul rfl eb ?_ ?_) (ga_mul rfl ea ?_ ?_) ?_ ?_) q1 q2 q3 q4 r3 r4 (fun b3 b4 hR => nm_r (nI_1 k) (H b3 b4 hR))⟩ <;> simp only [gk_p] at * <;> omega
end
section
/-! fillRow, showRow -/
theorem gf_145 {post : St2 → Prop} {J : Int32 → Int32 → Int32 → Int32 → Int32 → (Nat → Int32) → (Nat → Int32) → (Nat → Int32) → (Nat → Int32) → (Nat → Int32) → (Nat → Int64) → (Nat → Int64) → (Nat → Int64) → (Nat → Int64) → (Nat → Int64) → (Nat → Int64) → (Nat → Int64) → (Nat → Int64) → (Nat → Int64) → (Nat → Int64) → (Nat → Int64) → (Nat → Int64) → Prop} {x3 : Int64} {l sz md cu : Int32} {a1 a2 a3 a4 a5 : Nat → Int32} {a6 a7 a8 a9 a10 a11 a12 a13 a14 a15 a16 a17 : Nat → Int64} {j k k' : Nat} {x7 x9 : Int64} {py : Int} {P P' : gv_V} (hj : j < 16) (hk : k < 16) (hk' : k' < 16) (eP : gk_p a10 a11 a12 a13 k = P) (eP' : gk_p a10 a11 a12 a13 k' = P') (wP : gp_wx P) (wP' : gp_wx P') (y1 : -15 ≤ py) (y2 : py ≤ 15) (e7 : x7.toInt = gm_f py P) (e9 : x9.toInt = gm_f py P') (hf : (gm_f py P < 0 ∧ 0 < gm_f py P') ∨ (0 < gm_f py P ∧ gm_f py P' < 0)) (r3 : 0 ≤ (a3 j).toInt ∧ (a3 j).toInt ≤ 16) (r4 : -1 ≤ (a4 j).toInt ∧ (a4 j).toInt ≤ 15)
    (H : ∀ b3 b4, ge_R j a3 a4 b3 b4 (ge_lo py P P') (ge_hi py P P') → J (nI (k + 1)) l sz md cu a1 a2 b3 b4 a5 a6 a7 a8 a9 a10 a11 a12 a13 a14 a15 a16 a17) : wX_fillRow_145 post J 0 (nI j) x3 (nI k) (nI k') x7 x9 l sz md cu a1 a2 a3 a4 a5 a6 a7 a8 a9 a10 a11 a12 a13 a14 a15 a16 a17 := by
  obtain ⟨f1, f2, _, _⟩ := ge_fb wP y1 y2
  obtain ⟨g1, g2, _, _⟩ := ge_fb wP' y1 y2
  unfold wX_fillRow_145
  rcases hf with ⟨z, y⟩ | ⟨z, y⟩
  · refine br_f (gl_nge e7 z) ?_
    unfold wX_fillRow_160
    refine br_t (gl_ge e9 (by omega)) (ge_177 hj hk hk' eP eP' wP wP' (ga_neg e7 (by omega) (by omega)) e9 (by omega) (by omega) y g2 r3 r4 (fun b3 b4 hR => H b3 b4 ?_))
    have m : gm_met py P P' (P.1 * gm_f py P' + P'.1 * (-(gm_f py P))) (P.2.2.2 * gm_f py P' + P'.2.2.2 * (-(gm_f py P))) := Or.inr (Or.inl ⟨z, y, rfl, rfl⟩)
    exact ge_Rc hR (ge_lou m) (ge_hiu m)
  · refine br_t (gl_ge e7 (by omega)) ?_
    unfold wX_fillRow_160
    refine br_f (gl_nge e9 y) (ge_177 hj hk hk' eP eP' wP wP' e7 (ga_neg e9 (by omega) (by omega)) z f2 (by omega) (by omega) r3 r4 (fun b3 b4 hR => H b3 b4 ?_))
    have m : gm_met py P P' (P.1 * (-(gm_f py P')) + P'.1 * gm_f py P) (P.2.2.2 * (-(gm_f py P')) + P'.2.2.2 * gm_f py P) := Or.inr (Or.inr ⟨z, y, rfl, rfl⟩)
    exact ge_Rc hR (ge_lou m) (ge_hiu m)
theorem gf_39 {post : St2 → Prop} {J : Int32 → Int32 → Int32 → Int32 → Int32 → (Nat → Int32) → (Nat → Int32) → (Nat → Int32) → (Nat → Int32) → (Nat → Int32) → (Nat → Int64) → (Nat → Int64) → (Nat → Int64) → (Nat → Int64) → (Nat → Int64) → (Nat → Int64) → (Nat → Int64) → (Nat → Int64) → (Nat → Int64) → (Nat → Int64) → (Nat → Int64) → (Nat → Int64) → Prop} {x3 : Int64} {l sz md cu : Int32} {a1 a2 a3 a4 a5 : Nat → Int32} {a6 a7 a8 a9 a10 a11 a12 a13 a14 a15 a16 a17 : Nat → Int64} {j k k' : Nat} {py : Int} {P P' : gv_V} (hj : j < 16) (hk : k < 16) (hk' : k' < 16) (eP : gk_p a10 a11 a12 a13 k = P) (eP' : gk_p a10 a11 a12 a13 k' = P') (wP : gp_wx P) (wP' : gp_wx P') (e3 : x3.toInt = py) (y1 : -15 ≤ py) (y2 : py ≤ 15) (r3 : 0 ≤ (a3 j).toInt ∧ (a3 j).toInt ≤ 16) (r4 : -1 ≤ (a4 j).toInt ∧ (a4 j).toInt ≤ 15)
    (H : ∀ b3 b4, ge_R j a3 a4 b3 b4 (ge_lo py P P') (ge_hi py P P') → J (nI (k + 1)) l sz md cu a1 a2 b3 b4 a5 a6 a7 a8 a9 a10 a11 a12 a13 a14 a15 a16 a17) : wX_fillRow_39 post J 0 (nI j) x3 (nI k) (nI k') l sz md cu a1 a2 a3 a4 a5 a6 a7 a8 a9 a10 a11 a12 a13 a14 a15 a16 a17 := by
  have c1 : (nI k).toNatClampNeg = k := nI_clamp (by omega)
  have c2 : (nI k').toNatClampNeg = k' := nI_clamp (by omega)
  have v1 : vp_in (nI k) 16 := vp_in_nI hk (by decide)
  have v2 : vp_in (nI k') 16 := vp_in_nI hk' (by decide)
  have F : ∀ (q : Nat) (V : gv_V), gk_p a10 a11 a12 a13 q = V → gp_wx V → (16 * a11 q - x3 * a13 q).toInt = gm_f py V := by
    intro q V e w
    subst e
    obtain ⟨g1, g2, g3, g4⟩ := ge_fb w y1 y2
    obtain ⟨w0, w1, u1, u2, u3, u4⟩ := w
    exact ga_sub (ga_mul (show (16 : Int64).toInt = 16 from rfl) rfl (by simp only [gk_p] at *; omega) (by simp only [gk_p] at *; omega)) (ga_mul e3 rfl (by simp only [gk_p] at *; omega) (by simp only [gk_p] at *; omega)) (by simp only [gk_p, gm_f] at *; omega) (by simp only [gk_p, gm_f] at *; omega)
  have e7 := F k P eP wP
  have e9 := F k' P' eP' wP'
  have no : ¬ gm_f py P = 0 → ¬ (gm_f py P < 0 ∧ 0 < gm_f py P') → ¬ (0 < gm_f py P ∧ gm_f py P' < 0) → J (nI (k + 1)) l sz md cu a1 a2 a3 a4 a5 a6 a7 a8 a9 a10 a11 a12 a13 a14 a15 a16 a17 := by
    intro n0 n1 n2
    refine H a3 a4 (ge_R0 r3 r4 ?_ ?_)
    · rintro i ⟨X, W, ⟨m, _⟩ | ⟨m1, m2, _⟩ | ⟨m1, m2, _⟩, _⟩
      · exact n0 m
      · exact n1 ⟨m1, m2⟩
      · exact n2 ⟨m1, m2⟩
    · rintro i ⟨X, W, ⟨m, _⟩ | ⟨m1, m2, _⟩ | ⟨m1, m2, _⟩, _⟩
      · exact n0 m
      · exact n1 ⟨m1, m2⟩
      · exact n2 ⟨m1, m2⟩
  unfold wX_fillRow_39
  rw [c1, c2]
  refine ⟨v1, v1, nm_e ⟨v2, v2, nm_e ?_⟩⟩
  by_cases z : gm_f py P = 0
  · refine br_t (gl_eq e7 z) ⟨v1, v1, ?_⟩
    obtain ⟨w0, w1, u1, u2, _, _⟩ := wP
    have m : gm_met py P P' P.1 P.2.2.2 := Or.inl ⟨z, rfl, rfl⟩
    exact ge_meet (X := P.1) (W := P.2.2.2) hj (by rw [← eP]; rfl) (by rw [← eP]; rfl) w0 (by omega) u1 u2 r3 r4 (fun b3 b4 hR => nm_r (nI_1 k) (H b3 b4 (ge_Rc hR (ge_lou m) (ge_hiu m))))
  · refine br_f (gl_ne e7 z) ?_
    rcases ga_lg (gm_f py P) 0 with y | y
    · refine br_f (gl_nge e7 y) ?_
      rcases ga_lg 0 (gm_f py P') with q | q
      · exact br_t (gl_gt e9 q) (gf_145 hj hk hk' eP eP' wP wP' y1 y2 e7 e9 (Or.inl ⟨y, q⟩) r3 r4 H)
      · exact br_f (gl_ngt e9 q) (br_t (gl_le e7 (by omega)) (nm_r (nI_1 k) (no z (by omega) (by omega))))
    · refine br_t (gl_ge e7 y) (br_f (gl_nle e7 (by omega)) ?_)
      rcases ga_lg (gm_f py P') 0 with q | q
      · exact br_f (gl_nge e9 q) (gf_145 hj hk hk' eP eP' wP wP' y1 y2 e7 e9 (Or.inr ⟨by omega, q⟩) r3 r4 H)
      · exact br_t (gl_ge e9 q) (nm_r (nI_1 k) (no z (by omega) (by omega)))
theorem gf_ex {k : Nat} {Q : Nat → Prop} : ((∃ q, q < k ∧ Q q) ∨ Q k) ↔ ∃ q, q < k + 1 ∧ Q q := by
  constructor
  · rintro (⟨q, h1, h2⟩ | h)
    · exact ⟨q, by omega, h2⟩
    · exact ⟨k, by omega, h⟩
  · rintro ⟨q, h1, h2⟩
    by_cases e : q = k
    · subst e
      exact Or.inr h2
    · exact Or.inl ⟨q, by omega, h2⟩
theorem gf_fill {post : St2 → Prop} {l md cu : Int32} {a1 a2 a3 a4 a5 : Nat → Int32} {a6 a7 a8 a9 a10 a11 a12 a13 a14 a15 a16 a17 : Nat → Int64} {j n : Nat} {p : Nat → gv_V} (hj : j < 16) (hn : n ≤ 16) (hM : ∀ k, k < n → gk_p a10 a11 a12 a13 k = p k) (hw : ∀ k, k < n → gp_wx (p k)) (e3 : a3 j = 16) (e4 : a4 j = -1)
    (H : ∀ b3 b4, ge_R j a3 a4 b3 b4 (fun i => gp_lo (2 * i - 15) (2 * (j : Int) - 15) p n) (fun i => gp_hi (2 * i - 15) (2 * (j : Int) - 15) p n) → post (l, nI n, md, cu, a1, a2, b3, b4, a5, a6, a7, a8, a9, a10, a11, a12, a13, a14, a15, a16, a17)) : wpX_fillRow post (l, nI n, md, cu, a1, a2, a3, a4, a5, a6, a7, a8, a9, a10, a11, a12, a13, a14, a15, a16, a17) 0 (nI j) := by
  have ex : ((2 * nI j - 15 : Int32).toInt64).toInt = 2 * (j : Int) - 15 := by
    rw [Int32.toInt_toInt64]
    exact gw_sub (gw_mul (show (2 : Int32).toInt = 2 from rfl) (nI_toInt (by omega)) (by omega) (by omega)) (show (15 : Int32).toInt = 15 from rfl) (by omega) (by omega)
  unfold wpX_fillRow
  dsimp only
  refine nm_e ?_
  generalize (2 * nI j - 15 : Int32).toInt64 = x3 at *
  refine pk_loop (σ := (Nat → Int32) × (Nat → Int32)) (fun fu i s => wX_fillRow_11 post 0 (nI j) x3 fu (nI i) l (nI n) md cu a1 a2 s.1 s.2 a5 a6 a7 a8 a9 a10 a11 a12 a13 a14 a15 a16 a17) (fun k s => ge_R j a3 a4 s.1 s.2 (fun i => ∃ q, q < k ∧ ge_lo (2 * (j : Int) - 15) (p q) (p (gc_nx n q)) i) (fun i => ∃ q, q < k ∧ ge_hi (2 * (j : Int) - 15) (p q) (p (gc_nx n q)) i)) n 0 (a3, a4) (Nat.zero_le _) ?_ ?_ ?_
  · refine ge_R0 (by rw [e3, show (16 : Int32).toInt = 16 from rfl]; omega) (by rw [e4, show (-1 : Int32).toInt = -1 from rfl]; omega) ?_ ?_
    · rintro i ⟨q, h, _⟩
      omega
    · rintro i ⟨q, h, _⟩
      omega
  · intro fu s h
    exact pk_le n n (fun _ => H _ _ h) (fun z => absurd z (by omega))
  · intro fu i s hi h hw'
    have hx : gc_nx n i < n := by unfold gc_nx; split <;> omega
    have key : wX_fillRow_39 post (wX_fillRow_11 post 0 (nI j) x3 fu) 0 (nI j) x3 (nI i) (nI (gc_nx n i)) l (nI n) md cu a1 a2 s.1 s.2 a5 a6 a7 a8 a9 a10 a11 a12 a13 a14 a15 a16 a17 :=
      gf_39 hj (by omega) (by omega) (hM i hi) (hM _ hx) (hw i hi) (hw _ hx) ex (by omega) (by omega) h.2.1 h.2.2.1 (fun b3 b4 hR => hw' (b3, b4) (ge_Rc (ge_Rt h hR) (fun _ => gf_ex) (fun _ => gf_ex)))
    refine pk_le n i (fun z => absurd z (by omega)) (fun _ => pk_le n (i + 1) (fun z => ?_) (fun z => ?_) rfl (nI_1 i))
    · have e : gc_nx n i = 0 := by unfold gc_nx; rw [if_neg (by omega)]
      rw [e] at key
      exact key
    · have e : gc_nx n i = i + 1 := by unfold gc_nx; rw [if_pos (by omega)]
      rw [e, ← nI_1] at key
      exact key
theorem gf_nI {x : Int32} {r : Nat} (h : x.toInt = (r : Int)) (hr : r < 2 ^ 31) : x = nI r := by
  apply Int32.toInt_inj.mp
  rw [h, nI_toInt hr]
theorem gf_ij (j i : Nat) : (16 * nI j + nI i : Int32) = nI (16 * j + i) := by
  show nI 16 * nI j + nI i = _
  rw [pk_mul, nI_add]
theorem gf_show {post : St2 → Prop} {l sz md cu : Int32} {a1 a2 a3 a4 a5 : Nat → Int32} {a6 a7 a8 a9 a10 a11 a12 a13 a14 a15 a16 a17 : Nat → Int64} {j : Nat} (hj : j < 16) (r3 : 0 ≤ (a3 j).toInt ∧ (a3 j).toInt ≤ 16) (r4 : -1 ≤ (a4 j).toInt ∧ (a4 j).toInt ≤ 15) (e5 : ∀ i, i < 16 → a5 (16 * j + i) = -2)
    (H : ∀ b5, (∀ i : Nat, i < 16 → ((a3 j).toInt ≤ (i : Int) ∧ (i : Int) ≤ (a4 j).toInt → b5 (16 * j + i) = 0) ∧ (¬ ((a3 j).toInt ≤ (i : Int) ∧ (i : Int) ≤ (a4 j).toInt) → b5 (16 * j + i) = -2)) → (∀ q, q < 16 * j ∨ 16 * j + 16 ≤ q → b5 q = a5 q) → post (l, sz, md, cu, a1, a2, a3, a4, b5, a6, a7, a8, a9, a10, a11, a12, a13, a14, a15, a16, a17)) : wpX_showRow post (l, sz, md, cu, a1, a2, a3, a4, a5, a6, a7, a8, a9, a10, a11, a12, a13, a14, a15, a16, a17) 0 (nI j) := by
  have c0 : (16 * 0 + nI j : Int32).toNatClampNeg = j := by rw [gd_i0]; exact nI_clamp (by omega)
  have v0 : vp_in (16 * 0 + nI j) 160 := by rw [gd_i0]; exact vp_in_nI (by omega) (by decide)
  obtain ⟨R, hR⟩ : ∃ R : Nat, (a3 j).toInt = (R : Int) := ⟨(a3 j).toInt.toNat, by omega⟩
  obtain ⟨e, he⟩ : ∃ e : Nat, R ≤ e ∧ (a4 j).toInt < (e : Int) ∧ (∀ i, R ≤ i → i < e → (i : Int) ≤ (a4 j).toInt) := by
    rcases ga_lg (a4 j).toInt (R : Int) with z | z
    · exact ⟨R, Nat.le_refl _, z, fun i h1 h2 => by omega⟩
    · exact ⟨((a4 j).toInt + 1).toNat, by omega, by omega, fun i h1 h2 => by omega⟩
  obtain ⟨he1, he2, he3⟩ := he
  have he4 : e ≤ 16 := by
    rcases Nat.lt_or_ge 16 e with z | z
    · have := he3 16 (by omega) z
      omega
    · exact z
  unfold wpX_showRow
  dsimp only
  rw [c0, gf_nI hR (by omega)]
  refine ⟨v0, nm_e ?_⟩
  refine pk_loop (σ := Nat → Int32) (fun fu i s => wX_showRow_12 post 0 (nI j) l sz md cu fu (nI i) a1 a2 a3 a4 s a6 a7 a8 a9 a10 a11 a12 a13 a14 a15 a16 a17) (fun i s => R ≤ i ∧ (∀ q, q < 16 * j + R ∨ 16 * j + i ≤ q → s q = a5 q) ∧ (∀ q, R ≤ q → q < i → s (16 * j + q) = 0)) e R a5 he1 ⟨Nat.le_refl _, fun _ _ => rfl, fun q h1 h2 => by omega⟩ ?_ ?_
  · intro fu s h
    have lt : a4 j < nI e := by
      rw [Int32.lt_iff_toInt_lt, nI_toInt (by omega)]
      exact he2
    have fin := H s (fun i hi => ⟨fun k => ?_, fun k => ?_⟩) (fun q hq => h.2.1 q (by omega))
    · show _ ∧ _
      rw [c0]
      exact ⟨v0, br_t lt fin⟩
    · exact h.2.2 i (by omega) (by
        rcases Nat.lt_or_ge i e with z | z
        · exact z
        · omega)
    · rw [h.2.1 (16 * j + i) ?_]
      · exact e5 i hi
      · rcases Nat.lt_or_ge i R with z | z
        · omega
        · rcases Nat.lt_or_ge i e with y | y
          · have := he3 i z y
            omega
          · omega
  · intro fu i s hi h hw
    obtain ⟨h0, h1, h2⟩ := h
    have cij : (16 * nI j + nI i : Int32).toNatClampNeg = 16 * j + i := by rw [gf_ij]; exact nI_clamp (by omega)
    have vij : vp_in (16 * nI j + nI i) 256 := by rw [gf_ij]; exact vp_in_nI (by omega) (by decide)
    have nlt : ¬ a4 j < nI i := by
      rw [Int32.lt_iff_toInt_lt, nI_toInt (by omega)]
      have := he3 i h0 hi
      omega
    have es : s (16 * j + i) = -2 := by
      rw [h1 _ (Or.inr (Nat.le_refl _))]
      exact e5 i (by omega)
    show _ ∧ _
    rw [c0, cij]
    refine ⟨v0, br_f nlt ⟨vij, nm_r es (br_t rfl ⟨vij, nm_e (nm_r (nI_1 i) (hw (upd s (16 * j + i) 0) ⟨by omega, fun q hq => ?_, fun q q1 q2 => ?_⟩))⟩)⟩⟩
    · rw [pk_un (by omega)]
      exact h1 q (by omega)
    · by_cases e : q = i
      · subst e
        exact pk_us
      · rw [pk_un (by omega)]
        exact h2 q q1 (by omega)
end
section
/-! the triangle through all six sides -/
def gh_pg (p0 : Nat → gv_V) : Nat → Nat × (Nat → gv_V)
  | 0 => (3, p0)
  | s + 1 => gc_cf (gc_h s) (gh_pg p0 s).2 (gh_pg p0 s).1 (gh_pg p0 s).1
def gh_E (ax ay az aw : Int) : gv_P := if ay < 0 then (-1, -ay, ax, az, aw) else (1, ay, ax, az, aw)
def gh_b (ax ay az aw : Int) : Prop := -20 ≤ ax ∧ ax ≤ 20 ∧ -20 ≤ ay ∧ ay ≤ 20 ∧ -20 ≤ az ∧ az ≤ 20 ∧ (aw = 1 ∨ (aw = 0 ∧ az = 0))
theorem gh_ok {ax ay az aw : Int} (h : gh_b ax ay az aw) (h0 : ay ≠ 0) : gv_ok (gh_E ax ay az aw) := by
  obtain ⟨h1, h2, h3, h4, h5, h6, h7⟩ := h
  unfold gh_E gv_ok
  split
  · exact ⟨Or.inr rfl, by dsimp only; omega, by dsimp only; omega, h1, h2, h5, h6, h7⟩
  · exact ⟨Or.inl rfl, by dsimp only; omega, by dsimp only; omega, h1, h2, h5, h6, h7⟩
theorem gh_ev5 (E : gv_P) (v : gv_V) : gv_ev E 5 v = -E.2.1 * v.1 + E.1 * (E.2.2.1 - 4 * E.2.2.2.2) * v.2.1 + 4 * E.2.1 * v.2.2.2 := by
  simp [gv_ev, gv_a, gv_b, gv_c]
theorem gh_tri {E : gv_P} {ay : Int} {p : Nat → gv_V} (hE : gv_ok E) (hy : E.1 * ay = E.2.1) (hb : -20 ≤ ay ∧ ay ≤ 20) (p0 : p 0 = (E.2.2.1, ay, E.2.2.2.1, E.2.2.2.2)) (p1 : p 1 = (4, 0, 1, 1)) (p2 : p 2 = (0, 0, 1, 1)) : gc_G E 0 p 3 := by
  obtain ⟨t, m, ax, az, aw⟩ := E
  simp only [gv_ok] at *
  obtain ⟨ht, hm1, hm2, hx1, hx2, hz1, hz2, hw⟩ := hE
  have A1 : gv_la (t, m, ax, az, aw) (ax, ay, az, aw) = m := hy
  have A2 : gv_lb (t, m, ax, az, aw) (ax, ay, az, aw) = 0 := by simp only [gv_lb]; grind
  have A3 : gv_ev (t, m, ax, az, aw) 5 (ax, ay, az, aw) = 0 := by rw [gh_ev5]; simp only; grind
  have B1 : gv_la (t, m, ax, az, aw) (4, 0, 1, 1) = 0 := by simp only [gv_la]; omega
  have B2 : gv_lb (t, m, ax, az, aw) (4, 0, 1, 1) = 4 * m := by simp only [gv_lb]; omega
  have B3 : gv_ev (t, m, ax, az, aw) 5 (4, 0, 1, 1) = 0 := by rw [gh_ev5]; simp only; omega
  have C1 : gv_la (t, m, ax, az, aw) (0, 0, 1, 1) = 0 := by simp only [gv_la]; omega
  have C2 : gv_lb (t, m, ax, az, aw) (0, 0, 1, 1) = 0 := by simp only [gv_lb]; omega
  have C3 : gv_ev (t, m, ax, az, aw) 5 (0, 0, 1, 1) = 4 * m := by rw [gh_ev5]; simp only; omega
  refine ⟨fun k hk => ?_, fun k hk => ?_, 2, by decide, p2⟩
  · rcases (show k = 0 ∨ k = 1 ∨ k = 2 by omega) with q | q | q <;> subst q
    · rw [p0]
      refine ⟨⟨?_, by rw [A1]; omega, by rw [A2]; omega, by rw [A3]; omega, by rw [A1, A2, A3]; omega, fun i hi => absurd hi (Nat.not_lt_zero _)⟩, ?_⟩
      · simp only [gv_pl]; grind
      · simp only [gv_bd]; omega
    · rw [p1]
      refine ⟨⟨?_, by rw [B1]; omega, by rw [B2]; omega, by rw [B3]; omega, by rw [B1, B2, B3]; omega, fun i hi => absurd hi (Nat.not_lt_zero _)⟩, ?_⟩
      · simp only [gv_pl]; omega
      · simp only [gv_bd]; omega
    · rw [p2]
      refine ⟨⟨?_, by rw [C1]; omega, by rw [C2]; omega, by rw [C3]; omega, by rw [C1, C2, C3]; omega, fun i hi => absurd hi (Nat.not_lt_zero _)⟩, ?_⟩
      · simp only [gv_pl]; omega
      · simp only [gv_bd]; omega
  · rcases (show k = 0 ∨ k = 1 ∨ k = 2 by omega) with q | q | q <;> subst q
    · show gv_ed _ (p 0) (p 1)
      rw [p0, p1]
      exact Or.inl ⟨5, by omega, A3, B3⟩
    · show gv_ed _ (p 1) (p 2)
      rw [p1, p2]
      exact Or.inr (Or.inr ⟨rfl, B1, by rw [B2]; omega⟩)
    · show gv_ed _ (p 2) (p 0)
      rw [p0, p2]
      exact Or.inr (Or.inl ⟨rfl, A2, by rw [A1]; omega⟩)
theorem gh_w0 {E : gv_P} {s : Nat} {v : gv_V} (hE : gv_ok E) (h : gv_vk E s v) : 0 ≤ v.2.2.2 := by
  obtain ⟨k1, k2, k3, k4, k5, k6⟩ := h
  have hm := hE.2.1
  have aw : 0 ≤ E.2.2.2.2 := by
    rcases hE.2.2.2.2.2.2.2 with q | q <;> omega
  apply ga_nn (g := 4 * E.2.1) (by omega)
  have := Int.mul_nonneg aw k2
  rw [gh_ev5] at k4
  simp only [gv_la, gv_lb] at *
  have e : 4 * E.2.1 * v.2.2.2 = (E.2.1 * v.1 - E.1 * E.2.2.1 * v.2.1) + (-E.2.1 * v.1 + E.1 * (E.2.2.1 - 4 * E.2.2.2.2) * v.2.1 + 4 * E.2.1 * v.2.2.2) + 4 * (E.2.2.2.2 * (E.1 * v.2.1)) := by grind
  rw [e]
  omega
theorem gh_G {E : gv_P} {p : Nat → gv_V} (hE : gv_ok E) (h0 : gc_G E 0 p 3) : ∀ s, s ≤ 5 → gc_G E s (gh_pg p s).2 (gh_pg p s).1 := by
  intro s
  induction s with
  | zero => exact fun _ => h0
  | succ s ih => exact fun hs => (gc_side hE (by omega) (ih (by omega))).1
theorem gh_sz {E : gv_P} {p : Nat → gv_V} (hE : gv_ok E) (h0 : gc_G E 0 p 3) : ∀ s, s ≤ 5 → (gh_pg p s).1 ≤ 13 := by
  have G := gh_G hE h0
  have S : ∀ s, s ≤ 4 → 2 * (gh_pg p (s + 1)).1 ≤ 3 * (gh_pg p s).1 := fun s hs => (gc_side hE hs (G s (by omega))).2
  have s0 : (gh_pg p 0).1 = 3 := rfl
  have s1 : 2 * (gh_pg p 1).1 ≤ 3 * (gh_pg p 0).1 := S 0 (by omega)
  have s2 : 2 * (gh_pg p 2).1 ≤ 3 * (gh_pg p 1).1 := S 1 (by omega)
  have s3 : 2 * (gh_pg p 3).1 ≤ 3 * (gh_pg p 2).1 := S 2 (by omega)
  have s4 : 2 * (gh_pg p 4).1 ≤ 3 * (gh_pg p 3).1 := S 3 (by omega)
  have s5 : 2 * (gh_pg p 5).1 ≤ 3 * (gh_pg p 4).1 := S 4 (by omega)
  have all : ∀ s, s ≤ 5 → (∀ k, k < (gh_pg p s).1 → 0 ≤ gc_h s ((gh_pg p s).2 k)) → (gh_pg p (s + 1)).1 = (gh_pg p s).1 := fun s _ hh => (gm_5a hh _ (Nat.le_refl _)).1
  have key : (gh_pg p 3).1 = (gh_pg p 2).1 ∨ (gh_pg p 4).1 = (gh_pg p 3).1 := by
    rcases hE.1 with t | t
    · refine Or.inl (all 2 (by omega) (fun k hk => ?_))
      have v := (G 2 (by omega)).1 k hk
      have w := gh_w0 hE v.1
      have y := v.1.2.1
      simp only [gv_la, t] at y
      show 0 ≤ gc_h 2 _
      simp [gc_h]
      omega
    · refine Or.inr (all 3 (by omega) (fun k hk => ?_))
      have v := (G 3 (by omega)).1 k hk
      have w := gh_w0 hE v.1
      have y := v.1.2.1
      simp only [gv_la, t] at y
      show 0 ≤ gc_h 3 _
      simp [gc_h]
      omega
  intro s hs
  rcases (show s = 0 ∨ s = 1 ∨ s = 2 ∨ s = 3 ∨ s = 4 ∨ s = 5 by omega) with q | q | q | q | q | q <;> subst q <;> omega
/-- what is left of the triangle: few corners, in range, and its rows are the region's -/
theorem gh_end {E : gv_P} {p : Nat → gv_V} (hE : gv_ok E) (h0 : gc_G E 0 p 3) : (gh_pg p 6).1 ≤ 13 ∧ (∀ k, k < (gh_pg p 6).1 → gp_wx ((gh_pg p 6).2 k)) ∧ ∀ px py : Int, -15 ≤ px → px ≤ 15 → -15 ≤ py → py ≤ 15 → py ≠ 0 → ((gp_lo px py (gh_pg p 6).2 (gh_pg p 6).1 ∧ gp_hi px py (gh_pg p 6).2 (gh_pg p 6).1) ↔ gp_in E px py) := by
  have G := gh_G hE h0 5 (by omega)
  have Z := gh_sz hE h0 5 (by omega)
  rcases ga_lg E.2.2.2.2 E.2.2.2.1 with z | z
  · obtain ⟨k1, k2⟩ := gm_out hE z G
    exact ⟨Nat.le_trans k1 Z, fun k hk => gp_vx (k2 k hk).1 (k2 k hk).2.1, fun px py _ _ _ _ h5 => gp_no hE z k2 h5⟩
  · obtain ⟨k1, k2⟩ := gm_in hE z G
    exact ⟨by show (gc_cf (gc_h 5) (gh_pg p 5).2 (gh_pg p 5).1 (gh_pg p 5).1).1 ≤ 13; omega, fun k hk => gp_vx (k1.1 k hk).1 (k1.1 k hk).2, fun px py h1 h2 h3 h4 h5 => gp_iff hE z k1 h1 h2 h3 h4 h5⟩
end
section
/-! refresh -/
def gj_S (In : Nat → Nat → Prop) (b3 b4 b5 : Nat → Int32) (j : Nat) : Prop := ∀ i : Nat, i < 16 → ((((b3 j).toInt ≤ (i : Int) ∧ (i : Int) ≤ (b4 j).toInt) ↔ In i j) ∧ (In i j → b5 (16 * j + i) = 0) ∧ (¬ In i j → b5 (16 * j + i) = -2))
theorem gj_93 {post : St2 → Prop} {J : Int32 → Int32 → Int32 → Int32 → Int32 → (Nat → Int32) → (Nat → Int32) → (Nat → Int32) → (Nat → Int32) → (Nat → Int32) → (Nat → Int64) → (Nat → Int64) → (Nat → Int64) → (Nat → Int64) → (Nat → Int64) → (Nat → Int64) → (Nat → Int64) → (Nat → Int64) → (Nat → Int64) → (Nat → Int64) → (Nat → Int64) → (Nat → Int64) → Prop} {l md cu : Int32} {a1 a2 a3 a4 a5 : Nat → Int32} {a6 a7 a8 a9 a10 a11 a12 a13 a14 a15 a16 a17 : Nat → Int64} {n : Nat} {p : Nat → gv_V} {In : Nat → Nat → Prop} (hn : n ≤ 16) (hM : ∀ k, k < n → gk_p a10 a11 a12 a13 k = p k) (hw : ∀ k, k < n → gp_wx (p k)) (hI : ∀ i j : Nat, i < 16 → j < 16 → ((gp_lo (2 * (i : Int) - 15) (2 * (j : Int) - 15) p n ∧ gp_hi (2 * (i : Int) - 15) (2 * (j : Int) - 15) p n) ↔ In i j))
    (e34 : ∀ j, j < 16 → a3 j = 16 ∧ a4 j = -1) (e5 : ∀ q, q < 256 → a5 q = -2)
    (H : ∀ b3 b4 b5, (∀ j, j < 16 → gj_S In b3 b4 b5 j) → J 1 l (nI n) md cu a1 a2 b3 b4 b5 a6 a7 a8 a9 a10 a11 a12 a13 a14 a15 a16 a17) : ∃ fu, wX_refresh_93 post J 0 fu 0 l (nI n) md cu a1 a2 a3 a4 a5 a6 a7 a8 a9 a10 a11 a12 a13 a14 a15 a16 a17 := by
  refine pk_loop (σ := (Nat → Int32) × (Nat → Int32) × (Nat → Int32)) (fun fu i s => wX_refresh_93 post J 0 fu (nI i) l (nI n) md cu a1 a2 s.1 s.2.1 s.2.2 a6 a7 a8 a9 a10 a11 a12 a13 a14 a15 a16 a17) (fun j s => (∀ j', j' < j → gj_S In s.1 s.2.1 s.2.2 j') ∧ (∀ j', j ≤ j' → j' < 16 → s.1 j' = 16 ∧ s.2.1 j' = -1 ∧ ∀ i, i < 16 → s.2.2 (16 * j' + i) = -2)) 16 0 (a3, a4, a5) (by decide) ⟨fun j' hj => absurd hj (Nat.not_lt_zero _), fun j' _ hj => ⟨(e34 j' hj).1, (e34 j' hj).2, fun i hi => e5 _ (by omega)⟩⟩ ?_ ?_
  · intro fu s h
    exact pk_le 16 16 (fun _ => nm_r (show (0 + 1 : Int32) = 1 by decide) (H _ _ _ h.1)) (fun z => absurd z (by omega))
  · intro fu j s hj h hw'
    obtain ⟨h1, h2⟩ := h
    obtain ⟨k3, k4, k5⟩ := h2 j (Nat.le_refl _) hj
    refine pk_le 16 j (fun z => absurd z (by omega)) (fun _ => ?_)
    refine gf_fill hj hn hM hw k3 k4 (fun b3 b4 hR => ?_)
    refine gf_show hj hR.2.1 hR.2.2.1 k5 (fun b5 g1 g2 => nm_r (nI_1 j) (hw' (b3, b4, b5) ⟨fun j' hj' => ?_, fun j' q1 q2 => ?_⟩))
    · dsimp only
      by_cases e : j' = j
      · subst e
        intro i hi
        have u1 := hR.2.2.2.1 (i : Int)
        have u2 := hR.2.2.2.2 (i : Int)
        rw [k3, show (16 : Int32).toInt = 16 from rfl] at u1
        rw [k4, show (-1 : Int32).toInt = -1 from rfl] at u2
        have t1 : (b3 j').toInt ≤ (i : Int) ↔ gp_lo (2 * (i : Int) - 15) (2 * (j' : Int) - 15) p n := by
          rw [u1]
          exact ⟨fun z => z.elim (fun y => absurd y (by omega)) id, fun z => Or.inr z⟩
        have t2 : (i : Int) ≤ (b4 j').toInt ↔ gp_hi (2 * (i : Int) - 15) (2 * (j' : Int) - 15) p n := by
          rw [u2]
          exact ⟨fun z => z.elim (fun y => absurd y (by omega)) id, fun z => Or.inr z⟩
        have t3 : ((b3 j').toInt ≤ (i : Int) ∧ (i : Int) ≤ (b4 j').toInt) ↔ In i j' := by
          rw [t1, t2]
          exact hI i j' hi hj
        exact ⟨t3, fun z => (g1 i hi).1 (t3.mpr z), fun z => (g1 i hi).2 (fun y => z (t3.mp y))⟩
      · intro i hi
        have t := h1 j' (by omega) i hi
        rw [(hR.1 j' e).1, (hR.1 j' e).2, g2 (16 * j' + i) (by omega)]
        exact t
    · obtain ⟨m3, m4, m5⟩ := h2 j' (by omega) q2
      dsimp only
      rw [(hR.1 j' (by omega)).1, (hR.1 j' (by omega)).2]
      refine ⟨m3, m4, fun i hi => ?_⟩
      rw [g2 (16 * j' + i) (by omega)]
      exact m5 i hi
theorem gj_74 {post : St2 → Prop} {J : Int32 → Int32 → Int32 → Int32 → Int32 → (Nat → Int32) → (Nat → Int32) → (Nat → Int32) → (Nat → Int32) → (Nat → Int32) → (Nat → Int64) → (Nat → Int64) → (Nat → Int64) → (Nat → Int64) → (Nat → Int64) → (Nat → Int64) → (Nat → Int64) → (Nat → Int64) → (Nat → Int64) → (Nat → Int64) → (Nat → Int64) → (Nat → Int64) → Prop} {l md cu : Int32} {a1 a2 a3 a4 a5 : Nat → Int32} {a6 a7 a8 a9 a10 a11 a12 a13 a14 a15 a16 a17 : Nat → Int64} {p : Nat → gv_V} (hM : ∀ k, k < 3 → gk_p a10 a11 a12 a13 k = p k) (hz : ∀ s, s ≤ 6 → (gh_pg p s).1 ≤ 16) (hb : ∀ s, s ≤ 5 → ∀ k, k < (gh_pg p s).1 → gv_bd ((gh_pg p s).2 k))
    (H : ∀ md' b10 b11 b12 b13 b14 b15 b16 b17, gk_O b10 b11 b12 b13 (gh_pg p 6) → ∃ fu, wX_refresh_93 post J 0 fu 0 l (nI (gh_pg p 6).1) md' cu a1 a2 a3 a4 a5 a6 a7 a8 a9 b10 b11 b12 b13 b14 b15 b16 b17) : ∃ fu, wX_refresh_74 post J 0 fu 0 l (nI 3) md cu a1 a2 a3 a4 a5 a6 a7 a8 a9 a10 a11 a12 a13 a14 a15 a16 a17 := by
  refine pk_loop (σ := Int32 × (Nat → Int64) × (Nat → Int64) × (Nat → Int64) × (Nat → Int64) × (Nat → Int64) × (Nat → Int64) × (Nat → Int64) × (Nat → Int64)) (fun fu i s => wX_refresh_74 post J 0 fu (nI i) l (nI (gh_pg p i).1) s.1 cu a1 a2 a3 a4 a5 a6 a7 a8 a9 s.2.1 s.2.2.1 s.2.2.2.1 s.2.2.2.2.1 s.2.2.2.2.2.1 s.2.2.2.2.2.2.1 s.2.2.2.2.2.2.2.1 s.2.2.2.2.2.2.2.2) (fun i s => gk_O s.2.1 s.2.2.1 s.2.2.2.1 s.2.2.2.2.1 (gh_pg p i)) 6 0 (md, a10, a11, a12, a13, a14, a15, a16, a17) (by decide) (fun k hk => hM k hk) ?_ ?_
  · intro fu s h
    exact pk_le 6 6 (fun _ => H _ _ _ _ _ _ _ _ _ h) (fun z => absurd z (by omega))
  · intro fu i s hi h hw
    refine pk_le 6 i (fun z => absurd z (by omega)) (fun _ => ?_)
    exact gl_clip (s := i) (by omega) (hz i (by omega)) h (hb i (by omega)) (hz (i + 1) (by omega)) (fun b10 b11 b12 b13 b14 b15 b16 b17 hO => nm_r (nI_1 i) (hw (nI (gh_pg p (i + 1)).1, b10, b11, b12, b13, b14, b15, b16, b17) hO))
/-- which pixels the law calls inside -/
def gj_In (ax ay az aw : Int) (i j : Nat) : Prop := ay ≠ 0 ∧ gp_in (gh_E ax ay az aw) (2 * (i : Int) - 15) (2 * (j : Int) - 15)
theorem gj_38 {post : St2 → Prop} {sz md cu : Int32} {a1 a2 a3 a4 a5 : Nat → Int32} {a6 a7 a8 a9 a10 a11 a12 a13 a14 a15 a16 a17 : Nat → Int64} {ax ay az aw : Int} (ht : gd_tri a2 ax ay az aw) (hB : gh_b ax ay az aw) (e5 : ∀ q, q < 256 → a5 q = -2)
    (H : ∀ sz' md' b3 b4 b5 b6 b7 b8 b9 b10 b11 b12 b13 b14 b15 b16 b17, (∀ j, j < 16 → gj_S (gj_In ax ay az aw) b3 b4 b5 j) → post (1, sz', md', cu, a1, a2, b3, b4, b5, b6, b7, b8, b9, b10, b11, b12, b13, b14, b15, b16, b17)) : ∃ fu, wX_refresh_38 post fu 0 1 sz md cu a1 a2 a3 a4 a5 a6 a7 a8 a9 a10 a11 a12 a13 a14 a15 a16 a17 := by
  refine ⟨2, br_f (by decide) ?_⟩
  obtain ⟨x1, x2, y1, y2, z1, z2, hw⟩ := id hB
  refine gd_find ht y1 y2 (fun c6 c7 c8 c9 e9 => ?_)
  refine gd_clear (fun c3 c4 e34 => ?_)
  refine ⟨pk_in 0 10 (by decide), ?_⟩
  rw [sb_cl0]
  by_cases y0 : ay = 0
  · refine br_t (e9.mpr y0) (nm_r (show (0 + 1 : Int32) = 1 by decide) (br_t (by decide) (H _ _ _ _ _ _ _ _ _ _ _ _ _ _ _ _ _ (fun j hj i hi => ?_))))
    have no : ¬ gj_In ax ay az aw i j := fun z => z.1 y0
    refine ⟨⟨fun z => ?_, fun z => absurd z no⟩, fun z => absurd z no, fun _ => e5 _ (by omega)⟩
    rw [(e34 j hj).1, (e34 j hj).2, show (16 : Int32).toInt = 16 from rfl] at z
    omega
  · refine br_f (fun z => y0 (e9.mp z)) (gd_load (fun c10 c11 c12 c13 e10 => ?_))
    have hE := gh_ok hB y0
    obtain ⟨t0, t1, t2, t3, t4, t5, t6, t7, t8, t9, t10, t11⟩ := ht
    have ey : (gh_E ax ay az aw).1 * ay = (gh_E ax ay az aw).2.1 := by unfold gh_E; split <;> simp only <;> omega
    have ec : (gh_E ax ay az aw).2.2 = (ax, az, aw) := by unfold gh_E; split <;> rfl
    have g0 : gc_G (gh_E ax ay az aw) 0 (gk_p c10 c11 c12 c13) 3 := by
      refine gh_tri hE ey ⟨y1, y2⟩ ?_ ?_ ?_
      · rw [e10 0 (by decide), ec]
        show ((a2 0).toInt, (a2 1).toInt, (a2 2).toInt, (a2 3).toInt) = _
        rw [t0, t1, t2, t3]
      · rw [e10 1 (by decide)]
        show ((a2 4).toInt, (a2 5).toInt, (a2 6).toInt, (a2 7).toInt) = _
        rw [t4, t5, t6, t7]
        rfl
      · rw [e10 2 (by decide)]
        show ((a2 8).toInt, (a2 9).toInt, (a2 10).toInt, (a2 11).toInt) = _
        rw [t8, t9, t10, t11]
        rfl
    have GG := gh_G hE g0
    have SZ := gh_sz hE g0
    obtain ⟨q1, q2, q3⟩ := gh_end hE g0
    refine gj_74 (p := gk_p c10 c11 c12 c13) (fun _ _ => rfl) (fun s hs => ?_) (fun s hs k hk => ((GG s hs).1 k hk).2) (fun md' b10 b11 b12 b13 b14 b15 b16 b17 hO => ?_)
    · by_cases e : s = 6
      · rw [e]
        omega
      · have := SZ s (by omega)
        omega
    · refine gj_93 (In := gj_In ax ay az aw) (by omega) hO q2 (fun i j hi hj => ?_) e34 e5 (fun b3 b4 b5 hS => br_t (by decide) (H _ _ _ _ _ _ _ _ _ _ _ _ _ _ _ _ _ hS))
      rw [q3 (2 * (i : Int) - 15) (2 * (j : Int) - 15) (by omega) (by omega) (by omega) (by omega) (by omega)]
      exact ⟨fun z => ⟨y0, z⟩, fun z => z.2⟩
theorem gj_15 {post : St2 → Prop} {l sz md cu : Int32} {a1 a2 a3 a4 a5 : Nat → Int32} {a6 a7 a8 a9 a10 a11 a12 a13 a14 a15 a16 a17 : Nat → Int64} (H : ∀ b5, (∀ q, q < 256 → b5 q = -2) → ∃ fu, wX_refresh_38 post fu 0 l sz md cu a1 a2 a3 a4 b5 a6 a7 a8 a9 a10 a11 a12 a13 a14 a15 a16 a17) : ∃ fu, wX_refresh_15 post l sz md cu fu 0 a1 a2 a3 a4 a5 a6 a7 a8 a9 a10 a11 a12 a13 a14 a15 a16 a17 := by
  refine pk_loop (σ := Nat → Int32) (fun fu i s => wX_refresh_15 post l sz md cu fu (nI i) a1 a2 a3 a4 s a6 a7 a8 a9 a10 a11 a12 a13 a14 a15 a16 a17) (fun i s => ∀ q, q < i → s q = -2) 256 0 a5 (by decide) (fun q hq => absurd hq (Nat.not_lt_zero _)) ?_ ?_
  · intro fu s h
    exact pk_le 256 256 (fun _ => H _ h) (fun z => absurd z (by omega))
  · intro fu i s hi h hw
    have c : (nI i).toNatClampNeg = i := nI_clamp (by omega)
    refine pk_le 256 i (fun z => absurd z (by omega)) (fun _ => ?_)
    rw [c]
    refine ⟨pk_in i 256 hi, nm_e (nm_r (nI_1 i) (hw _ (fun q hq => ?_)))⟩
    by_cases e : q = i
    · subst e
      exact pk_us
    · rw [pk_un e]
      exact h q (by omega)
/-- refresh with one triangle -/
theorem gj_ref1 {post : St2 → Prop} {sz md : Int32} {a1 a2 a3 a4 a5 : Nat → Int32} {a6 a7 a8 a9 a10 a11 a12 a13 a14 a15 a16 a17 : Nat → Int64} {ax ay az aw : Int} (ht : gd_tri a2 ax ay az aw) (hB : gh_b ax ay az aw)
    (H : ∀ sz' md' b3 b4 b5 b6 b7 b8 b9 b10 b11 b12 b13 b14 b15 b16 b17, (∀ j, j < 16 → gj_S (gj_In ax ay az aw) b3 b4 b5 j) → post (1, sz', md', 1, a1, a2, b3, b4, b5, b6, b7, b8, b9, b10, b11, b12, b13, b14, b15, b16, b17)) : wpX_refresh post (1, sz, md, 0, a1, a2, a3, a4, a5, a6, a7, a8, a9, a10, a11, a12, a13, a14, a15, a16, a17) := by
  unfold wpX_refresh
  dsimp only
  exact br_t rfl (gj_15 (fun b5 e5 => gj_38 ht hB e5 H))
/-- refresh with none -/
theorem gj_ref0 {post : St2 → Prop} {sz md : Int32} {a1 a2 a3 a4 a5 : Nat → Int32} {a6 a7 a8 a9 a10 a11 a12 a13 a14 a15 a16 a17 : Nat → Int64} (H : ∀ b5, (∀ q, q < 256 → b5 q = -2) → post (0, sz, md, 1, a1, a2, a3, a4, b5, a6, a7, a8, a9, a10, a11, a12, a13, a14, a15, a16, a17)) : wpX_refresh post (0, sz, md, 0, a1, a2, a3, a4, a5, a6, a7, a8, a9, a10, a11, a12, a13, a14, a15, a16, a17) := by
  unfold wpX_refresh
  dsimp only
  exact br_t rfl (gj_15 (fun b5 e5 => ⟨1, br_t (by decide) (H b5 e5)⟩))
/-- refresh when all is current -/
theorem gj_refN {post : St2 → Prop} {l sz md : Int32} {a1 a2 a3 a4 a5 : Nat → Int32} {a6 a7 a8 a9 a10 a11 a12 a13 a14 a15 a16 a17 : Nat → Int64} (H : post (l, sz, md, 1, a1, a2, a3, a4, a5, a6, a7, a8, a9, a10, a11, a12, a13, a14, a15, a16, a17)) : wpX_refresh post (l, sz, md, 1, a1, a2, a3, a4, a5, a6, a7, a8, a9, a10, a11, a12, a13, a14, a15, a16, a17) := by
  unfold wpX_refresh
  dsimp only
  exact br_f (by decide) H
end
section
/-! the calls that the law makes -/
def gq_r (x : Int32) : Prop := ¬ x < (-20) ∧ ¬ 20 < x
theorem gq_ir {post : Int32 → Prop} {x : Int32} (h1 : gq_r x → post 1) (h0 : ¬ gq_r x → post 0) : wpX_inRange post () x :=
  br_c (fun z => h0 (fun k => k.1 z)) (fun z => br_c (fun y => h0 (fun k => k.2 y)) (fun y => h1 ⟨z, y⟩))
def gq_c (x : Int32) : Prop := ¬ x < 0 ∧ ¬ 15 < x
theorem gq_ic {post : Int32 → Prop} {x : Int32} (h1 : gq_c x → post 1) (h0 : ¬ gq_c x → post 0) : wpX_isCell post () x :=
  br_c (fun z => h0 (fun k => k.1 z)) (fun z => br_c (fun y => h0 (fun k => k.2 y)) (fun y => h1 ⟨z, y⟩))
theorem gq_n {x : Int32} (h : gq_c x) : ∃ i : Nat, i < 16 ∧ x = nI i := by
  obtain ⟨j, h1, h2⟩ := nI_of2 (M := 15) (n := 15) rfl h.1 (by
    have := h.2
    rw [Int32.lt_iff_toInt_lt] at this
    rw [Int32.le_iff_toInt_le]
    omega)
  exact ⟨j, by omega, h2⟩
theorem gq_place {post : Int32 → St2 → Prop} {l sz md cu : Int32} {a1 a2 a3 a4 a5 : Nat → Int32} {a6 a7 a8 a9 a10 a11 a12 a13 a14 a15 a16 a17 : Nat → Int64} {k : Nat} {x y : Int32} (hk : k < 3) (h1 : gq_r x ∧ gq_r y → post 0 (l, sz, md, cu, upd (upd a1 (4 * k) x) (4 * k + 1) y, a2, a3, a4, a5, a6, a7, a8, a9, a10, a11, a12, a13, a14, a15, a16, a17)) (h0 : ¬ (gq_r x ∧ gq_r y) → post (-2) (l, sz, md, cu, a1, a2, a3, a4, a5, a6, a7, a8, a9, a10, a11, a12, a13, a14, a15, a16, a17)) : wpX_place post (l, sz, md, cu, a1, a2, a3, a4, a5, a6, a7, a8, a9, a10, a11, a12, a13, a14, a15, a16, a17) (nI k) x y := by
  have ei : (4 * nI k : Int32) = nI (4 * k) := pk_mul 4 k
  have ej : (4 * nI k + 1 : Int32) = nI (4 * k + 1) := by rw [ei]; exact nI_1 _
  have ci : (4 * nI k : Int32).toNatClampNeg = 4 * k := by rw [ei]; exact nI_clamp (by omega)
  have cj : (4 * nI k + 1 : Int32).toNatClampNeg = 4 * k + 1 := by rw [ej]; exact nI_clamp (by omega)
  have vi : vp_in (4 * nI k) 12 := by rw [ei]; exact vp_in_nI (by omega) (by decide)
  have vj : vp_in (4 * nI k + 1) 12 := by rw [ej]; exact vp_in_nI (by omega) (by decide)
  unfold wpX_place
  dsimp only
  rw [ci, cj]
  refine br_f (nI_pos (by omega)) (br_t (nI_le (b := 2) (by omega) (by decide)) ?_)
  refine gq_ir (fun r1 => br_f (by decide) ?_) (fun r1 => br_t rfl (h0 (fun k => r1 k.1)))
  refine gq_ir (fun r2 => br_f (by decide) ?_) (fun r2 => br_t rfl (h0 (fun k => r2 k.2)))
  exact ⟨vi, nm_e ⟨vj, nm_e (h1 ⟨r1, r2⟩)⟩⟩
theorem gq_depth {post : Int32 → St2 → Prop} {l sz md cu : Int32} {a1 a2 a3 a4 a5 : Nat → Int32} {a6 a7 a8 a9 a10 a11 a12 a13 a14 a15 a16 a17 : Nat → Int64} {k : Nat} {x y : Int32} (hk : k < 3) (h1 : gq_r x ∧ gq_r y → post 0 (l, sz, md, cu, upd (upd a1 (4 * k + 2) x) (4 * k + 3) y, a2, a3, a4, a5, a6, a7, a8, a9, a10, a11, a12, a13, a14, a15, a16, a17)) (h0 : ¬ (gq_r x ∧ gq_r y) → post (-2) (l, sz, md, cu, a1, a2, a3, a4, a5, a6, a7, a8, a9, a10, a11, a12, a13, a14, a15, a16, a17)) : wpX_depth post (l, sz, md, cu, a1, a2, a3, a4, a5, a6, a7, a8, a9, a10, a11, a12, a13, a14, a15, a16, a17) (nI k) x y := by
  have e4 : (4 * nI k : Int32) = nI (4 * k) := pk_mul 4 k
  have ei : (4 * nI k + 2 : Int32) = nI (4 * k + 2) := by rw [e4]; exact nI_add _ 2
  have ej : (4 * nI k + 3 : Int32) = nI (4 * k + 3) := by rw [e4]; exact nI_add _ 3
  have ci : (4 * nI k + 2 : Int32).toNatClampNeg = 4 * k + 2 := by rw [ei]; exact nI_clamp (by omega)
  have cj : (4 * nI k + 3 : Int32).toNatClampNeg = 4 * k + 3 := by rw [ej]; exact nI_clamp (by omega)
  have vi : vp_in (4 * nI k + 2) 12 := by rw [ei]; exact vp_in_nI (by omega) (by decide)
  have vj : vp_in (4 * nI k + 3) 12 := by rw [ej]; exact vp_in_nI (by omega) (by decide)
  unfold wpX_depth
  dsimp only
  rw [ci, cj]
  refine br_f (nI_pos (by omega)) (br_t (nI_le (b := 2) (by omega) (by decide)) ?_)
  refine gq_ir (fun r1 => br_f (by decide) ?_) (fun r1 => br_t rfl (h0 (fun k => r1 k.1)))
  refine gq_ir (fun r2 => br_f (by decide) ?_) (fun r2 => br_t rfl (h0 (fun k => r2 k.2)))
  exact ⟨vi, nm_e ⟨vj, nm_e (h1 ⟨r1, r2⟩)⟩⟩
/-- the draft when all corners are set -/
def gq_D (d : Nat → Int32) (cx cy cz cw : Int32) : Prop := d 0 = cx ∧ d 1 = cy ∧ d 2 = cz ∧ d 3 = cw ∧ d 4 = 4 ∧ d 5 = 0 ∧ d 6 = 1 ∧ d 7 = 1 ∧ d 8 = 0 ∧ d 9 = 0 ∧ d 10 = 1 ∧ d 11 = 1
theorem gq_vol {post : Int32 → Prop} {l sz md cu : Int32} {a1 a2 a3 a4 a5 : Nat → Int32} {a6 a7 a8 a9 a10 a11 a12 a13 a14 a15 a16 a17 : Nat → Int64} {cx cy cz cw : Int32} (hD : gq_D a1 cx cy cz cw) (H : post ((-4) * cy)) : wpX_volume post (l, sz, md, cu, a1, a2, a3, a4, a5, a6, a7, a8, a9, a10, a11, a12, a13, a14, a15, a16, a17) := by
  obtain ⟨t0, t1, t2, t3, t4, t5, t6, t7, t8, t9, t10, t11⟩ := hD
  unfold wpX_volume
  dsimp only
  refine nm_e (nm_e (nm_e ?_))
  have e : a1 0 * (a1 5 * a1 11 - a1 9 * a1 7) - a1 1 * (a1 4 * a1 11 - a1 8 * a1 7) + a1 3 * (a1 4 * a1 9 - a1 8 * a1 5) = (-4) * cy := by
    rw [t0, t1, t3, t4, t5, t7, t8, t9, t11]
    grind
  rw [e]
  exact H
theorem gq_copy {post : Int32 → St2 → Prop} {sz md cu : Int32} {a1 a2 a3 a4 a5 : Nat → Int32} {a6 a7 a8 a9 a10 a11 a12 a13 a14 a15 a16 a17 : Nat → Int64} (H : ∀ b2, (∀ k, k < 12 → b2 k = a1 k) → post 0 (1, sz, md, 0, a1, b2, a3, a4, a5, a6, a7, a8, a9, a10, a11, a12, a13, a14, a15, a16, a17)) : ∃ fu, wX_draw_51 post 0 sz md cu fu 0 a1 a2 a3 a4 a5 a6 a7 a8 a9 a10 a11 a12 a13 a14 a15 a16 a17 := by
  refine pk_loop (σ := Nat → Int32) (fun fu i s => wX_draw_51 post 0 sz md cu fu (nI i) a1 s a3 a4 a5 a6 a7 a8 a9 a10 a11 a12 a13 a14 a15 a16 a17) (fun i s => ∀ k, k < i → s k = a1 k) 12 0 a2 (by decide) (fun q hq => absurd hq (Nat.not_lt_zero _)) ?_ ?_
  · intro fu s h
    refine pk_le 12 12 (fun _ => nm_r (show (0 + 1 : Int32) = 1 by decide) ?_) (fun z => absurd z (by omega))
    have := H s h
    rw [← show (1 - 1 : Int32) = 0 by decide] at this
    exact this
  · intro fu i s hi h hw
    have e : (12 * 0 + nI i : Int32) = nI i := by
      show nI 12 * nI 0 + nI i = _
      rw [pk_mul, nI_add]
      exact congrArg nI (by omega)
    have c : (12 * 0 + nI i : Int32).toNatClampNeg = i := by rw [e]; exact nI_clamp (by omega)
    have v : vp_in (12 * 0 + nI i) 120 := by rw [e]; exact vp_in_nI (by omega) (by decide)
    refine pk_le 12 i (fun z => absurd z (by omega)) (fun _ => ?_)
    rw [c, nI_clamp (show i < 2 ^ 31 by omega)]
    refine ⟨pk_in i 12 hi, v, nm_e (nm_r (nI_1 i) (hw _ (fun q hq => ?_)))⟩
    by_cases z : q = i
    · subst z
      exact pk_us
    · rw [pk_un z]
      exact h q (by omega)
/-- draw on an empty list: side unknown, refused, drawn -/
theorem gq_dru {post : Int32 → St2 → Prop} {sz md cu x : Int32} {a1 a2 a3 a4 a5 : Nat → Int32} {a6 a7 a8 a9 a10 a11 a12 a13 a14 a15 a16 a17 : Nat → Int64} (h : x < 0 ∨ 2 < x) (H : post (-1) (0, sz, md, cu, a1, a2, a3, a4, a5, a6, a7, a8, a9, a10, a11, a12, a13, a14, a15, a16, a17)) : wpX_draw post (0, sz, md, cu, a1, a2, a3, a4, a5, a6, a7, a8, a9, a10, a11, a12, a13, a14, a15, a16, a17) x := by
  unfold wpX_draw
  dsimp only
  refine br_c (fun _ => H) (fun z => ?_)
  rcases h with y | y
  · exact absurd y z
  · refine br_f ?_ H
    rw [Int32.lt_iff_toInt_lt] at y
    rw [Int32.le_iff_toInt_le]
    omega
theorem gq_drk {post : Int32 → St2 → Prop} {sz md cu : Int32} {a1 a2 a3 a4 a5 : Nat → Int32} {a6 a7 a8 a9 a10 a11 a12 a13 a14 a15 a16 a17 : Nat → Int64} {s : Nat} {cx cy cz cw : Int32} (hs : s ≤ 2) (hD : gq_D a1 cx cy cz cw)
    (H3 : (s = 1 ∧ (-4) * cy ≤ 0) ∨ (s = 2 ∧ ¬ (-4) * cy < 0) → post (-3) (0, sz, md, cu, a1, a2, a3, a4, a5, a6, a7, a8, a9, a10, a11, a12, a13, a14, a15, a16, a17)) (H0 : s = 0 ∨ (s = 1 ∧ ¬ (-4) * cy ≤ 0) ∨ (s = 2 ∧ (-4) * cy < 0) → ∀ b2, (∀ k, k < 12 → b2 k = a1 k) → post 0 (1, sz, md, 0, a1, b2, a3, a4, a5, a6, a7, a8, a9, a10, a11, a12, a13, a14, a15, a16, a17)) : wpX_draw post (0, sz, md, cu, a1, a2, a3, a4, a5, a6, a7, a8, a9, a10, a11, a12, a13, a14, a15, a16, a17) (nI s) := by
  unfold wpX_draw
  dsimp only
  refine br_f (nI_pos (by omega)) (br_t (nI_le (b := 2) (by omega) (by decide)) (br_f (by decide) (gq_vol hD ?_)))
  rcases (show s = 0 ∨ s = 1 ∨ s = 2 by omega) with q | q | q <;> subst q
  · exact br_f (by decide) (br_f (by decide) (gq_copy (H0 (Or.inl rfl))))
  · exact br_t (by decide) (br_c (fun z => H3 (Or.inl ⟨rfl, z⟩)) (fun z => br_f (by decide) (gq_copy (H0 (Or.inr (Or.inl ⟨rfl, z⟩))))))
  · exact br_f (by decide) (br_t (by decide) (br_c (fun z => gq_copy (H0 (Or.inr (Or.inr ⟨rfl, z⟩)))) (fun z => H3 (Or.inr ⟨rfl, z⟩))))
/-- covers -/
theorem gq_cov0 {post : Int32 → St2 → Prop} {sz md cu x y : Int32} {a1 a2 a3 a4 a5 : Nat → Int32} {a6 a7 a8 a9 a10 a11 a12 a13 a14 a15 a16 a17 : Nat → Int64} (H : post (-1) (0, sz, md, cu, a1, a2, a3, a4, a5, a6, a7, a8, a9, a10, a11, a12, a13, a14, a15, a16, a17)) : wpX_covers post (0, sz, md, cu, a1, a2, a3, a4, a5, a6, a7, a8, a9, a10, a11, a12, a13, a14, a15, a16, a17) 0 x y := by
  unfold wpX_covers
  exact br_f (by decide) (br_t (by decide) (br_t rfl H))
theorem gq_covo {post : Int32 → St2 → Prop} {sz md cu x y : Int32} {a1 a2 a3 a4 a5 : Nat → Int32} {a6 a7 a8 a9 a10 a11 a12 a13 a14 a15 a16 a17 : Nat → Int64} (h : ¬ (gq_c x ∧ gq_c y)) (H : post (-2) (1, sz, md, cu, a1, a2, a3, a4, a5, a6, a7, a8, a9, a10, a11, a12, a13, a14, a15, a16, a17)) : wpX_covers post (1, sz, md, cu, a1, a2, a3, a4, a5, a6, a7, a8, a9, a10, a11, a12, a13, a14, a15, a16, a17) 0 x y := by
  unfold wpX_covers
  refine br_f (by decide) (br_f (by decide) (br_f (by decide) ?_))
  exact gq_ic (fun r1 => br_f (by decide) (gq_ic (fun r2 => absurd ⟨r1, r2⟩ h) (fun _ => br_t rfl H))) (fun _ => br_t rfl H)
theorem gq_cov1 {post : Int32 → St2 → Prop} {sz md : Int32} {a1 a2 a3 a4 a5 : Nat → Int32} {a6 a7 a8 a9 a10 a11 a12 a13 a14 a15 a16 a17 : Nat → Int64} {ax ay az aw : Int} {i j : Nat} (hi : i < 16) (hj : j < 16) (ht : gd_tri a2 ax ay az aw) (hB : gh_b ax ay az aw)
    (H : ∀ r sz' md' b3 b4 b5 b6 b7 b8 b9 b10 b11 b12 b13 b14 b15 b16 b17, ((r = 1 ∧ gj_In ax ay az aw i j) ∨ (r = 0 ∧ ¬ gj_In ax ay az aw i j)) → (gj_In ax ay az aw i j → b5 (16 * j + i) = 0) → (¬ gj_In ax ay az aw i j → b5 (16 * j + i) = -2) → post r (1, sz', md', 1, a1, a2, b3, b4, b5, b6, b7, b8, b9, b10, b11, b12, b13, b14, b15, b16, b17)) : wpX_covers post (1, sz, md, 0, a1, a2, a3, a4, a5, a6, a7, a8, a9, a10, a11, a12, a13, a14, a15, a16, a17) 0 (nI i) (nI j) := by
  have cc : ∀ k, k < 16 → gq_c (nI k) := fun k hk => ⟨nI_pos (by omega), nI_nlt (a := 15) (b := k) (by omega) (by decide)⟩
  have c0 : (16 * 0 + nI j : Int32).toNatClampNeg = j := by rw [gd_i0]; exact nI_clamp (by omega)
  have v0 : vp_in (16 * 0 + nI j) 160 := by rw [gd_i0]; exact vp_in_nI (by omega) (by decide)
  unfold wpX_covers
  refine br_f (by decide) (br_f (by decide) (br_f (by decide) ?_))
  refine gq_ic (fun _ => br_f (by decide) ?_) (fun z => absurd (cc i hi) z)
  refine gq_ic (fun _ => br_f (by decide) ?_) (fun z => absurd (cc j hj) z)
  refine gj_ref1 ht hB (fun sz' md' b3 b4 b5 b6 b7 b8 b9 b10 b11 b12 b13 b14 b15 b16 b17 hS => ?_)
  obtain ⟨s1, s2, s3⟩ := hS j hj i hi
  show wpX_within _ _ 0 (nI i) (nI j)
  unfold wpX_within
  dsimp only
  rw [c0]
  refine ⟨v0, br_c (fun z => ?_) (fun z => ⟨v0, br_c (fun y => ?_) (fun y => ?_)⟩)⟩
  · rw [Int32.lt_iff_toInt_lt, nI_toInt (by omega)] at z
    exact br_t rfl (H _ _ _ _ _ _ _ _ _ _ _ _ _ _ _ _ _ _ (Or.inr ⟨rfl, fun k => absurd (s1.mpr k) (by omega)⟩) s2 s3)
  · rw [Int32.lt_iff_toInt_lt, nI_toInt (by omega)] at y
    exact br_t rfl (H _ _ _ _ _ _ _ _ _ _ _ _ _ _ _ _ _ _ (Or.inr ⟨rfl, fun k => absurd (s1.mpr k) (by omega)⟩) s2 s3)
  · rw [Int32.lt_iff_toInt_lt, nI_toInt (by omega)] at z y
    exact br_f (by decide) (H _ _ _ _ _ _ _ _ _ _ _ _ _ _ _ _ _ _ (Or.inl ⟨rfl, s1.mp (by omega)⟩) s2 s3)
/-- owner -/
theorem gq_owno {post : Int32 → St2 → Prop} {l sz md cu x y : Int32} {a1 a2 a3 a4 a5 : Nat → Int32} {a6 a7 a8 a9 a10 a11 a12 a13 a14 a15 a16 a17 : Nat → Int64} (h : ¬ (gq_c x ∧ gq_c y)) (H : post (-1) (l, sz, md, cu, a1, a2, a3, a4, a5, a6, a7, a8, a9, a10, a11, a12, a13, a14, a15, a16, a17)) : wpX_owner post (l, sz, md, cu, a1, a2, a3, a4, a5, a6, a7, a8, a9, a10, a11, a12, a13, a14, a15, a16, a17) x y := by
  unfold wpX_owner
  exact gq_ic (fun r1 => br_f (by decide) (gq_ic (fun r2 => absurd ⟨r1, r2⟩ h) (fun _ => br_t rfl H))) (fun _ => br_t rfl H)
theorem gq_own1 {post : Int32 → St2 → Prop} {l sz md : Int32} {a1 a2 a3 a4 a5 : Nat → Int32} {a6 a7 a8 a9 a10 a11 a12 a13 a14 a15 a16 a17 : Nat → Int64} {i j : Nat} (hi : i < 16) (hj : j < 16) (H : post (a5 (16 * j + i)) (l, sz, md, 1, a1, a2, a3, a4, a5, a6, a7, a8, a9, a10, a11, a12, a13, a14, a15, a16, a17)) : wpX_owner post (l, sz, md, 1, a1, a2, a3, a4, a5, a6, a7, a8, a9, a10, a11, a12, a13, a14, a15, a16, a17) (nI i) (nI j) := by
  have cc : ∀ k, k < 16 → gq_c (nI k) := fun k hk => ⟨nI_pos (by omega), nI_nlt (a := 15) (b := k) (by omega) (by decide)⟩
  have cij : (16 * nI j + nI i : Int32).toNatClampNeg = 16 * j + i := by rw [gf_ij]; exact nI_clamp (by omega)
  have vij : vp_in (16 * nI j + nI i) 256 := by rw [gf_ij]; exact vp_in_nI (by omega) (by decide)
  unfold wpX_owner
  refine gq_ic (fun _ => br_f (by decide) ?_) (fun z => absurd (cc i hi) z)
  refine gq_ic (fun _ => br_f (by decide) ?_) (fun z => absurd (cc j hj) z)
  refine gj_refN ?_
  refine ⟨vij, ?_⟩
  rw [cij]
  exact H
theorem gq_own0 {post : Int32 → St2 → Prop} {sz md : Int32} {a1 a2 a3 a4 a5 : Nat → Int32} {a6 a7 a8 a9 a10 a11 a12 a13 a14 a15 a16 a17 : Nat → Int64} {i j : Nat} (hi : i < 16) (hj : j < 16) (H : ∀ b5, post (-2) (0, sz, md, 1, a1, a2, a3, a4, b5, a6, a7, a8, a9, a10, a11, a12, a13, a14, a15, a16, a17)) : wpX_owner post (0, sz, md, 0, a1, a2, a3, a4, a5, a6, a7, a8, a9, a10, a11, a12, a13, a14, a15, a16, a17) (nI i) (nI j) := by
  have cc : ∀ k, k < 16 → gq_c (nI k) := fun k hk => ⟨nI_pos (by omega), nI_nlt (a := 15) (b := k) (by omega) (by decide)⟩
  have cij : (16 * nI j + nI i : Int32).toNatClampNeg = 16 * j + i := by rw [gf_ij]; exact nI_clamp (by omega)
  have vij : vp_in (16 * nI j + nI i) 256 := by rw [gf_ij]; exact vp_in_nI (by omega) (by decide)
  unfold wpX_owner
  refine gq_ic (fun _ => br_f (by decide) ?_) (fun z => absurd (cc i hi) z)
  refine gq_ic (fun _ => br_f (by decide) ?_) (fun z => absurd (cc j hj) z)
  refine gj_ref0 (fun b5 e5 => ?_)
  refine ⟨vij, ?_⟩
  rw [cij, e5 _ (by omega)]
  exact H b5
end
section
/-! the law -/
theorem gs_470 {post : Int32 → St0 → Prop} {mc ms kc ks : Nat} {x4 x5 x15 x16 z l sz md : Int32} {a1 a2 a3 a4 a5 : Nat → Int32} {a6 a7 a8 a9 a10 a11 a12 a13 a14 a15 a16 a17 : Nat → Int64} {ax ay az aw : Int} (hp : post 1 ()) (hB : gh_b ax ay az aw) (hd : (x15 = 0 ∧ l = 0) ∨ (x15 = 1 ∧ l = 1 ∧ gd_tri a2 ax ay az aw)) (hc : (x16 = 0 ∧ ¬ (gq_c x4 ∧ gq_c x5)) ∨ (x16 = 1 ∧ gq_c x4 ∧ gq_c x5))
    (hz : ∀ i j : Nat, i < 16 → j < 16 → x4 = nI i → x5 = nI j → (z = 1 ∧ gj_In ax ay az aw i j) ∨ (z = 0 ∧ ¬ gj_In ax ay az aw i j)) : wL_lawOf_470 post mc ms x4 x5 x15 x16 z kc ks l sz md 0 a1 a2 a3 a4 a5 a6 a7 a8 a9 a10 a11 a12 a13 a14 a15 a16 a17 := by
  unfold wL_lawOf_470
  rcases hd with ⟨h1, h2⟩ | ⟨h1, h2, ht⟩
  · subst h1
    subst h2
    refine gq_cov0 (br_t rfl ?_)
    unfold wL_lawOf_511
    refine br_t rfl ?_
    rcases hc with ⟨k1, k2⟩ | ⟨k1, k2, k3⟩
    · subst k1
      exact gq_owno k2 (br_t rfl (br_t rfl hp))
    · subst k1
      obtain ⟨i, hi, ei⟩ := gq_n k2
      obtain ⟨j, hj, ej⟩ := gq_n k3
      subst ei
      subst ej
      exact gq_own0 hi hj (fun b5 => br_f (by decide) (br_t rfl (br_t rfl hp)))
  · subst h1
    subst h2
    rcases hc with ⟨k1, k2⟩ | ⟨k1, k2, k3⟩
    · subst k1
      refine gq_covo k2 (br_f (by decide) (br_t rfl ?_))
      unfold wL_lawOf_511
      exact br_t rfl (gq_owno k2 (br_t rfl (br_t rfl hp)))
    · subst k1
      obtain ⟨i, hi, ei⟩ := gq_n k2
      obtain ⟨j, hj, ej⟩ := gq_n k3
      subst ei
      subst ej
      refine gq_cov1 hi hj ht hB (fun r sz' md' b3 b4 b5 b6 b7 b8 b9 b10 b11 b12 b13 b14 b15 b16 b17 hr h0 h2 => br_f (by decide) (br_f (by decide) ?_))
      rcases hz i j hi hj rfl rfl with ⟨z1, z2⟩ | ⟨z1, z2⟩
      · have r1 : r = 1 := by
          rcases hr with q | q
          · exact q.1
          · exact absurd z2 q.2
        subst z1
        subst r1
        refine br_f (by decide) ?_
        unfold wL_lawOf_511
        exact br_t rfl (gq_own1 hi hj (br_f (by decide) (br_f (by decide) (br_f (by decide) (br_t (h0 z2) hp)))))
      · have r1 : r = 0 := by
          rcases hr with q | q
          · exact absurd q.2 z2
          · exact q.1
        subst z1
        subst r1
        refine br_t rfl ?_
        unfold wL_lawOf_511
        exact br_t rfl (gq_own1 hi hj (br_f (by decide) (br_f (by decide) (br_t rfl (br_t (h2 z2) hp)))))
/-- the law's numbers say the region -/
theorem gs_ar {ax ay az aw px py s : Int} (hs : (0 ≤ (-4) * ay ∧ s = 1) ∨ ((-4) * ay < 0 ∧ s = -1)) :
    (¬ (-4) * ay = 0 ∧ ¬ (-4) * py * s < 0 ∧ ¬ (ax * py - ay * px) * s < 0 ∧ ¬ (ay * px - ax * py - 64 * ay + 4 * aw * py) * s < 0 ∧ ¬ ((-4) * py * s * az + (ax * py - ay * px) * s + (ay * px - ax * py - 64 * ay + 4 * aw * py) * s) < 0 ∧ ¬ 16 * ((-4) * ay) * s < ((-4) * py * s * az + (ax * py - ay * px) * s + (ay * px - ax * py - 64 * ay + 4 * aw * py) * s)) ↔ (ay ≠ 0 ∧ gp_in (gh_E ax ay az aw) px py) := by
  rcases hs with ⟨h, q⟩ | ⟨h, q⟩ <;> subst q
  · by_cases y0 : ay = 0
    · exact ⟨fun k => absurd (show (-4) * ay = 0 by omega) k.1, fun k => absurd y0 k.1⟩
    · have e : gh_E ax ay az aw = (-1, -ay, ax, az, aw) := by unfold gh_E; rw [if_pos (by omega)]
      rw [e]
      unfold gp_in
      dsimp only
      have g1 : -ay * px - -1 * ax * py = ax * py - ay * px := by grind
      have g2 : - -ay * px + -1 * (ax - 4 * aw) * py + 4 * -ay * 16 = ay * px - ax * py - 64 * ay + 4 * (aw * py) := by grind
      have g3 : -1 * (az - aw) * py = aw * py - az * py := by grind
      have g4 : (-4) * py * 1 * az = -4 * (az * py) := by grind
      have g5 : 4 * aw * py = 4 * (aw * py) := by grind
      rw [g1, g2, g3, g4, g5]
      omega
  · have e : gh_E ax ay az aw = (1, ay, ax, az, aw) := by unfold gh_E; rw [if_neg (by omega)]
    rw [e]
    unfold gp_in
    dsimp only
    have g1 : ay * px - 1 * ax * py = ay * px - ax * py := by grind
    have g2 : -ay * px + 1 * (ax - 4 * aw) * py + 4 * ay * 16 = ax * py - ay * px + 64 * ay - 4 * (aw * py) := by grind
    have g3 : 1 * (az - aw) * py = az * py - aw * py := by grind
    have g4 : (-4) * py * -1 * az = 4 * (az * py) := by grind
    have g5 : 4 * aw * py = 4 * (aw * py) := by grind
    rw [g1, g2, g3, g4, g5]
    omega
theorem gs_lt {x y : Int32} {a b : Int} (hx : x.toInt = a) (hy : y.toInt = b) : (x < y) ↔ a < b := by rw [Int32.lt_iff_toInt_lt, hx, hy]
theorem gs_356 {post : Int32 → St0 → Prop} {mc ms kc ks : Nat} {x4 x5 x9 x10 x11 x12 x13 x15 x16 x17 x18 z0 l sz md cu : Int32} {a1 a2 a3 a4 a5 : Nat → Int32} {a6 a7 a8 a9 a10 a11 a12 a13 a14 a15 a16 a17 : Nat → Int64} {ax ay az aw px py s : Int} (hB : gh_b ax ay az aw) (e9 : x9.toInt = ax) (e10 : x10.toInt = ay) (e11 : x11.toInt = az) (e12 : x12.toInt = aw) (e13 : x13.toInt = (-4) * ay) (e17 : x17.toInt = px) (e18 : x18.toInt = py) (ez : z0.toInt = s) (p1 : -15 ≤ px) (p2 : px ≤ 15) (q1 : -15 ≤ py) (q2 : py ≤ 15) (hs : (0 ≤ (-4) * ay ∧ s = 1) ∨ ((-4) * ay < 0 ∧ s = -1))
    (H : ∀ z : Int32, ((z = 1 ∧ ay ≠ 0 ∧ gp_in (gh_E ax ay az aw) px py) ∨ (z = 0 ∧ ¬ (ay ≠ 0 ∧ gp_in (gh_E ax ay az aw) px py))) → wL_lawOf_470 post mc ms x4 x5 x15 x16 z kc ks l sz md cu a1 a2 a3 a4 a5 a6 a7 a8 a9 a10 a11 a12 a13 a14 a15 a16 a17) : wL_lawOf_356 post mc ms x4 x5 x9 x10 x11 x12 x13 x15 x16 x17 x18 z0 kc ks l sz md cu a1 a2 a3 a4 a5 a6 a7 a8 a9 a10 a11 a12 a13 a14 a15 a16 a17 := by
  obtain ⟨x1', x2', y1', y2', z1', z2', hw⟩ := hB
  have w1 : 0 ≤ aw ∧ aw ≤ 1 := by rcases hw with q | q <;> omega
  have AR := gs_ar (ax := ax) (az := az) (aw := aw) (px := px) (py := py) hs
  have b1 := ga_ab x1' x2' q1 q2
  have b2 := ga_ab y1' y2' p1 p2
  have b3 := ga_ab (x := aw) (a := 1) (by omega) w1.2 q1 q2
  have b4 := ga_ab (x := py) (y := az) q1 q2 z1' z2'
  have s1 : s = 1 ∨ s = -1 := by rcases hs with q | q <;> omega
  have f20 : (-4 * x18 * z0).toInt = (-4) * py * s := by
    refine gw_mul (gw_mul (show (-4 : Int32).toInt = -4 from rfl) e18 (by omega) (by omega)) ez ?_ ?_ <;> rcases s1 with q | q <;> subst q <;> omega
  have f21 : ((x9 * x18 - x10 * x17) * z0).toInt = (ax * py - ay * px) * s := by
    refine gw_mul (gw_sub (gw_mul e9 e18 (by omega) (by omega)) (gw_mul e10 e17 (by omega) (by omega)) (by omega) (by omega)) ez ?_ ?_ <;> rcases s1 with q | q <;> subst q <;> omega
  have e5 : 4 * aw * py = 4 * (aw * py) := by grind
  have f22 : ((x10 * x17 - x9 * x18 - 64 * x10 + 4 * x12 * x18) * z0).toInt = (ay * px - ax * py - 64 * ay + 4 * aw * py) * s := by
    refine gw_mul (gw_add (gw_sub (gw_sub (gw_mul e10 e17 (by omega) (by omega)) (gw_mul e9 e18 (by omega) (by omega)) (by omega) (by omega)) (gw_mul (show (64 : Int32).toInt = 64 from rfl) e10 (by omega) (by omega)) (by omega) (by omega)) (gw_mul (gw_mul (show (4 : Int32).toInt = 4 from rfl) e12 (by omega) (by omega)) e18 (by omega) (by omega)) (by omega) (by omega)) ez ?_ ?_ <;> rcases s1 with q | q <;> subst q <;> omega
  have e6 : (-4) * py * s * az = (-4) * s * (py * az) := by grind
  have f20z : (-4 * x18 * z0 * x11).toInt = (-4) * py * s * az := by
    refine gw_mul f20 e11 ?_ ?_ <;> rw [e6] <;> rcases s1 with q | q <;> subst q <;> omega
  have f23 : (-4 * x18 * z0 * x11 + (x9 * x18 - x10 * x17) * z0 + (x10 * x17 - x9 * x18 - 64 * x10 + 4 * x12 * x18) * z0).toInt = (-4) * py * s * az + (ax * py - ay * px) * s + (ay * px - ax * py - 64 * ay + 4 * aw * py) * s := by
    refine gw_add (gw_add f20z f21 ?_ ?_) f22 ?_ ?_ <;> rw [e6] <;> rcases s1 with q | q <;> subst q <;> omega
  have f24 : (16 * x13 * z0).toInt = 16 * ((-4) * ay) * s := by
    refine gw_mul (gw_mul (show (16 : Int32).toInt = 16 from rfl) e13 (by omega) (by omega)) ez ?_ ?_ <;> rcases s1 with q | q <;> subst q <;> omega
  have zz : (0 : Int32).toInt = 0 := rfl
  have no : ∀ P : Prop, ¬ P → ((ay ≠ 0 ∧ gp_in (gh_E ax ay az aw) px py) → P) → wL_lawOf_469 post mc ms x4 x5 x15 x16 kc ks l sz md cu a1 a2 a3 a4 a5 a6 a7 a8 a9 a10 a11 a12 a13 a14 a15 a16 a17 := fun P h1 h2 => H 0 (Or.inr ⟨rfl, fun k => h1 (h2 k)⟩)
  unfold wL_lawOf_356
  refine nm_e (nm_e (nm_e (nm_e ?_)))
  refine br_c (fun z => no _ (fun k => k) (fun k => absurd ?_ (AR.mpr k).1)) (fun n1 => ?_)
  · rw [z, zz] at e13
    exact e13.symm
  refine br_c (fun z => no _ (fun k => k) (fun k => absurd ((gs_lt f20 zz).mp z) (AR.mpr k).2.1)) (fun n2 => ?_)
  refine br_c (fun z => no _ (fun k => k) (fun k => absurd ((gs_lt f21 zz).mp z) (AR.mpr k).2.2.1)) (fun n3 => ?_)
  refine br_c (fun z => no _ (fun k => k) (fun k => absurd ((gs_lt f22 zz).mp z) (AR.mpr k).2.2.2.1)) (fun n4 => ?_)
  refine br_c (fun z => no _ (fun k => k) (fun k => absurd ((gs_lt f23 zz).mp z) (AR.mpr k).2.2.2.2.1)) (fun n5 => ?_)
  refine br_c (fun z => no _ (fun k => k) (fun k => absurd ((gs_lt f24 f23).mp z) (AR.mpr k).2.2.2.2.2)) (fun n6 => ?_)
  refine H 1 (Or.inl ⟨rfl, AR.mp ⟨fun k => n1 ?_, fun k => n2 ((gs_lt f20 zz).mpr k), fun k => n3 ((gs_lt f21 zz).mpr k), fun k => n4 ((gs_lt f22 zz).mpr k), fun k => n5 ((gs_lt f23 zz).mpr k), fun k => n6 ((gs_lt f24 f23).mpr k)⟩⟩)
  apply Int32.toInt_inj.mp
  rw [e13, k, zz]
end
section
/-! the law, from its front -/
theorem gt_344 {post : Int32 → St0 → Prop} {mc ms kc ks : Nat} {x4 x5 x9 x10 x11 x12 x13 x15 x16 x17 x18 l sz md : Int32} {a1 a2 a3 a4 a5 : Nat → Int32} {a6 a7 a8 a9 a10 a11 a12 a13 a14 a15 a16 a17 : Nat → Int64} {ax ay az aw px py : Int} (hp : post 1 ()) (hB : gh_b ax ay az aw) (e9 : x9.toInt = ax) (e10 : x10.toInt = ay) (e11 : x11.toInt = az) (e12 : x12.toInt = aw) (e13 : x13.toInt = (-4) * ay) (e17 : x17.toInt = px) (e18 : x18.toInt = py) (p1 : -15 ≤ px) (p2 : px ≤ 15) (q1 : -15 ≤ py) (q2 : py ≤ 15) (hd : (x15 = 0 ∧ l = 0) ∨ (x15 = 1 ∧ l = 1 ∧ gd_tri a2 ax ay az aw)) (hc : (x16 = 0 ∧ ¬ (gq_c x4 ∧ gq_c x5)) ∨ (x16 = 1 ∧ gq_c x4 ∧ gq_c x5))
    (hxy : ∀ i j : Nat, i < 16 → j < 16 → x4 = nI i → x5 = nI j → px = 2 * (i : Int) - 15 ∧ py = 2 * (j : Int) - 15) : wL_lawOf_344 post mc ms x4 x5 x9 x10 x11 x12 x13 x15 x16 x17 x18 kc ks l sz md 0 a1 a2 a3 a4 a5 a6 a7 a8 a9 a10 a11 a12 a13 a14 a15 a16 a17 := by
  have K : ∀ z : Int32, ((z = 1 ∧ ay ≠ 0 ∧ gp_in (gh_E ax ay az aw) px py) ∨ (z = 0 ∧ ¬ (ay ≠ 0 ∧ gp_in (gh_E ax ay az aw) px py))) → wL_lawOf_470 post mc ms x4 x5 x15 x16 z kc ks l sz md 0 a1 a2 a3 a4 a5 a6 a7 a8 a9 a10 a11 a12 a13 a14 a15 a16 a17 := by
    intro z hz
    refine gs_470 hp hB hd hc (fun i j hi hj ei ej => ?_)
    obtain ⟨u1, u2⟩ := hxy i j hi hj ei ej
    unfold gj_In
    rw [← u1, ← u2]
    exact hz
  unfold wL_lawOf_344
  refine br_c (fun z => ?_) (fun z => ?_)
  · rw [Int32.le_iff_toInt_le, e13] at z
    exact gs_356 hB e9 e10 e11 e12 e13 e17 e18 (show (1 : Int32).toInt = 1 from rfl) p1 p2 q1 q2 (Or.inl ⟨z, rfl⟩) K
  · rw [Int32.le_iff_toInt_le, e13, show (0 : Int32).toInt = 0 from rfl] at z
    exact gs_356 hB e9 e10 e11 e12 e13 e17 e18 (show (-1 : Int32).toInt = -1 from rfl) p1 p2 q1 q2 (Or.inr ⟨by omega, rfl⟩) K
theorem gt_px {i : Nat} (hi : i < 16) : (2 * nI i - 15 : Int32).toInt = 2 * (i : Int) - 15 :=
  gw_sub (gw_mul (show (2 : Int32).toInt = 2 from rfl) (nI_toInt (by omega)) (by omega) (by omega)) (show (15 : Int32).toInt = 15 from rfl) (by omega) (by omega)
theorem gt_274 {post : Int32 → St0 → Prop} {mc ms kc ks : Nat} {x4 x5 x9 x10 x11 x12 x13 x15 z0 z1 l sz md : Int32} {a1 a2 a3 a4 a5 : Nat → Int32} {a6 a7 a8 a9 a10 a11 a12 a13 a14 a15 a16 a17 : Nat → Int64} {ax ay az aw : Int} (hp : post 1 ()) (hB : gh_b ax ay az aw) (e9 : x9.toInt = ax) (e10 : x10.toInt = ay) (e11 : x11.toInt = az) (e12 : x12.toInt = aw) (e13 : x13.toInt = (-4) * ay) (hd : (x15 = 0 ∧ l = 0) ∨ (x15 = 1 ∧ l = 1 ∧ gd_tri a2 ax ay az aw)) (hz : z1 = z0) : wL_lawOf_274 post mc ms x4 x5 x9 x10 x11 x12 x13 x15 z0 z1 kc ks l sz md 0 a1 a2 a3 a4 a5 a6 a7 a8 a9 a10 a11 a12 a13 a14 a15 a16 a17 := by
  have K0 : ¬ (gq_c x4 ∧ gq_c x5) → wL_lawOf_307 post mc ms x4 x5 x9 x10 x11 x12 x13 x15 kc ks l sz md 0 a1 a2 a3 a4 a5 a6 a7 a8 a9 a10 a11 a12 a13 a14 a15 a16 a17 := by
    intro h
    refine br_t rfl (br_t rfl ?_)
    refine gt_344 hp hB e9 e10 e11 e12 e13 (show (0 : Int32).toInt = 0 from rfl) (show (0 : Int32).toInt = 0 from rfl) (by omega) (by omega) (by omega) (by omega) hd (Or.inl ⟨rfl, h⟩) (fun i j hi hj ei ej => absurd ?_ h)
    subst ei
    subst ej
    exact ⟨⟨nI_pos (by omega), nI_nlt (a := 15) (b := i) (by omega) (by decide)⟩, ⟨nI_pos (by omega), nI_nlt (a := 15) (b := j) (by omega) (by decide)⟩⟩
  have K1 : gq_c x4 ∧ gq_c x5 → wL_lawOf_308 post mc ms x4 x5 x9 x10 x11 x12 x13 x15 1 kc ks l sz md 0 a1 a2 a3 a4 a5 a6 a7 a8 a9 a10 a11 a12 a13 a14 a15 a16 a17 := by
    intro h
    obtain ⟨i, hi, ei⟩ := gq_n h.1
    obtain ⟨j, hj, ej⟩ := gq_n h.2
    subst ei
    subst ej
    refine br_f (by decide) (br_f (by decide) ?_)
    refine gt_344 hp hB e9 e10 e11 e12 e13 (gt_px hi) (gt_px hj) (by omega) (by omega) (by omega) (by omega) hd (Or.inr ⟨rfl, h⟩) (fun i' j' hi' hj' ei ej => ?_)
    have u1 := (nI_eq (by omega) (by omega)).mp ei
    have u2 := (nI_eq (by omega) (by omega)).mp ej
    subst u1
    subst u2
    exact ⟨rfl, rfl⟩
  unfold wL_lawOf_274
  refine br_t hz (br_c (fun z => K0 (fun k => k.1.1 z)) (fun n1 => br_c (fun z => K0 (fun k => k.1.2 z)) (fun n2 => br_c (fun z => K0 (fun k => k.2.1 z)) (fun n3 => br_c (fun z => K0 (fun k => k.2.2 z)) (fun n4 => K1 ⟨⟨n1, n2⟩, n3, n4⟩)))))
theorem gt_tri {d b2 : Nat → Int32} {cx cy cz cw : Int32} {ax ay az aw : Int} (hD : gq_D d cx cy cz cw) (h : ∀ k, k < 12 → b2 k = d k) (e9 : cx.toInt = ax) (e10 : cy.toInt = ay) (e11 : cz.toInt = az) (e12 : cw.toInt = aw) : gd_tri b2 ax ay az aw := by
  obtain ⟨t0, t1, t2, t3, t4, t5, t6, t7, t8, t9, t10, t11⟩ := hD
  refine ⟨?_, ?_, ?_, ?_, ?_, ?_, ?_, ?_, ?_, ?_, ?_, ?_⟩
  · rw [h 0 (by decide), t0, e9]
  · rw [h 1 (by decide), t1, e10]
  · rw [h 2 (by decide), t2, e11]
  · rw [h 3 (by decide), t3, e12]
  · rw [h 4 (by decide), t4]
  · rw [h 5 (by decide), t5]
  · rw [h 6 (by decide), t6]
  · rw [h 7 (by decide), t7]
  · rw [h 8 (by decide), t8]
  · rw [h 9 (by decide), t9]
  · rw [h 10 (by decide), t10]
  · rw [h 11 (by decide), t11]
theorem gt_180 {post : Int32 → St0 → Prop} {mc ms kc ks : Nat} {x3 x4 x5 x9 x10 x11 x12 sz md : Int32} {a1 a2 a3 a4 a5 : Nat → Int32} {a6 a7 a8 a9 a10 a11 a12 a13 a14 a15 a16 a17 : Nat → Int64} {ax ay az aw : Int} (hp : post 1 ()) (hB : gh_b ax ay az aw) (e9 : x9.toInt = ax) (e10 : x10.toInt = ay) (e11 : x11.toInt = az) (e12 : x12.toInt = aw) (hD : gq_D a1 x9 x10 x11 x12) : wL_lawOf_180 post mc ms x3 x4 x5 x9 x10 x11 x12 kc ks 0 sz md 0 a1 a2 a3 a4 a5 a6 a7 a8 a9 a10 a11 a12 a13 a14 a15 a16 a17 := by
  have yb := hB.2.2
  have e13 : ((-4) * x10 : Int32).toInt = (-4) * ay := gw_mul (show (-4 : Int32).toInt = -4 from rfl) e10 (by omega) (by omega)
  have vle : (-4) * x10 ≤ 0 ↔ (-4) * ay ≤ 0 := by rw [Int32.le_iff_toInt_le, e13]; rfl
  have vge : 0 ≤ (-4) * x10 ↔ 0 ≤ (-4) * ay := by rw [Int32.le_iff_toInt_le, e13]; rfl
  have vgt : 0 < (-4) * x10 ↔ 0 < (-4) * ay := by rw [Int32.lt_iff_toInt_lt, e13]; rfl
  have vlt : (-4) * x10 < 0 ↔ (-4) * ay < 0 := by rw [Int32.lt_iff_toInt_lt, e13]; rfl
  have T0 : ∀ z : Int32, wL_lawOf_274 post mc ms x4 x5 x9 x10 x11 x12 ((-4) * x10) 0 z z kc ks 0 sz md 0 a1 a2 a3 a4 a5 a6 a7 a8 a9 a10 a11 a12 a13 a14 a15 a16 a17 := fun z => gt_274 hp hB e9 e10 e11 e12 e13 (Or.inl ⟨rfl, rfl⟩) rfl
  have T1 : ∀ b2, (∀ k, k < 12 → b2 k = a1 k) → wL_lawOf_274 post mc ms x4 x5 x9 x10 x11 x12 ((-4) * x10) 1 0 0 kc ks 1 sz md 0 a1 b2 a3 a4 a5 a6 a7 a8 a9 a10 a11 a12 a13 a14 a15 a16 a17 := fun b2 h => gt_274 hp hB e9 e10 e11 e12 e13 (Or.inr ⟨rfl, rfl, gt_tri hD h e9 e10 e11 e12⟩) rfl
  -- a side that isn't known
  have U : (x3 < 0 ∨ 2 < x3) → wL_lawOf_214 post mc ms x3 x4 x5 x9 x10 x11 x12 ((-4) * x10) kc ks 0 sz md 0 a1 a2 a3 a4 a5 a6 a7 a8 a9 a10 a11 a12 a13 a14 a15 a16 a17 := by
    intro h
    have n : ∀ s : Nat, s ≤ 2 → ¬ x3 = nI s := by
      intro s hs e
      subst e
      rcases h with q | q
      · exact nI_pos (by omega) q
      · exact nI_nlt (a := 2) (b := s) hs (by decide) q
    refine br_f (n 0 (by omega)) (br_f (n 1 (by omega)) (br_f (n 2 (by omega)) ?_))
    unfold wL_lawOf_245 wL_lawOf_246
    exact gq_dru h (br_t rfl (T0 (-1)))
  unfold wL_lawOf_180
  refine nm_e (gq_vol hD (br_t rfl ?_))
  refine br_c (fun z => U (Or.inl z)) (fun n1 => br_c (fun z => U (Or.inr z)) (fun n2 => ?_))
  obtain ⟨s, hs, es⟩ := nI_of2 (x := x3) (M := 2) (n := 2) rfl n1 (by
    rw [Int32.lt_iff_toInt_lt] at n2
    rw [Int32.le_iff_toInt_le]
    omega)
  subst es
  -- drawn, and not
  have D1 : (s = 0 ∨ (s = 1 ∧ ¬ (-4) * x10 ≤ 0) ∨ (s = 2 ∧ (-4) * x10 < 0)) → wL_lawOf_241 post mc ms (nI s) x4 x5 x9 x10 x11 x12 ((-4) * x10) 1 kc ks 0 sz md 0 a1 a2 a3 a4 a5 a6 a7 a8 a9 a10 a11 a12 a13 a14 a15 a16 a17 := by
    intro h
    unfold wL_lawOf_241 wL_lawOf_246
    refine gq_drk hs hD (fun k => ?_) (fun _ b2 hb => br_f (by decide) (br_f (by decide) (T1 b2 hb)))
    exfalso
    rcases h with q | q | q <;> rcases k with y | y
    · omega
    · omega
    · exact q.2 y.2
    · omega
    · omega
    · exact y.2 q.2
  have D0 : ((s = 1 ∧ (-4) * x10 ≤ 0) ∨ (s = 2 ∧ ¬ (-4) * x10 < 0)) → wL_lawOf_245 post mc ms (nI s) x4 x5 x9 x10 x11 x12 ((-4) * x10) 1 kc ks 0 sz md 0 a1 a2 a3 a4 a5 a6 a7 a8 a9 a10 a11 a12 a13 a14 a15 a16 a17 := by
    intro h
    unfold wL_lawOf_245 wL_lawOf_246
    refine gq_drk hs hD (fun _ => br_f (by decide) (br_t rfl (T0 (-3)))) (fun k => ?_)
    exfalso
    rcases k with q | q | q <;> rcases h with y | y
    · omega
    · omega
    · exact q.2 y.2
    · omega
    · omega
    · exact y.2 q.2
  rcases (show s = 0 ∨ s = 1 ∨ s = 2 by omega) with q | q | q <;> subst q
  · exact br_t rfl (D1 (Or.inl rfl))
  · refine br_f (by decide) (br_t rfl (br_c (fun z => D1 (Or.inr (Or.inl ⟨rfl, fun k => ?_⟩))) (fun z => br_f (by decide) (D0 (Or.inl ⟨rfl, ?_⟩)))))
    · rw [vgt] at z
      rw [vle] at k
      omega
    · rw [vgt] at z
      rw [vle]
      omega
  · refine br_f (by decide) (br_f (by decide) (br_t rfl (br_c (fun z => D0 (Or.inr ⟨rfl, fun k => ?_⟩)) (fun z => D1 (Or.inr (Or.inr ⟨rfl, ?_⟩))))))
    · rw [vge] at z
      rw [vlt] at k
      omega
    · rw [vge] at z
      rw [vlt]
      omega
theorem gt_r {x : Int32} (h : gq_r x) : -20 ≤ x.toInt ∧ x.toInt ≤ 20 := by
  obtain ⟨h1, h2⟩ := h
  rw [Int32.lt_iff_toInt_lt, show (-20 : Int32).toInt = -20 from rfl] at h1
  rw [Int32.lt_iff_toInt_lt, show (20 : Int32).toInt = 20 from rfl] at h2
  omega
theorem gt_102 {post : Int32 → St0 → Prop} {mc ms kc ks : Nat} {x0 x1 x2 x3 x4 x5 x7 x8 z0 z1 sz md cx cy cz cw : Int32} {a1 a2 a3 a4 a5 : Nat → Int32} {a6 a7 a8 a9 a10 a11 a12 a13 a14 a15 a16 a17 : Nat → Int64} (hp : post 1 ()) (hz : z1 = z0) (hf : (x7 = 1 ∧ gq_r x0 ∧ gq_r x1 ∧ cx = x0 ∧ cy = x1) ∨ (x7 = 0 ∧ cx = 0 ∧ cy = 0)) (hg : (x8 = 1 ∧ gq_r x2 ∧ cz = x2 ∧ cw = 1) ∨ (x8 = 0 ∧ cz = 0 ∧ cw = 0))
    (h0 : a1 0 = cx) (h1 : a1 1 = cy) (h2 : a1 2 = cz) (h3 : a1 3 = cw) (h8 : a1 8 = 0) (h9 : a1 9 = 0) : wL_lawOf_102 post mc ms x0 x1 x2 x3 x4 x5 x7 x8 z0 z1 kc ks 0 sz md 0 a1 a2 a3 a4 a5 a6 a7 a8 a9 a10 a11 a12 a13 a14 a15 a16 a17 := by
  have r1 : gq_r 1 ∧ gq_r 1 := ⟨⟨by decide, by decide⟩, ⟨by decide, by decide⟩⟩
  have r4 : gq_r 4 ∧ gq_r 0 := ⟨⟨by decide, by decide⟩, ⟨by decide, by decide⟩⟩
  unfold wL_lawOf_102
  refine br_t hz ?_
  refine gq_place (k := 1) (by decide) (fun _ => ?_) (fun k => absurd r4 k)
  refine gq_depth (k := 1) (by decide) (fun _ => ?_) (fun k => absurd r1 k)
  refine gq_depth (k := 2) (by decide) (fun _ => ?_) (fun k => absurd r1 k)
  have hD : gq_D (upd (upd (upd (upd (upd (upd a1 (4 * 1) 4) (4 * 1 + 1) 0) (4 * 1 + 2) 1) (4 * 1 + 3) 1) (4 * 2 + 2) 1) (4 * 2 + 3) 1) cx cy cz cw := by
    refine ⟨?_, ?_, ?_, ?_, rfl, rfl, rfl, rfl, ?_, ?_, rfl, rfl⟩
    · exact h0
    · exact h1
    · exact h2
    · exact h3
    · exact h8
    · exact h9
  have fin : gh_b cx.toInt cy.toInt cz.toInt cw.toInt := by
    have a : -20 ≤ cx.toInt ∧ cx.toInt ≤ 20 ∧ -20 ≤ cy.toInt ∧ cy.toInt ≤ 20 := by
      rcases hf with ⟨_, u1, u2, u3, u4⟩ | ⟨_, u1, u2⟩
      · rw [u3, u4]
        have := gt_r u1
        have := gt_r u2
        omega
      · rw [u1, u2, show (0 : Int32).toInt = 0 from rfl]
        omega
    have b : -20 ≤ cz.toInt ∧ cz.toInt ≤ 20 ∧ (cw.toInt = 1 ∨ (cw.toInt = 0 ∧ cz.toInt = 0)) := by
      rcases hg with ⟨_, u1, u2, u3⟩ | ⟨_, u1, u2⟩
      · rw [u2, u3]
        have := gt_r u1
        exact ⟨this.1, this.2, Or.inl rfl⟩
      · rw [u1, u2, show (0 : Int32).toInt = 0 from rfl]
        omega
    exact ⟨a.1, a.2.1, a.2.2.1, a.2.2.2, b.1, b.2.1, b.2.2⟩
  have K := gt_180 (mc := mc) (ms := ms) (kc := kc) (ks := ks) (x3 := x3) (x4 := x4) (x5 := x5) (sz := sz) (md := md) (a2 := a2) (a3 := a3) (a4 := a4) (a5 := a5) (a6 := a6) (a7 := a7) (a8 := a8) (a9 := a9) (a10 := a10) (a11 := a11) (a12 := a12) (a13 := a13) (a14 := a14) (a15 := a15) (a16 := a16) (a17 := a17) hp fin rfl rfl rfl rfl hD
  rcases hf with ⟨v0, _, _, v1, v2⟩ | ⟨v0, v1, v2⟩ <;> rcases hg with ⟨w0, _, w1, w2⟩ | ⟨w0, w1, w2⟩ <;> subst v0 w0 v1 v2 w1 w2
  · exact br_f (by decide) (br_f (by decide) (br_f (by decide) (br_f (by decide) K)))
  · exact br_f (by decide) (br_f (by decide) (br_t rfl (br_t rfl K)))
  · exact br_t rfl (br_t rfl (br_f (by decide) (br_f (by decide) K)))
  · exact br_t rfl (br_t rfl (br_t rfl (br_t rfl K)))
end
section
/-! the owed statement -/
theorem gu_57 {post : Int32 → St0 → Prop} {mc ms kc ks : Nat} {x0 x1 x2 x3 x4 x5 x7 x8 : Int32} (hp : post 1 ()) (hf : (x7 = 1 ∧ gq_r x0 ∧ gq_r x1) ∨ (x7 = 0 ∧ ¬ (gq_r x0 ∧ gq_r x1))) (hg : (x8 = 1 ∧ gq_r x2) ∨ (x8 = 0 ∧ ¬ gq_r x2)) : wL_lawOf_57 post mc ms x0 x1 x2 x3 x4 x5 x7 x8 kc ks 0 0 0 0 (fun _ => 0) (fun _ => 0) (fun _ => 0) (fun _ => 0) (fun _ => 0) (fun _ => 0) (fun _ => 0) (fun _ => 0) (fun _ => 0) (fun _ => 0) (fun _ => 0) (fun _ => 0) (fun _ => 0) (fun _ => 0) (fun _ => 0) (fun _ => 0) (fun _ => 0) := by
  have r1 : gq_r 1 := ⟨by decide, by decide⟩
  unfold wL_lawOf_57
  rcases hf with ⟨f1, f2, f3⟩ | ⟨f1, f2⟩
  · subst f1
    refine gq_place (k := 0) (by decide) (fun _ => br_f (by decide) ?_) (fun k => absurd ⟨f2, f3⟩ k)
    unfold wL_lawOf_78
    refine br_t rfl ?_
    rcases hg with ⟨g1, g2⟩ | ⟨g1, g2⟩
    · subst g1
      exact gq_depth (k := 0) (by decide) (fun _ => br_f (by decide) (gt_102 hp rfl (Or.inl ⟨rfl, f2, f3, rfl, rfl⟩) (Or.inl ⟨rfl, g2, rfl, rfl⟩) rfl rfl rfl rfl rfl rfl)) (fun k => absurd ⟨g2, r1⟩ k)
    · subst g1
      exact gq_depth (k := 0) (by decide) (fun k => absurd k.1 g2) (fun _ => br_t rfl (gt_102 hp rfl (Or.inl ⟨rfl, f2, f3, rfl, rfl⟩) (Or.inr ⟨rfl, rfl, rfl⟩) rfl rfl rfl rfl rfl rfl))
  · subst f1
    refine gq_place (k := 0) (by decide) (fun k => absurd k f2) (fun _ => br_t rfl ?_)
    unfold wL_lawOf_78
    refine br_t rfl ?_
    rcases hg with ⟨g1, g2⟩ | ⟨g1, g2⟩
    · subst g1
      exact gq_depth (k := 0) (by decide) (fun _ => br_f (by decide) (gt_102 hp rfl (Or.inr ⟨rfl, rfl, rfl⟩) (Or.inl ⟨rfl, g2, rfl, rfl⟩) rfl rfl rfl rfl rfl rfl)) (fun k => absurd ⟨g2, r1⟩ k)
    · subst g1
      exact gq_depth (k := 0) (by decide) (fun k => absurd k.1 g2) (fun _ => br_t rfl (gt_102 hp rfl (Or.inr ⟨rfl, rfl, rfl⟩) (Or.inr ⟨rfl, rfl, rfl⟩) rfl rfl rfl rfl rfl rfl))
theorem gu_law {post : Int32 → St0 → Prop} {p0 p1 p2 p3 p4 p5 : Int32} (hp : post 1 ()) : wpL_lawOf post 18 897 () p0 p1 p2 p3 p4 p5 := by
  have K : ∀ x7 : Int32, ((x7 = 1 ∧ gq_r p0 ∧ gq_r p1) ∨ (x7 = 0 ∧ ¬ (gq_r p0 ∧ gq_r p1))) → wL_lawOf_38 post 18 897 p0 p1 p2 p3 p4 p5 x7 (1 + 17) (21 + 876) 0 0 0 0 (fun _ => 0) (fun _ => 0) (fun _ => 0) (fun _ => 0) (fun _ => 0) (fun _ => 0) (fun _ => 0) (fun _ => 0) (fun _ => 0) (fun _ => 0) (fun _ => 0) (fun _ => 0) (fun _ => 0) (fun _ => 0) (fun _ => 0) (fun _ => 0) (fun _ => 0) := by
    intro x7 h
    unfold wL_lawOf_38
    exact br_c (fun z => gu_57 hp h (Or.inr ⟨rfl, fun k => k.1 z⟩)) (fun n1 => br_c (fun z => gu_57 hp h (Or.inr ⟨rfl, fun k => k.2 z⟩)) (fun n2 => gu_57 hp h (Or.inl ⟨rfl, n1, n2⟩)))
  have N : ¬ (gq_r p0 ∧ gq_r p1) → wL_lawOf_37 post 18 897 p0 p1 p2 p3 p4 p5 (1 + 17) (21 + 876) 0 0 0 0 (fun _ => 0) (fun _ => 0) (fun _ => 0) (fun _ => 0) (fun _ => 0) (fun _ => 0) (fun _ => 0) (fun _ => 0) (fun _ => 0) (fun _ => 0) (fun _ => 0) (fun _ => 0) (fun _ => 0) (fun _ => 0) (fun _ => 0) (fun _ => 0) (fun _ => 0) := fun h => K 0 (Or.inr ⟨rfl, h⟩)
  unfold wpL_lawOf
  refine ⟨by decide, by decide, 17, 876, by decide, by decide, ?_⟩
  unfold wpX_init
  dsimp only
  refine ⟨by decide, by decide, by decide, by decide, by decide, by decide, by decide, by decide, by decide, by decide, by decide, by decide, by decide, by decide, by decide, by decide, by decide, by decide, by decide, by decide, by decide, by decide, by decide, by decide, by decide, by decide, by decide, by decide, by decide, by decide, by decide, by decide, by decide, by decide, ?_⟩
  exact br_c (fun z => N (fun k => k.1.1 z)) (fun n1 => br_c (fun z => N (fun k => k.1.2 z)) (fun n2 => br_c (fun z => N (fun k => k.2.1 z)) (fun n3 => br_c (fun z => N (fun k => k.2.2 z)) (fun n4 => K 1 (Or.inl ⟨rfl, ⟨n1, n2⟩, n3, n4⟩)))))
theorem gu_cell {post : Int32 → Prop} {L k : Nat} {xs : Nat → Int32} (hL : L ≤ 6) (hk : k < 6) (H : ∀ r, post r) : wpL_cellAt post L xs () (nI k) :=
  pk_le L k (fun _ => H 0) (fun z => ⟨pk_in k L z, H _⟩)
theorem i_vc (xs : Nat → Int32) (L : Nat) (hL : L ≤ 6) : wpL_law (fun r => r = 1) L xs := by
  unfold wpL_law
  refine gu_cell (k := 0) hL (by decide) (fun r1 => gu_cell (k := 1) hL (by decide) (fun r2 => gu_cell (k := 2) hL (by decide) (fun r3 => gu_cell (k := 3) hL (by decide) (fun r4 => gu_cell (k := 4) hL (by decide) (fun r5 => gu_cell (k := 5) hL (by decide) (fun r6 => ?_))))))
  exact ⟨18, 897, by decide, by decide, gu_law rfl⟩
end
