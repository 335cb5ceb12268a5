section
/-- a corner: x, y, z, w -/
abbrev cg_V : Type := Int × Int × Int × Int
def cg_dot (m v : cg_V) : Int := m.1 * v.1 + m.2.1 * v.2.1 + m.2.2.1 * v.2.2.1 + m.2.2.2 * v.2.2.2
def cg_mix (p q : Int) (u v : cg_V) : cg_V := (u.1 * p + v.1 * q, u.2.1 * p + v.2.1 * q, u.2.2.1 * p + v.2.2.1 * q, u.2.2.2 * p + v.2.2.2 * q)
def cg_sc (g : Int) (v : cg_V) : cg_V := (g * v.1, g * v.2.1, g * v.2.2.1, g * v.2.2.2)
/-- the six sides -/
def cg_s : Nat → cg_V
  | 0 => (1, 0, 0, 1)
  | 1 => (-1, 0, 0, 1)
  | 2 => (0, 1, 0, 1)
  | 3 => (0, -1, 0, 1)
  | 4 => (0, 0, 1, 0)
  | _ => (0, 0, -1, 1)
def cg_g (v : cg_V) : Nat := Nat.gcd (Nat.gcd (Nat.gcd v.1.natAbs v.2.1.natAbs) v.2.2.1.natAbs) v.2.2.2.natAbs
def cg_red (v : cg_V) : cg_V := (v.1.tdiv (cg_g v), v.2.1.tdiv (cg_g v), v.2.2.1.tdiv (cg_g v), v.2.2.2.tdiv (cg_g v))
def cg_b (M : Int) (v : cg_V) : Prop := (-M ≤ v.1 ∧ v.1 ≤ M) ∧ (-M ≤ v.2.1 ∧ v.2.1 ≤ M) ∧ (-M ≤ v.2.2.1 ∧ v.2.2.1 ≤ M) ∧ (-M ≤ v.2.2.2 ∧ v.2.2.2 ≤ M)
theorem cg_ext {u v : cg_V} (h1 : u.1 = v.1) (h2 : u.2.1 = v.2.1) (h3 : u.2.2.1 = v.2.2.1) (h4 : u.2.2.2 = v.2.2.2) : u = v := by
  obtain ⟨a, b, c, d⟩ := u
  obtain ⟨a', b', c', d'⟩ := v
  simp only at h1 h2 h3 h4
  rw [h1, h2, h3, h4]
theorem cg_dot_mix (m : cg_V) (p q : Int) (u v : cg_V) : cg_dot m (cg_mix p q u v) = cg_dot m u * p + cg_dot m v * q := by
  simp only [cg_dot, cg_mix]
  grind
theorem cg_dot_sc (m : cg_V) (g : Int) (v : cg_V) : cg_dot m (cg_sc g v) = g * cg_dot m v := by
  simp only [cg_dot, cg_sc]
  grind
theorem cg_mix10 (u v : cg_V) : cg_mix 1 0 u v = u := by
  apply cg_ext <;> simp [cg_mix]
theorem cg_dvd1 (v : cg_V) : ((cg_g v : Nat) : Int) ∣ v.1 := Int.ofNat_dvd_left.mpr (Nat.dvd_trans (Nat.gcd_dvd_left _ _) (Nat.dvd_trans (Nat.gcd_dvd_left _ _) (Nat.gcd_dvd_left _ _)))
theorem cg_dvd2 (v : cg_V) : ((cg_g v : Nat) : Int) ∣ v.2.1 := Int.ofNat_dvd_left.mpr (Nat.dvd_trans (Nat.gcd_dvd_left _ _) (Nat.dvd_trans (Nat.gcd_dvd_left _ _) (Nat.gcd_dvd_right _ _)))
theorem cg_dvd3 (v : cg_V) : ((cg_g v : Nat) : Int) ∣ v.2.2.1 := Int.ofNat_dvd_left.mpr (Nat.dvd_trans (Nat.gcd_dvd_left _ _) (Nat.gcd_dvd_right _ _))
theorem cg_dvd4 (v : cg_V) : ((cg_g v : Nat) : Int) ∣ v.2.2.2 := Int.ofNat_dvd_left.mpr (Nat.gcd_dvd_right _ _)
theorem cg_red_sc (v : cg_V) : cg_sc (cg_g v) (cg_red v) = v := by
  apply cg_ext
  · exact Int.mul_tdiv_cancel' (cg_dvd1 v)
  · exact Int.mul_tdiv_cancel' (cg_dvd2 v)
  · exact Int.mul_tdiv_cancel' (cg_dvd3 v)
  · exact Int.mul_tdiv_cancel' (cg_dvd4 v)
theorem cg_g_sc (g : Int) (v : cg_V) : cg_g (cg_sc g v) = g.natAbs * cg_g v := by
  simp only [cg_g, cg_sc, Int.natAbs_mul, Nat.gcd_mul_left]
theorem cg_g0 {v : cg_V} (h : cg_g v = 0) : v = (0, 0, 0, 0) := by
  have e := cg_red_sc v
  rw [h] at e
  rw [← e]
  simp [cg_sc]
theorem cg_red0 {v : cg_V} (h : cg_g v = 0) : cg_red v = (0, 0, 0, 0) := by
  rw [cg_g0 h]
  decide
theorem cg_red_g1 {v : cg_V} (h : cg_g v ≠ 0) : cg_g (cg_red v) = 1 := by
  have e := cg_g_sc (cg_g v) (cg_red v)
  rw [cg_red_sc, Int.natAbs_natCast] at e
  exact (Nat.eq_of_mul_eq_mul_left (by omega) (by omega : cg_g v * 1 = cg_g v * cg_g (cg_red v))).symm
/-- what freeing of divisors does: a multiple by some g > 0 -/
theorem cg_red_ex (v : cg_V) : ∃ g : Int, 0 < g ∧ cg_sc g (cg_red v) = v := by
  by_cases h : cg_g v = 0
  · refine ⟨1, by omega, ?_⟩
    rw [cg_red0 h, cg_g0 h]
    rfl
  · exact ⟨cg_g v, by omega, cg_red_sc v⟩
theorem cg_tdiv_b {M x : Int} (g : Int) (h : -M ≤ x ∧ x ≤ M) : -M ≤ x.tdiv g ∧ x.tdiv g ≤ M := by
  have e := Int.natAbs_tdiv_le_natAbs x g
  omega
theorem cg_red_b {M : Int} {v : cg_V} (h : cg_b M v) : cg_b M (cg_red v) :=
  ⟨cg_tdiv_b _ h.1, cg_tdiv_b _ h.2.1, cg_tdiv_b _ h.2.2.1, cg_tdiv_b _ h.2.2.2⟩
theorem cg_b_mono {M M' : Int} {v : cg_V} (hM : M ≤ M') (h : cg_b M v) : cg_b M' v := by
  obtain ⟨⟨a, b⟩, ⟨c, d⟩, ⟨e, f⟩, g, i⟩ := h
  exact ⟨⟨by omega, by omega⟩, ⟨by omega, by omega⟩, ⟨by omega, by omega⟩, by omega, by omega⟩
theorem cg_mulb {A B x y : Int} (hx : -A ≤ x ∧ x ≤ A) (hy : -B ≤ y ∧ y ≤ B) : -(A * B) ≤ x * y ∧ x * y ≤ A * B := by
  have hA : 0 ≤ A := by omega
  have h1 : (x * y).natAbs ≤ A.natAbs * B.natAbs := by
    rw [Int.natAbs_mul]
    exact Nat.mul_le_mul (by omega) (by omega)
  rw [← Int.natAbs_mul] at h1
  have h2 : 0 ≤ A * B := Int.mul_nonneg hA (by omega)
  omega
/-- a vector free of common divisors and proportional to U isn't larger than U -/
theorem cg_prim1 (U q : cg_V) (x X : Int) (hq : cg_g q ≤ 1) (hU : cg_g U ≠ 0) (h1 : x * U.1 = q.1 * X) (h2 : x * U.2.1 = q.2.1 * X) (h3 : x * U.2.2.1 = q.2.2.1 * X) (h4 : x * U.2.2.2 = q.2.2.2 * X) : x.natAbs ≤ X.natAbs := by
  have e1 := cg_g_sc x U
  have e2 := cg_g_sc X q
  have e : cg_sc x U = cg_sc X q := by
    apply cg_ext
    · exact h1.trans (Int.mul_comm _ _)
    · exact h2.trans (Int.mul_comm _ _)
    · exact h3.trans (Int.mul_comm _ _)
    · exact h4.trans (Int.mul_comm _ _)
  rw [e, e2] at e1
  have k1 : x.natAbs * 1 ≤ x.natAbs * cg_g U := Nat.mul_le_mul_left _ (by omega)
  have k2 : X.natAbs * cg_g q ≤ X.natAbs * 1 := Nat.mul_le_mul_left _ hq
  omega
theorem cg_gU {U : cg_V} (h : ¬ U = (0, 0, 0, 0)) : cg_g U ≠ 0 := fun e => h (cg_g0 e)
/-- the six proportions at once -/
def cg_par (q U : cg_V) : Prop := q.1 * U.2.1 = q.2.1 * U.1 ∧ q.1 * U.2.2.1 = q.2.2.1 * U.1 ∧ q.1 * U.2.2.2 = q.2.2.2 * U.1 ∧ q.2.1 * U.2.2.1 = q.2.2.1 * U.2.1 ∧ q.2.1 * U.2.2.2 = q.2.2.2 * U.2.1 ∧ q.2.2.1 * U.2.2.2 = q.2.2.2 * U.2.2.1
theorem cg_prim {U q : cg_V} {M : Int} (hq : cg_g q ≤ 1) (hU : ¬ U = (0, 0, 0, 0)) (hp : cg_par q U) (hb : cg_b M U) : cg_b M q := by
  obtain ⟨p1, p2, p3, p4, p5, p6⟩ := hp
  have n1 := cg_prim1 U q q.1 U.1 hq (cg_gU hU) rfl p1 p2 p3
  have n2 := cg_prim1 U q q.2.1 U.2.1 hq (cg_gU hU) p1.symm rfl p4 p5
  have n3 := cg_prim1 U q q.2.2.1 U.2.2.1 hq (cg_gU hU) p2.symm p4.symm rfl p6
  have n4 := cg_prim1 U q q.2.2.2 U.2.2.2 hq (cg_gU hU) p3.symm p5.symm p6.symm rfl
  obtain ⟨b1, b2, b3, b4⟩ := hb
  exact ⟨by omega, by omega, by omega, by omega⟩
theorem cg_g_red (v : cg_V) : cg_g (cg_red v) ≤ 1 := by
  by_cases h : cg_g v = 0
  · rw [cg_red0 h]
    decide
  · rw [cg_red_g1 h]
    exact Nat.le_refl 1
end
section
/-- the vector on which a, b, c are zero -/
def cg_U (a b c : cg_V) : cg_V :=
  (a.2.1 * (b.2.2.1 * c.2.2.2 - b.2.2.2 * c.2.2.1) - a.2.2.1 * (b.2.1 * c.2.2.2 - b.2.2.2 * c.2.1) + a.2.2.2 * (b.2.1 * c.2.2.1 - b.2.2.1 * c.2.1),
   -(a.1 * (b.2.2.1 * c.2.2.2 - b.2.2.2 * c.2.2.1) - a.2.2.1 * (b.1 * c.2.2.2 - b.2.2.2 * c.1) + a.2.2.2 * (b.1 * c.2.2.1 - b.2.2.1 * c.1)),
   a.1 * (b.2.1 * c.2.2.2 - b.2.2.2 * c.2.1) - a.2.1 * (b.1 * c.2.2.2 - b.2.2.2 * c.1) + a.2.2.2 * (b.1 * c.2.1 - b.2.1 * c.1),
   -(a.1 * (b.2.1 * c.2.2.1 - b.2.2.1 * c.2.1) - a.2.1 * (b.1 * c.2.2.1 - b.2.2.1 * c.1) + a.2.2.1 * (b.1 * c.2.1 - b.2.1 * c.1)))
theorem cg_U_i (a0 a1 a2 a3 b0 b1 b2 b3 c0 c1 c2 c3 q0 q1 q2 q3 : Int) (ha : a0 * q0 + a1 * q1 + a2 * q2 + a3 * q3 = 0) (hb : b0 * q0 + b1 * q1 + b2 * q2 + b3 * q3 = 0) (hc : c0 * q0 + c1 * q1 + c2 * q2 + c3 * q3 = 0) :
    q0 * (a0 * (b2 * c3 - b3 * c2) - a2 * (b0 * c3 - b3 * c0) + a3 * (b0 * c2 - b2 * c0)) + q1 * (a1 * (b2 * c3 - b3 * c2) - a2 * (b1 * c3 - b3 * c1) + a3 * (b1 * c2 - b2 * c1)) = 0 := by
  have e : q0 * (a0 * (b2 * c3 - b3 * c2) - a2 * (b0 * c3 - b3 * c0) + a3 * (b0 * c2 - b2 * c0)) + q1 * (a1 * (b2 * c3 - b3 * c2) - a2 * (b1 * c3 - b3 * c1) + a3 * (b1 * c2 - b2 * c1)) = (a0 * q0 + a1 * q1 + a2 * q2 + a3 * q3) * (b2 * c3 - b3 * c2) - (b0 * q0 + b1 * q1 + b2 * q2 + b3 * q3) * (a2 * c3 - a3 * c2) + (c0 * q0 + c1 * q1 + c2 * q2 + c3 * q3) * (a2 * b3 - a3 * b2) := by grind
  rw [e, ha, hb, hc]
  simp
theorem cg_U_par {a b c q : cg_V} (ha : cg_dot a q = 0) (hb : cg_dot b q = 0) (hc : cg_dot c q = 0) : cg_par q (cg_U a b c) := by
  obtain ⟨a0, a1, a2, a3⟩ := a
  obtain ⟨b0, b1, b2, b3⟩ := b
  obtain ⟨c0, c1, c2, c3⟩ := c
  obtain ⟨q0, q1, q2, q3⟩ := q
  simp only [cg_dot] at ha hb hc
  have k01 := cg_U_i a0 a1 a2 a3 b0 b1 b2 b3 c0 c1 c2 c3 q0 q1 q2 q3 ha hb hc
  have k02 := cg_U_i a0 a2 a1 a3 b0 b2 b1 b3 c0 c2 c1 c3 q0 q2 q1 q3 (by omega) (by omega) (by omega)
  have k03 := cg_U_i a0 a3 a1 a2 b0 b3 b1 b2 c0 c3 c1 c2 q0 q3 q1 q2 (by omega) (by omega) (by omega)
  have k12 := cg_U_i a1 a2 a0 a3 b1 b2 b0 b3 c1 c2 c0 c3 q1 q2 q0 q3 (by omega) (by omega) (by omega)
  have k13 := cg_U_i a1 a3 a0 a2 b1 b3 b0 b2 c1 c3 c0 c2 q1 q3 q0 q2 (by omega) (by omega) (by omega)
  have k23 := cg_U_i a2 a3 a0 a1 b2 b3 b0 b1 c2 c3 c0 c1 q2 q3 q0 q1 (by omega) (by omega) (by omega)
  simp only [cg_par, cg_U]
  refine ⟨?_, ?_, ?_, ?_, ?_, ?_⟩
  · clear k02 k03 k12 k13 k23 ha hb hc; grind
  · clear k01 k03 k12 k13 k23 ha hb hc; grind
  · clear k01 k02 k12 k13 k23 ha hb hc; grind
  · clear k01 k02 k03 k13 k23 ha hb hc; grind
  · clear k01 k02 k03 k12 k23 ha hb hc; grind
  · clear k01 k02 k03 k12 k13 ha hb hc; grind
theorem cg_U_det (a0 a1 a2 a3 b0 b1 b2 b3 c0 c1 c2 c3 t0 t1 t2 t3 u0 u1 u2 u3 : Int) :
    a2 * ((b0 * t0 + b1 * t1 + b2 * t2 + b3 * t3) * (c0 * u0 + c1 * u1 + c2 * u2 + c3 * u3) - (b0 * u0 + b1 * u1 + b2 * u2 + b3 * u3) * (c0 * t0 + c1 * t1 + c2 * t2 + c3 * t3))
      - (a0 * t0 + a1 * t1 + a2 * t2 + a3 * t3) * (b2 * (c0 * u0 + c1 * u1 + c2 * u2 + c3 * u3) - c2 * (b0 * u0 + b1 * u1 + b2 * u2 + b3 * u3))
      + (a0 * u0 + a1 * u1 + a2 * u2 + a3 * u3) * (b2 * (c0 * t0 + c1 * t1 + c2 * t2 + c3 * t3) - c2 * (b0 * t0 + b1 * t1 + b2 * t2 + b3 * t3))
    = (a0 * (b1 * c2 - b2 * c1) - a1 * (b0 * c2 - b2 * c0) + a2 * (b0 * c1 - b1 * c0)) * (t0 * u1 - t1 * u0)
      - (a0 * (b2 * c3 - b3 * c2) - a2 * (b0 * c3 - b3 * c0) + a3 * (b0 * c2 - b2 * c0)) * (t0 * u3 - t3 * u0)
      - (a1 * (b2 * c3 - b3 * c2) - a2 * (b1 * c3 - b3 * c1) + a3 * (b1 * c2 - b2 * c1)) * (t1 * u3 - t3 * u1) := by grind
theorem cg_U_ne {a b c t u : cg_V} (ht : cg_dot a t = 0) (hu : cg_dot a u = 0) (hbt : cg_dot b t ≠ 0) (hbu : cg_dot b u = 0) (hcu : cg_dot c u ≠ 0) (h2 : a.2.2.1 ≠ 0) : ¬ cg_U a b c = (0, 0, 0, 0) := by
  intro z
  obtain ⟨a0, a1, a2, a3⟩ := a
  obtain ⟨b0, b1, b2, b3⟩ := b
  obtain ⟨c0, c1, c2, c3⟩ := c
  obtain ⟨t0, t1, t2, t3⟩ := t
  obtain ⟨u0, u1, u2, u3⟩ := u
  have z0 := congrArg (fun v : cg_V => v.1) z
  have z1 := congrArg (fun v : cg_V => v.2.1) z
  have z3 := congrArg (fun v : cg_V => v.2.2.2) z
  simp only [cg_U] at z0 z1 z3
  simp only [cg_dot] at ht hu hbt hbu hcu
  have e := cg_U_det a0 a1 a2 a3 b0 b1 b2 b3 c0 c1 c2 c3 t0 t1 t2 t3 u0 u1 u2 u3
  rw [ht, hu, hbu, z0, Int.neg_eq_zero.mp z1, Int.neg_eq_zero.mp z3] at e
  have e' : a2 * ((b0 * t0 + b1 * t1 + b2 * t2 + b3 * t3) * (c0 * u0 + c1 * u1 + c2 * u2 + c3 * u3)) = 0 := by
    simpa using e
  rcases Int.mul_eq_zero.mp e' with k | k
  · exact h2 k
  · rcases Int.mul_eq_zero.mp k with k | k
    · exact hbt k
    · exact hcu k
theorem cg_s_cases {P : Nat → Prop} (h0 : P 0) (h1 : P 1) (h2 : P 2) (h3 : P 3) (h4 : P 4) (h5 : P 5) {s : Nat} (hs : s < 6) : P s := by
  match s, hs with
  | 0, _ => exact h0
  | 1, _ => exact h1
  | 2, _ => exact h2
  | 3, _ => exact h3
  | 4, _ => exact h4
  | 5, _ => exact h5
theorem cg_s_b (s : Nat) : cg_b 1 (cg_s s) := by
  unfold cg_s
  split <;> (simp only [cg_b]; decide)
theorem cg_m2 {a b c d : Int} (ha : -1 ≤ a ∧ a ≤ 1) (hb : -1 ≤ b ∧ b ≤ 1) (hc : -1 ≤ c ∧ c ≤ 1) (hd : -1 ≤ d ∧ d ≤ 1) : -2 ≤ a * b - c * d ∧ a * b - c * d ≤ 2 := by
  have k1 := cg_mulb ha hb
  have k2 := cg_mulb hc hd
  omega
theorem cg_m3 {x y z p q r : Int} (hx : -48000 ≤ x ∧ x ≤ 48000) (hy : -48000 ≤ y ∧ y ≤ 48000) (hz : -48000 ≤ z ∧ z ≤ 48000) (hp : -2 ≤ p ∧ p ≤ 2) (hq : -2 ≤ q ∧ q ≤ 2) (hr : -2 ≤ r ∧ r ≤ 2) : (-288000 ≤ x * p - y * q + z * r ∧ x * p - y * q + z * r ≤ 288000) ∧ (-288000 ≤ -(x * p - y * q + z * r) ∧ -(x * p - y * q + z * r) ≤ 288000) := by
  have k1 := cg_mulb hx hp
  have k2 := cg_mulb hy hq
  have k3 := cg_mulb hz hr
  omega
theorem cg_U_b {n : cg_V} (r s : Nat) (hn : cg_b 48000 n) : cg_b 288000 (cg_U n (cg_s r) (cg_s s)) := by
  have hr := cg_s_b r
  have hs := cg_s_b s
  generalize cg_s r = b at *
  generalize cg_s s = c at *
  obtain ⟨n0, n1, n2, n3⟩ := hn
  obtain ⟨b0, b1, b2, b3⟩ := hr
  obtain ⟨c0, c1, c2, c3⟩ := hs
  exact ⟨(cg_m3 n1 n2 n3 (cg_m2 b2 c3 b3 c2) (cg_m2 b1 c3 b3 c1) (cg_m2 b1 c2 b2 c1)).1, (cg_m3 n0 n2 n3 (cg_m2 b2 c3 b3 c2) (cg_m2 b0 c3 b3 c0) (cg_m2 b0 c2 b2 c0)).2, (cg_m3 n0 n1 n3 (cg_m2 b1 c3 b3 c1) (cg_m2 b0 c3 b3 c0) (cg_m2 b0 c1 b1 c0)).1, (cg_m3 n0 n1 n2 (cg_m2 b1 c2 b2 c1) (cg_m2 b0 c2 b2 c0) (cg_m2 b0 c1 b1 c0)).2⟩
end
section
def cg_det (p q r : cg_V) : Int := p.1 * (q.2.1 * r.2.2.2 - q.2.2.2 * r.2.1) - p.2.1 * (q.1 * r.2.2.2 - q.2.2.2 * r.1) + p.2.2.2 * (q.1 * r.2.1 - q.2.1 * r.1)
/-- a triangle that isn't seen from its edge, and a plane through it -/
def cg_T (C : Nat → cg_V) (n : cg_V) : Prop := (∀ f, f < 3 → cg_b 20 (C f)) ∧ (∀ f, f < 3 → cg_dot n (C f) = 0) ∧ cg_b 48000 n ∧ n.2.2.1 ≠ 0 ∧ (∀ f, f < 3 → cg_det (C f) (C ((f + 1) % 3)) (C ((f + 2) % 3)) ≠ 0)
/-- on the line through two corners -/
def cg_on (p r v : cg_V) : Prop := ∃ d a b : Int, d ≠ 0 ∧ cg_sc d v = cg_mix a b p r
/-- a line of the plane that an edge may lie on -/
def cg_line (C : Nat → cg_V) (n : cg_V) (s : Nat) (P : cg_V → Prop) : Prop :=
  (∃ f, f < 3 ∧ P = cg_on (C f) (C ((f + 1) % 3))) ∨ (∃ r, r < s ∧ (∃ t, cg_dot n t = 0 ∧ cg_dot (cg_s r) t ≠ 0) ∧ P = fun v => cg_dot (cg_s r) v = 0)
def cg_Lab (C : Nat → cg_V) (n : cg_V) (s : Nat) (u v : cg_V) : Prop := ∃ P, cg_line C n s P ∧ P u ∧ P v
theorem cg_on_i {d d' g q u v p r a b a' b' x y : Int} (hq : g * q = u * x + v * y) (hu : d * u = p * a + r * b) (hv : d' * v = p * a' + r * b') : d * d' * g * q = p * (x * d' * a + y * d * a') + r * (x * d' * b + y * d * b') := by
  have e1 : d * d' * g * q = d * d' * (g * q) := by grind
  rw [e1, hq]
  have e2 : d * d' * (u * x + v * y) = d' * x * (d * u) + d * y * (d' * v) := by grind
  rw [e2, hu, hv]
  grind
theorem cg_on_mix {p r u v q : cg_V} {g x y : Int} (hu : cg_on p r u) (hv : cg_on p r v) (hg : g ≠ 0) (hq : cg_sc g q = cg_mix x y u v) : cg_on p r q := by
  obtain ⟨d, a, b, hd, e⟩ := hu
  obtain ⟨d', a', b', hd', e'⟩ := hv
  refine ⟨d * d' * g, x * d' * a + y * d * a', x * d' * b + y * d * b', ?_, ?_⟩
  · intro z
    rcases Int.mul_eq_zero.mp z with k | k
    · rcases Int.mul_eq_zero.mp k with k | k
      · exact hd k
      · exact hd' k
    · exact hg k
  · apply cg_ext
    · exact cg_on_i (congrArg (fun v : cg_V => v.1) hq) (congrArg (fun v : cg_V => v.1) e) (congrArg (fun v : cg_V => v.1) e')
    · exact cg_on_i (congrArg (fun v : cg_V => v.2.1) hq) (congrArg (fun v : cg_V => v.2.1) e) (congrArg (fun v : cg_V => v.2.1) e')
    · exact cg_on_i (congrArg (fun v : cg_V => v.2.2.1) hq) (congrArg (fun v : cg_V => v.2.2.1) e) (congrArg (fun v : cg_V => v.2.2.1) e')
    · exact cg_on_i (congrArg (fun v : cg_V => v.2.2.2) hq) (congrArg (fun v : cg_V => v.2.2.2) e) (congrArg (fun v : cg_V => v.2.2.2) e')
theorem cg_on_l (p r : cg_V) : cg_on p r p := ⟨1, 1, 0, by omega, by apply cg_ext <;> simp [cg_sc, cg_mix]⟩
theorem cg_on_r (p r : cg_V) : cg_on p r r := ⟨1, 0, 1, by omega, by apply cg_ext <;> simp [cg_sc, cg_mix]⟩
theorem cg_line_mix {C : Nat → cg_V} {n : cg_V} {s : Nat} {P : cg_V → Prop} (h : cg_line C n s P) {u v q : cg_V} {g x y : Int} (hu : P u) (hv : P v) (hg : g ≠ 0) (hq : cg_sc g q = cg_mix x y u v) : P q := by
  rcases h with ⟨f, _, rfl⟩ | ⟨r, _, _, rfl⟩
  · exact cg_on_mix hu hv hg hq
  · have e := cg_dot_sc (cg_s r) g q
    rw [hq, cg_dot_mix] at e
    have hu' : cg_dot (cg_s r) u = 0 := hu
    have hv' : cg_dot (cg_s r) v = 0 := hv
    rw [hu', hv'] at e
    have e' : g * cg_dot (cg_s r) q = 0 := by omega
    rcases Int.mul_eq_zero.mp e' with k | k
    · exact absurd k hg
    · exact k
theorem cg_line_red {C : Nat → cg_V} {n : cg_V} {s : Nat} {P : cg_V → Prop} (h : cg_line C n s P) {u v : cg_V} (x y : Int) (hu : P u) (hv : P v) : P (cg_red (cg_mix x y u v)) := by
  obtain ⟨g, hg, e⟩ := cg_red_ex (cg_mix x y u v)
  exact cg_line_mix h hu hv (by omega) e
theorem cg_line_red1 {C : Nat → cg_V} {n : cg_V} {s : Nat} {P : cg_V → Prop} (h : cg_line C n s P) {u : cg_V} (hu : P u) : P (cg_red u) := by
  have k := cg_line_red h 1 0 hu hu
  rw [cg_mix10] at k
  exact k
theorem cg_line_mono {C : Nat → cg_V} {n : cg_V} {s : Nat} {P : cg_V → Prop} (h : cg_line C n s P) : cg_line C n (s + 1) P := by
  rcases h with h | ⟨r, hr, k⟩
  · exact Or.inl h
  · exact Or.inr ⟨r, by omega, k⟩
theorem cg_det_l (p0 p1 p3 r0 r1 r3 t0 t1 t3 x y : Int) (h0 : p0 * x + r0 * y = 0) (h1 : p1 * x + r1 * y = 0) (h3 : p3 * x + r3 * y = 0) :
    x * (p0 * (r1 * t3 - r3 * t1) - p1 * (r0 * t3 - r3 * t0) + p3 * (r0 * t1 - r1 * t0)) = 0 ∧ y * (p0 * (r1 * t3 - r3 * t1) - p1 * (r0 * t3 - r3 * t0) + p3 * (r0 * t1 - r1 * t0)) = 0 := by
  have e1 : x * (p0 * (r1 * t3 - r3 * t1) - p1 * (r0 * t3 - r3 * t0) + p3 * (r0 * t1 - r1 * t0)) = (p0 * x + r0 * y) * (r1 * t3 - r3 * t1) - (p1 * x + r1 * y) * (r0 * t3 - r3 * t0) + (p3 * x + r3 * y) * (r0 * t1 - r1 * t0) := by grind
  have e2 : y * (p0 * (r1 * t3 - r3 * t1) - p1 * (r0 * t3 - r3 * t0) + p3 * (r0 * t1 - r1 * t0)) = p0 * ((p1 * x + r1 * y) * t3 - (p3 * x + r3 * y) * t1) - p1 * ((p0 * x + r0 * y) * t3 - (p3 * x + r3 * y) * t0) + p3 * ((p0 * x + r0 * y) * t1 - (p1 * x + r1 * y) * t0) := by grind
  rw [e1, e2, h0, h1, h3]
  simp
theorem cg_det_mix {p r t : cg_V} {x y : Int} (h : cg_mix x y p r = (0, 0, 0, 0)) (hd : cg_det p r t ≠ 0) : x = 0 ∧ y = 0 := by
  obtain ⟨k1, k2⟩ := cg_det_l p.1 p.2.1 p.2.2.2 r.1 r.2.1 r.2.2.2 t.1 t.2.1 t.2.2.2 x y (congrArg (fun v : cg_V => v.1) h) (congrArg (fun v : cg_V => v.2.1) h) (congrArg (fun v : cg_V => v.2.2.2) h)
  constructor
  · rcases Int.mul_eq_zero.mp k1 with z | z
    · exact z
    · exact absurd z hd
  · rcases Int.mul_eq_zero.mp k2 with z | z
    · exact z
    · exact absurd z hd
theorem cg_edge_i {d a b x y pi pj ri rj qi qj : Int} (hd : d ≠ 0) (hi : d * qi = pi * a + ri * b) (hj : d * qj = pj * a + rj * b) (h : a * y = b * x) : qi * (pj * x + rj * y) = qj * (pi * x + ri * y) := by
  apply Int.eq_of_mul_eq_mul_left hd
  have e1 : d * (qi * (pj * x + rj * y)) = (d * qi) * (pj * x + rj * y) := by grind
  have e2 : d * (qj * (pi * x + ri * y)) = (d * qj) * (pi * x + ri * y) := by grind
  rw [e1, e2, hi, hj]
  have e3 : (pi * a + ri * b) * (pj * x + rj * y) - (pj * a + rj * b) * (pi * x + ri * y) = (a * y - b * x) * (pi * rj - pj * ri) := by grind
  have e4 : a * y - b * x = 0 := by omega
  rw [e4, Int.zero_mul] at e3
  omega
theorem cg_edge_par {p r q : cg_V} {d a b x y : Int} (hd : d ≠ 0) (hq : cg_sc d q = cg_mix a b p r) (h : a * y = b * x) : cg_par q (cg_mix x y p r) := by
  have k0 := congrArg (fun v : cg_V => v.1) hq
  have k1 := congrArg (fun v : cg_V => v.2.1) hq
  have k2 := congrArg (fun v : cg_V => v.2.2.1) hq
  have k3 := congrArg (fun v : cg_V => v.2.2.2) hq
  simp only [cg_sc, cg_mix] at k0 k1 k2 k3
  exact ⟨cg_edge_i hd k0 k1 h, cg_edge_i hd k0 k2 h, cg_edge_i hd k0 k3 h, cg_edge_i hd k1 k2 h, cg_edge_i hd k1 k3 h, cg_edge_i hd k2 k3 h⟩
theorem cg_sd_b {M : Int} {v : cg_V} (h : cg_b M v) {s : Nat} (hs : s < 6) : -(2 * M) ≤ cg_dot (cg_s s) v ∧ cg_dot (cg_s s) v ≤ 2 * M := by
  obtain ⟨a, b, c, d⟩ := v
  obtain ⟨b0, b1, b2, b3⟩ := h
  simp only at b0 b1 b2 b3
  refine cg_s_cases (P := fun s => -(2 * M) ≤ cg_dot (cg_s s) (a, b, c, d) ∧ cg_dot (cg_s s) (a, b, c, d) ≤ 2 * M) ?_ ?_ ?_ ?_ ?_ ?_ hs <;>
  · simp only [cg_dot, cg_s]
    omega
theorem cg_mix_b {A B : Int} {u v : cg_V} {x y : Int} (hu : cg_b A u) (hv : cg_b A v) (hx : -B ≤ x ∧ x ≤ B) (hy : -B ≤ y ∧ y ≤ B) : cg_b (2 * (A * B)) (cg_mix x y u v) := by
  obtain ⟨u0, u1, u2, u3⟩ := hu
  obtain ⟨v0, v1, v2, v3⟩ := hv
  have a0 := cg_mulb u0 hx
  have a1 := cg_mulb u1 hx
  have a2 := cg_mulb u2 hx
  have a3 := cg_mulb u3 hx
  have c0 := cg_mulb v0 hy
  have c1 := cg_mulb v1 hy
  have c2 := cg_mulb v2 hy
  have c3 := cg_mulb v3 hy
  simp only [cg_mix, cg_b]
  generalize A * B = K at *
  refine ⟨⟨?_, ?_⟩, ⟨?_, ?_⟩, ⟨?_, ?_⟩, ?_, ?_⟩ <;> omega
/-- THE BOUND: the corner made by side s on an edge -/
theorem cg_new_b {C : Nat → cg_V} {n : cg_V} (hT : cg_T C n) {s : Nat} (hs : s < 6) {P : cg_V → Prop} (hP : cg_line C n s P) {u v : cg_V} (hu : P u) (hv : P v) (nu : cg_dot n u = 0) (nv : cg_dot n v = 0) (su : cg_dot (cg_s s) u ≠ 0) (x y : Int) (hz : cg_dot (cg_s s) (cg_red (cg_mix x y u v)) = 0) : cg_b 288000 (cg_red (cg_mix x y u v)) := by
  have hq := cg_line_red hP x y hu hv
  have hg := cg_g_red (cg_mix x y u v)
  have nq : cg_dot n (cg_red (cg_mix x y u v)) = 0 := by
    obtain ⟨g, hg, e⟩ := cg_red_ex (cg_mix x y u v)
    have e1 := cg_dot_sc n g (cg_red (cg_mix x y u v))
    rw [e, cg_dot_mix, nu, nv] at e1
    have e2 : g * cg_dot n (cg_red (cg_mix x y u v)) = 0 := by omega
    rcases Int.mul_eq_zero.mp e2 with k | k
    · omega
    · exact k
  generalize cg_red (cg_mix x y u v) = q at *
  obtain ⟨hC, hN, hn, h2, hD⟩ := hT
  rcases hP with ⟨f, hf, rfl⟩ | ⟨r, hr, ⟨t, nt, rt⟩, rfl⟩
  · have hf' : (f + 1) % 3 < 3 := Nat.mod_lt _ (by omega)
    have dd := hD f hf
    have bp := hC f hf
    have br := hC _ hf'
    generalize C f = p at *
    generalize C ((f + 1) % 3) = r at *
    generalize C ((f + 2) % 3) = t at *
    obtain ⟨d, a, b, hd, e⟩ := hq
    obtain ⟨d', a', b', hd', e'⟩ := hu
    have k := cg_dot_sc (cg_s s) d q
    rw [e, cg_dot_mix, hz] at k
    have k' := cg_dot_sc (cg_s s) d' u
    rw [e', cg_dot_mix] at k'
    have bx := cg_sd_b br hs
    have bz := cg_sd_b bp hs
    refine cg_prim (U := cg_mix (cg_dot (cg_s s) r) (-(cg_dot (cg_s s) p)) p r) hg ?_ (cg_edge_par hd e ?_) ?_
    · intro z
      obtain ⟨z1, z2⟩ := cg_det_mix z dd
      have z3 : cg_dot (cg_s s) p = 0 := by omega
      rw [z1, z3] at k'
      have z4 : d' * cg_dot (cg_s s) u = 0 := by omega
      rcases Int.mul_eq_zero.mp z4 with k | k
      · exact hd' k
      · exact su k
    · have k2 : cg_dot (cg_s s) p * a + cg_dot (cg_s s) r * b = 0 := by omega
      rw [Int.mul_neg, Int.mul_comm a, Int.mul_comm b]
      omega
    · exact cg_b_mono (by omega) (cg_mix_b bp br bx (by omega))
  · have hq' : cg_dot (cg_s r) q = 0 := hq
    have hu' : cg_dot (cg_s r) u = 0 := hu
    exact cg_prim (U := cg_U n (cg_s r) (cg_s s)) hg (cg_U_ne nt nu rt hu' su h2) (cg_U_par nq hq' hz) (cg_U_b r s hn)
end
section
abbrev cp_S : Type := Nat × (Nat → cg_V)
def cp_nx (m k : Nat) : Nat := if k + 1 < m then k + 1 else 0
def cp_push (st : cp_S) (q : cg_V) : cp_S := (st.1 + 1, fun j => if j = st.1 then q else st.2 j)
def cp_1 (u v : cg_V) (h : Int) (st : cp_S) : cp_S := if 0 ≤ h then cp_push st (cg_red (cg_mix 1 0 u v)) else st
def cp_2 (u v : cg_V) (h t : Int) (st : cp_S) : cp_S := if 0 < h ∧ t < 0 then cp_push st (cg_red (cg_mix (-t) h u v)) else st
def cp_3 (u v : cg_V) (h t : Int) (st : cp_S) : cp_S := if h < 0 ∧ 0 < t then cp_push st (cg_red (cg_mix t (-h) u v)) else st
def cp_step (u v : cg_V) (h t : Int) (st : cp_S) : cp_S := cp_3 u v h t (cp_2 u v h t (cp_1 u v h st))
/-- what side s makes of the corners V 0 .. V (m - 1), behind k of them -/
def cp_st (s m : Nat) (V : Nat → cg_V) : Nat → cp_S
  | 0 => (0, fun _ => (0, 0, 0, 0))
  | k + 1 => cp_step (V k) (V (cp_nx m k)) (cg_dot (cg_s s) (V k)) (cg_dot (cg_s s) (V (cp_nx m k))) (cp_st s m V k)
theorem cp_A1 {u v : cg_V} {h t : Int} {st : cp_S} (hh : 0 < h) (ht : t < 0) : cp_step u v h t st = cp_push (cp_push st (cg_red (cg_mix 1 0 u v))) (cg_red (cg_mix (-t) h u v)) := by
  simp only [cp_step, cp_1, cp_2, cp_3]
  rw [if_pos (show 0 ≤ h by omega), if_pos (show 0 < h ∧ t < 0 from ⟨hh, ht⟩), if_neg (show ¬ (h < 0 ∧ 0 < t) by omega)]
theorem cp_A2 {u v : cg_V} {h t : Int} {st : cp_S} (hh : 0 ≤ h) (ht : ¬ (0 < h ∧ t < 0)) : cp_step u v h t st = cp_push st (cg_red (cg_mix 1 0 u v)) := by
  simp only [cp_step, cp_1, cp_2, cp_3]
  rw [if_pos hh, if_neg ht, if_neg (show ¬ (h < 0 ∧ 0 < t) by omega)]
theorem cp_B1 {u v : cg_V} {h t : Int} {st : cp_S} (hh : h < 0) (ht : 0 < t) : cp_step u v h t st = cp_push st (cg_red (cg_mix t (-h) u v)) := by
  simp only [cp_step, cp_1, cp_2, cp_3]
  rw [if_neg (show ¬ 0 ≤ h by omega), if_neg (show ¬ (0 < h ∧ t < 0) by omega), if_pos ⟨hh, ht⟩]
theorem cp_B2 {u v : cg_V} {h t : Int} {st : cp_S} (hh : h < 0) (ht : t ≤ 0) : cp_step u v h t st = st := by
  simp only [cp_step, cp_1, cp_2, cp_3]
  rw [if_neg (show ¬ 0 ≤ h by omega), if_neg (show ¬ (0 < h ∧ t < 0) by omega), if_neg (show ¬ (h < 0 ∧ 0 < t) by omega)]
theorem cp_push_last (st : cp_S) (q : cg_V) : (cp_push st q).2 ((cp_push st q).1 - 1) = q := by simp [cp_push]
theorem cp_push_lo (st : cp_S) (q : cg_V) {i : Nat} (h : i < st.1) : (cp_push st q).2 i = st.2 i := if_neg (by omega)
theorem cp_push_hi (st : cp_S) (q : cg_V) : (cp_push st q).2 st.1 = q := if_pos rfl
theorem cp_push_n (st : cp_S) (q : cg_V) : (cp_push st q).1 = st.1 + 1 := rfl
theorem cp_push_all {G : cg_V → Prop} {st : cp_S} {q : cg_V} (h : ∀ i, i < st.1 → G (st.2 i)) (hq : G q) : ∀ i, i < (cp_push st q).1 → G ((cp_push st q).2 i) := by
  intro i hi
  rw [cp_push_n] at hi
  by_cases e : i = st.1
  · rw [e, cp_push_hi]
    exact hq
  · rw [cp_push_lo st q (show i < st.1 by omega)]
    exact h i (by omega)
theorem cp_push_chain {L : cg_V → cg_V → Prop} {st : cp_S} {q : cg_V} (h : ∀ i, i + 1 < st.1 → L (st.2 i) (st.2 (i + 1))) (hq : 0 < st.1 → L (st.2 (st.1 - 1)) q) : ∀ i, i + 1 < (cp_push st q).1 → L ((cp_push st q).2 i) ((cp_push st q).2 (i + 1)) := by
  intro i hi
  rw [cp_push_n] at hi
  by_cases e : i + 1 = st.1
  · rw [e, cp_push_hi, cp_push_lo st q (show i < st.1 by omega)]
    have k := hq (by omega)
    rw [show st.1 - 1 = i by omega] at k
    exact k
  · rw [cp_push_lo st q (show i < st.1 by omega), cp_push_lo st q (show i + 1 < st.1 by omega)]
    exact h i (by omega)
theorem cg_dot_red (u : cg_V) : ∃ g : Int, 0 < g ∧ ∀ m, g * cg_dot m (cg_red u) = cg_dot m u := by
  obtain ⟨g, hg, e⟩ := cg_red_ex u
  refine ⟨g, hg, fun m => ?_⟩
  rw [← cg_dot_sc, e]
theorem cg_sgn {g x y : Int} (hg : 0 < g) (e : g * x = y) : (0 ≤ y → 0 ≤ x) ∧ (y = 0 → x = 0) := by
  constructor
  · intro h
    rw [← e] at h
    exact Int.nonneg_of_mul_nonneg_right h hg
  · intro h
    rw [h] at e
    rcases Int.mul_eq_zero.mp e with k | k
    · omega
    · exact k
def cp_ok (n : cg_V) (s : Nat) (q : cg_V) : Prop := cg_b 288000 q ∧ cg_dot n q = 0 ∧ ∀ r, r < s → 0 ≤ cg_dot (cg_s r) q
theorem cp_ok_red {n : cg_V} {s : Nat} {u : cg_V} (h : cp_ok n s u) (hs : 0 ≤ cg_dot (cg_s s) u) : cp_ok n (s + 1) (cg_red u) := by
  obtain ⟨g, hg, e⟩ := cg_dot_red u
  refine ⟨cg_red_b h.1, (cg_sgn hg (e n)).2 h.2.1, fun r hr => (cg_sgn hg (e (cg_s r))).1 ?_⟩
  by_cases z : r = s
  · rw [z]
    exact hs
  · exact h.2.2 r (by omega)
theorem cp_new {C : Nat → cg_V} {n : cg_V} (hT : cg_T C n) {s : Nat} (hs : s < 6) {P : cg_V → Prop} (hP : cg_line C n s P) {u v : cg_V} (hu : P u) (hv : P v) (ku : cp_ok n s u) (kv : cp_ok n s v) (su : cg_dot (cg_s s) u ≠ 0) {x y : Int} (hx : 0 < x) (hy : 0 < y) (hz : cg_dot (cg_s s) u * x + cg_dot (cg_s s) v * y = 0) : cp_ok n (s + 1) (cg_red (cg_mix x y u v)) ∧ cg_dot (cg_s s) (cg_red (cg_mix x y u v)) = 0 := by
  obtain ⟨g, hg, e⟩ := cg_dot_red (cg_mix x y u v)
  have z : cg_dot (cg_s s) (cg_red (cg_mix x y u v)) = 0 := (cg_sgn hg (e (cg_s s))).2 (by rw [cg_dot_mix]; exact hz)
  refine ⟨⟨cg_new_b hT hs hP hu hv ku.2.1 kv.2.1 su x y z, (cg_sgn hg (e n)).2 ?_, fun r hr => ?_⟩, z⟩
  · rw [cg_dot_mix, ku.2.1, kv.2.1]
    omega
  · by_cases z' : r = s
    · rw [z', z]
      exact Int.le_refl 0
    · refine (cg_sgn hg (e (cg_s r))).1 ?_
      rw [cg_dot_mix]
      have k1 := Int.mul_nonneg (ku.2.2 r (by omega)) (show 0 ≤ x by omega)
      have k2 := Int.mul_nonneg (kv.2.2 r (by omega)) (show 0 ≤ y by omega)
      omega
/-- the invariant of the side's loop: u is the next corner, v0 the first one -/
def cp_I (C : Nat → cg_V) (n : cg_V) (s : Nat) (v0 : cg_V) (k : Nat) (u : cg_V) (st : cp_S) : Prop :=
  (∀ i, i < st.1 → cp_ok n (s + 1) (st.2 i)) ∧
  (∀ i, i + 1 < st.1 → cg_Lab C n (s + 1) (st.2 i) (st.2 (i + 1))) ∧
  (0 < st.1 → (0 ≤ cg_dot (cg_s s) u → cg_Lab C n (s + 1) (st.2 (st.1 - 1)) u) ∧ (cg_dot (cg_s s) u < 0 → cg_dot (cg_s s) (st.2 (st.1 - 1)) = 0)) ∧
  (0 < st.1 → (0 ≤ cg_dot (cg_s s) v0 → st.2 0 = cg_red v0) ∧ (cg_dot (cg_s s) v0 < 0 → cg_dot (cg_s s) (st.2 0) = 0)) ∧
  (st.1 = 0 → 0 < k → cg_dot (cg_s s) v0 < 0 ∧ cg_dot (cg_s s) u ≤ 0)
theorem cg_Lab_side {C : Nat → cg_V} {n : cg_V} {s : Nat} {t u v : cg_V} (nt : cg_dot n t = 0) (st : cg_dot (cg_s s) t < 0) (hu : cg_dot (cg_s s) u = 0) (hv : cg_dot (cg_s s) v = 0) : cg_Lab C n (s + 1) u v :=
  ⟨fun v => cg_dot (cg_s s) v = 0, Or.inr ⟨s, by omega, ⟨t, nt, by omega⟩, rfl⟩, hu, hv⟩
theorem cg_Lab_red {C : Nat → cg_V} {n : cg_V} {s : Nat} {u v : cg_V} (h : cg_Lab C n s u v) : cg_Lab C n s u (cg_red v) := by
  obtain ⟨P, hP, hu, hv⟩ := h
  exact ⟨P, hP, hu, cg_line_red1 hP hv⟩
theorem cp_first {n : cg_V} {s : Nat} {v0 q : cg_V} {st : cp_S} (h : 0 < st.1 → (0 ≤ cg_dot (cg_s s) v0 → st.2 0 = cg_red v0) ∧ (cg_dot (cg_s s) v0 < 0 → cg_dot (cg_s s) (st.2 0) = 0)) (hq : st.1 = 0 → (0 ≤ cg_dot (cg_s s) v0 → q = cg_red v0) ∧ (cg_dot (cg_s s) v0 < 0 → cg_dot (cg_s s) q = 0)) : (0 ≤ cg_dot (cg_s s) v0 → (cp_push st q).2 0 = cg_red v0) ∧ (cg_dot (cg_s s) v0 < 0 → cg_dot (cg_s s) ((cp_push st q).2 0) = 0) := by
  by_cases e : st.1 = 0
  · have k := cp_push_hi st q
    rw [e] at k
    rw [k]
    exact hq e
  · rw [cp_push_lo st q (show 0 < st.1 by omega)]
    exact h (by omega)
theorem cp_I_step {C : Nat → cg_V} {n : cg_V} (hT : cg_T C n) {s : Nat} (hs : s < 6) {v0 u v : cg_V} {k : Nat} {st : cp_S} (ku : cp_ok n s u) (kv : cp_ok n s v) (hl : cg_Lab C n s u v) (h0 : k = 0 → u = v0 ∧ st.1 = 0) (h : cp_I C n s v0 k u st) : cp_I C n s v0 (k + 1) v (cp_step u v (cg_dot (cg_s s) u) (cg_dot (cg_s s) v) st) := by
  obtain ⟨i1, i2, i3, i4, i5⟩ := h
  obtain ⟨P, hP, pu, pv⟩ := hl
  have hP' := cg_line_mono hP
  by_cases c1 : 0 ≤ cg_dot (cg_s s) u
  · have e10 := cg_mix10 u v
    have g1 : ∀ i, i < (cp_push st (cg_red u)).1 → cp_ok n (s + 1) ((cp_push st (cg_red u)).2 i) := cp_push_all i1 (cp_ok_red ku c1)
    have g2 : ∀ i, i + 1 < (cp_push st (cg_red u)).1 → cg_Lab C n (s + 1) ((cp_push st (cg_red u)).2 i) ((cp_push st (cg_red u)).2 (i + 1)) := cp_push_chain i2 (fun hc => cg_Lab_red ((i3 hc).1 c1))
    have g4 := cp_first (n := n) (q := cg_red u) i4 (fun hc => by
      by_cases hk : k = 0
      · obtain ⟨e, _⟩ := h0 hk
        rw [e] at c1
        exact ⟨fun _ => by rw [e], fun z => absurd c1 (by omega)⟩
      · obtain ⟨a, b⟩ := i5 hc (by omega)
        obtain ⟨g, hg, e⟩ := cg_dot_red u
        exact ⟨fun z => absurd z (by omega), fun _ => (cg_sgn hg (e _)).2 (by omega)⟩)
    by_cases c2 : 0 < cg_dot (cg_s s) u ∧ cg_dot (cg_s s) v < 0
    · rw [cp_A1 c2.1 c2.2, e10]
      obtain ⟨k1, k2⟩ := cp_new hT hs hP pu pv ku kv (by omega) (show 0 < -cg_dot (cg_s s) v by omega) c2.1 (by rw [Int.mul_neg, Int.mul_comm]; omega)
      have pm := cg_line_red hP (-cg_dot (cg_s s) v) (cg_dot (cg_s s) u) pu pv
      refine ⟨cp_push_all g1 k1, cp_push_chain g2 (fun _ => ?_), fun _ => ?_, fun _ => cp_first (n := n) (fun _ => g4) (fun z => absurd z (by rw [cp_push_n]; omega)), fun z => absurd z (by rw [cp_push_n]; omega)⟩
      · rw [cp_push_last]
        exact ⟨P, hP', cg_line_red1 hP pu, pm⟩
      · rw [cp_push_last]
        exact ⟨fun _ => ⟨P, hP', pm, pv⟩, fun _ => k2⟩
    · rw [cp_A2 c1 c2, e10]
      refine ⟨g1, g2, fun _ => ?_, fun _ => g4, fun z => absurd z (by rw [cp_push_n]; omega)⟩
      rw [cp_push_last]
      refine ⟨fun _ => ⟨P, hP', cg_line_red1 hP pu, pv⟩, fun z => ?_⟩
      obtain ⟨g, hg, e⟩ := cg_dot_red u
      exact (cg_sgn hg (e _)).2 (by omega)
  · have c1' : cg_dot (cg_s s) u < 0 := by omega
    by_cases c2 : 0 < cg_dot (cg_s s) v
    · rw [cp_B1 c1' c2]
      obtain ⟨k1, k2⟩ := cp_new hT hs hP pu pv ku kv (by omega) c2 (show 0 < -cg_dot (cg_s s) u by omega) (by rw [Int.mul_neg, Int.mul_comm]; omega)
      have pm := cg_line_red hP (cg_dot (cg_s s) v) (-cg_dot (cg_s s) u) pu pv
      refine ⟨cp_push_all i1 k1, cp_push_chain i2 (fun hc => cg_Lab_side ku.2.1 c1' ((i3 hc).2 c1') k2), fun _ => ?_, fun _ => cp_first (n := n) i4 (fun hc => ?_), fun z => absurd z (by rw [cp_push_n]; omega)⟩
      · rw [cp_push_last]
        exact ⟨fun _ => ⟨P, hP', pm, pv⟩, fun z => absurd z (by omega)⟩
      · by_cases hk : k = 0
        · obtain ⟨e, _⟩ := h0 hk
          rw [e] at c1'
          exact ⟨fun z => absurd z (by omega), fun _ => k2⟩
        · exact ⟨fun z => absurd (i5 hc (by omega)).1 (by omega), fun _ => k2⟩
    · rw [cp_B2 c1' (show cg_dot (cg_s s) v ≤ 0 by omega)]
      refine ⟨i1, i2, fun hc => ⟨fun z => cg_Lab_side ku.2.1 c1' ((i3 hc).2 c1') (by omega), fun _ => (i3 hc).2 c1'⟩, i4, fun hc _ => ⟨?_, by omega⟩⟩
      by_cases hk : k = 0
      · obtain ⟨e, _⟩ := h0 hk
        rw [← e]
        exact c1'
      · exact (i5 hc (by omega)).1
end
section
def cp_P (C : Nat → cg_V) (n : cg_V) (s m : Nat) (V : Nat → cg_V) : Prop := ∀ k, k < m → cp_ok n s (V k) ∧ cg_Lab C n s (V k) (V (cp_nx m k))
theorem cp_nx_lt {m k : Nat} (h : k < m) : cp_nx m k < m := by
  unfold cp_nx
  split <;> omega
/-- the place that is next behind k of m corners -/
def cp_at (m k : Nat) : Nat := if k < m then k else 0
theorem cp_at_nx (m k : Nat) : cp_at m (k + 1) = cp_nx m k := rfl
theorem cp_I_all {C : Nat → cg_V} {n : cg_V} (hT : cg_T C n) {s m : Nat} (hs : s < 6) {V : Nat → cg_V} (h : cp_P C n s m V) : ∀ k, k ≤ m → cp_I C n s (V 0) k (V (cp_at m k)) (cp_st s m V k) := by
  intro k
  induction k with
  | zero =>
    intro _
    exact ⟨fun i hi => absurd hi (Nat.not_lt_zero i), fun i hi => absurd hi (Nat.not_lt_zero (i + 1)), fun z => absurd z (Nat.lt_irrefl 0), fun z => absurd z (Nat.lt_irrefl 0), fun _ z => absurd z (Nat.lt_irrefl 0)⟩
  | succ k ih =>
    intro hk
    have ih' := ih (by omega)
    have e : cp_at m k = k := if_pos (by omega)
    rw [e] at ih'
    obtain ⟨ku, hl⟩ := h k (by omega)
    obtain ⟨kv, _⟩ := h (cp_nx m k) (cp_nx_lt (by omega))
    refine cp_I_step hT hs ku kv hl (fun z => ?_) ih'
    rw [z]
    exact ⟨rfl, rfl⟩
/-- one side keeps a polygon a polygon -/
theorem cp_P_next {C : Nat → cg_V} {n : cg_V} (hT : cg_T C n) {s m : Nat} (hs : s < 6) {V : Nat → cg_V} (h : cp_P C n s m V) : cp_P C n (s + 1) (cp_st s m V m).1 (cp_st s m V m).2 := by
  obtain ⟨i1, i2, i3, i4, _⟩ := cp_I_all hT hs h m (Nat.le_refl m)
  have e : cp_at m m = 0 := if_neg (Nat.lt_irrefl m)
  rw [e] at i3
  intro k hk
  refine ⟨i1 k hk, ?_⟩
  unfold cp_nx
  split
  · exact i2 k (by assumption)
  · have ek : k = (cp_st s m V m).1 - 1 := by omega
    by_cases c : 0 ≤ cg_dot (cg_s s) (V 0)
    · have l := (i3 (by omega)).1 c
      rw [(i4 (by omega)).1 c, ek]
      exact cg_Lab_red l
    · have hm : 0 < m := by
        rcases Nat.eq_zero_or_pos m with z | z
        · rw [z] at hk
          exact absurd hk (Nat.not_lt_zero k)
        · exact z
      obtain ⟨k0, _⟩ := h 0 hm
      rw [ek]
      exact cg_Lab_side k0.2.1 (by omega) ((i3 (by omega)).2 (by omega)) ((i4 (by omega)).2 (by omega))
def cp_neg (h : Int) : Nat := if h < 0 then 1 else 0
def cp_alt (s m : Nat) (V : Nat → cg_V) (j : Nat) : Prop := (0 < cg_dot (cg_s s) (V j) ∧ cg_dot (cg_s s) (V (cp_nx m j)) < 0) ∨ (cg_dot (cg_s s) (V j) < 0 ∧ 0 < cg_dot (cg_s s) (V (cp_nx m j)))
/-- how many corners a side makes -/
theorem cp_cnt (s m : Nat) (V : Nat → cg_V) : ∀ k, k ≤ m → ∃ P T : Nat, (cp_st s m V k).1 = P + T ∧ T ≤ k ∧ 2 * P + T + cp_neg (cg_dot (cg_s s) (V 0)) ≤ 2 * k + cp_neg (cg_dot (cg_s s) (V (cp_at m k))) ∧ (T = k → ∀ j, j < k → cp_alt s m V j) := by
  intro k
  induction k with
  | zero =>
    intro _
    refine ⟨0, 0, rfl, Nat.le_refl 0, ?_, fun _ j hj => absurd hj (Nat.not_lt_zero j)⟩
    have e : cp_at m 0 = 0 := by
      unfold cp_at
      split <;> rfl
    rw [e]
    omega
  | succ k ih =>
    intro hk
    obtain ⟨P, T, e1, e2, e3, e4⟩ := ih (by omega)
    have e : cp_at m k = k := if_pos (by omega)
    rw [e] at e3
    rw [cp_at_nx]
    show ∃ P T : Nat, (cp_step (V k) (V (cp_nx m k)) (cg_dot (cg_s s) (V k)) (cg_dot (cg_s s) (V (cp_nx m k))) (cp_st s m V k)).1 = P + T ∧ _
    have al : cp_alt s m V k → T = k → ∀ j, j < k + 1 → cp_alt s m V j := by
      intro z ht j hj
      by_cases ej : j = k
      · rw [ej]
        exact z
      · exact e4 ht j (by omega)
    unfold cp_neg at e3 ⊢
    by_cases c1 : 0 ≤ cg_dot (cg_s s) (V k)
    · rw [if_neg (show ¬ cg_dot (cg_s s) (V k) < 0 by omega)] at e3
      by_cases c2 : 0 < cg_dot (cg_s s) (V k) ∧ cg_dot (cg_s s) (V (cp_nx m k)) < 0
      · rw [cp_A1 c2.1 c2.2, cp_push_n, cp_push_n, if_pos c2.2]
        exact ⟨P + 1, T + 1, by omega, by omega, by omega, fun z => al (Or.inl c2) (by omega)⟩
      · rw [cp_A2 c1 c2, cp_push_n]
        exact ⟨P + 1, T, by omega, by omega, by omega, fun z => absurd z (by omega)⟩
    · have c1' : cg_dot (cg_s s) (V k) < 0 := by omega
      rw [if_pos c1'] at e3
      by_cases c2 : 0 < cg_dot (cg_s s) (V (cp_nx m k))
      · rw [cp_B1 c1' c2, cp_push_n, if_neg (show ¬ cg_dot (cg_s s) (V (cp_nx m k)) < 0 by omega)]
        exact ⟨P, T + 1, by omega, by omega, by omega, fun z => al (Or.inr ⟨c1', c2⟩) (by omega)⟩
      · rw [cp_B2 c1' (show cg_dot (cg_s s) (V (cp_nx m k)) ≤ 0 by omega)]
        exact ⟨P, T, by omega, by omega, by omega, fun z => absurd z (by omega)⟩
theorem cp_cnt_end (s m : Nat) (V : Nat → cg_V) : 2 * (cp_st s m V m).1 ≤ 3 * m ∧ (2 * (cp_st s m V m).1 = 3 * m → ∀ j, j < m → cp_alt s m V j) := by
  obtain ⟨P, T, e1, e2, e3, e4⟩ := cp_cnt s m V m (Nat.le_refl m)
  have e : cp_at m m = 0 := if_neg (Nat.lt_irrefl m)
  rw [e] at e3
  exact ⟨by omega, fun z => e4 (by omega)⟩
/-- the two diagonals of four corners cross -/
def cp_X (V : Nat → cg_V) : Prop := ∃ a b c d : Int, 0 ≤ a ∧ 0 ≤ b ∧ 0 ≤ c ∧ 0 ≤ d ∧ 0 < a + b + c + d ∧ ∀ w, a * cg_dot w (V 0) + c * cg_dot w (V 2) = b * cg_dot w (V 1) + d * cg_dot w (V 3)
theorem cp_X_i {a b c d h0 h1 h2 h3 : Int} (a0 : 0 ≤ a) (b0 : 0 ≤ b) (c0 : 0 ≤ c) (d0 : 0 ≤ d) (hp : 0 < a + b + c + d) (h : a * h0 + c * h2 = b * h1 + d * h3) (k0 : 0 < h0) (k1 : h1 < 0) (k2 : 0 < h2) (k3 : h3 < 0) : False := by
  have ea : 0 ≤ a * h0 := Int.mul_nonneg a0 (by omega)
  have ec : 0 ≤ c * h2 := Int.mul_nonneg c0 (by omega)
  have eb : 0 ≤ b * (-h1) := Int.mul_nonneg b0 (by omega)
  have ed : 0 ≤ d * (-h3) := Int.mul_nonneg d0 (by omega)
  rw [Int.mul_neg] at eb ed
  have za : a * h0 = 0 := by omega
  have zb : b * h1 = 0 := by omega
  have zc : c * h2 = 0 := by omega
  have zd : d * h3 = 0 := by omega
  rcases Int.mul_eq_zero.mp za with z | z <;> rcases Int.mul_eq_zero.mp zb with z' | z' <;> rcases Int.mul_eq_zero.mp zc with z'' | z'' <;> rcases Int.mul_eq_zero.mp zd with z''' | z''' <;> omega
theorem cp_X_no {V : Nat → cg_V} (h : cp_X V) (s : Nat) (ha : ∀ j, j < 4 → cp_alt s 4 V j) : False := by
  obtain ⟨a, b, c, d, a0, b0, c0, d0, hp, e⟩ := h
  have e := e (cg_s s)
  have n0 : cp_nx 4 0 = 1 := rfl
  have n1 : cp_nx 4 1 = 2 := rfl
  have n2 : cp_nx 4 2 = 3 := rfl
  have n3 : cp_nx 4 3 = 0 := rfl
  have k0 := ha 0 (by omega)
  have k1 := ha 1 (by omega)
  have k2 := ha 2 (by omega)
  unfold cp_alt at k0 k1 k2
  rw [n0] at k0
  rw [n1] at k1
  rw [n2] at k2
  by_cases z : 0 < cg_dot (cg_s s) (V 0)
  · exact cp_X_i a0 b0 c0 d0 hp e z (by omega) (by omega) (by omega)
  · exact cp_X_i b0 a0 d0 c0 (by omega) e.symm (by omega) (by omega) (by omega) (by omega)
theorem cp_tri_i {x0 x1 x2 q0 q1 q2 q3 g0 g1 g2 g3 h0 h1 h2 : Int} (e0 : g0 * q0 = x0 * h1 + x1 * (-h0)) (e1 : g1 * q1 = x1) (e2 : g2 * q2 = x2) (e3 : g3 * q3 = x2 * (-h0) + x0 * h2) : (h2 * g0) * q0 + ((-h0) * h1 * g2) * q2 = ((-h0) * h2 * g1) * q1 + (h1 * g3) * q3 := by
  have k0 : (h2 * g0) * q0 = h2 * (g0 * q0) := by grind
  have k1 : ((-h0) * h2 * g1) * q1 = (-h0) * h2 * (g1 * q1) := by grind
  have k2 : ((-h0) * h1 * g2) * q2 = (-h0) * h1 * (g2 * q2) := by grind
  have k3 : (h1 * g3) * q3 = h1 * (g3 * q3) := by grind
  rw [k0, k1, k2, k3, e0, e1, e2, e3]
  grind
def cp_n3 (h t : Int) : Nat := (if 0 ≤ h then 1 else 0) + (if 0 < h ∧ t < 0 then 1 else 0) + (if h < 0 ∧ 0 < t then 1 else 0)
theorem cp_step_n (u v : cg_V) (h t : Int) (st : cp_S) : (cp_step u v h t st).1 = st.1 + cp_n3 h t := by
  unfold cp_n3
  by_cases c1 : 0 ≤ h
  · by_cases c2 : 0 < h ∧ t < 0
    · rw [cp_A1 c2.1 c2.2, cp_push_n, cp_push_n, if_pos c1, if_pos c2, if_neg (show ¬ (h < 0 ∧ 0 < t) by omega)]
    · rw [cp_A2 c1 c2, cp_push_n, if_pos c1, if_neg c2, if_neg (show ¬ (h < 0 ∧ 0 < t) by omega)]
  · by_cases c2 : 0 < t
    · have c1' : h < 0 := by omega
      rw [cp_B1 c1' c2, cp_push_n, if_neg c1, if_neg (show ¬ (0 < h ∧ t < 0) by omega), if_pos ⟨c1', c2⟩]
    · have c1' : h < 0 := by omega
      have c2' : t ≤ 0 := by omega
      rw [cp_B2 c1' c2', if_neg c1, if_neg (show ¬ (0 < h ∧ t < 0) by omega), if_neg (show ¬ (h < 0 ∧ 0 < t) by omega)]
      omega
theorem cp_n3_v (h t : Int) : (h < 0 ∧ t ≤ 0 ∧ cp_n3 h t = 0) ∨ (h < 0 ∧ 0 < t ∧ cp_n3 h t = 1) ∨ (0 ≤ h ∧ (h = 0 ∨ 0 ≤ t) ∧ cp_n3 h t = 1) ∨ (0 < h ∧ t < 0 ∧ cp_n3 h t = 2) := by
  unfold cp_n3
  by_cases c1 : 0 ≤ h
  · by_cases c2 : 0 < h ∧ t < 0
    · refine Or.inr (Or.inr (Or.inr ⟨c2.1, c2.2, ?_⟩))
      rw [if_pos c1, if_pos c2, if_neg (show ¬ (h < 0 ∧ 0 < t) by omega)]
    · refine Or.inr (Or.inr (Or.inl ⟨c1, by omega, ?_⟩))
      rw [if_pos c1, if_neg c2, if_neg (show ¬ (h < 0 ∧ 0 < t) by omega)]
  · by_cases c2 : 0 < t
    · refine Or.inr (Or.inl ⟨by omega, c2, ?_⟩)
      rw [if_neg c1, if_neg (show ¬ (0 < h ∧ t < 0) by omega), if_pos (show h < 0 ∧ 0 < t by omega)]
    · refine Or.inl ⟨by omega, by omega, ?_⟩
      rw [if_neg c1, if_neg (show ¬ (0 < h ∧ t < 0) by omega), if_neg (show ¬ (h < 0 ∧ 0 < t) by omega)]
theorem cp_tri4 {h0 h1 h2 : Int} (e : cp_n3 h0 h1 + cp_n3 h1 h2 + cp_n3 h2 h0 = 4) : (h0 < 0 ∧ 0 < h1 ∧ 0 < h2) ∨ (0 < h0 ∧ h1 < 0 ∧ 0 < h2) ∨ (0 < h0 ∧ 0 < h1 ∧ h2 < 0) := by
  have a := cp_n3_v h0 h1
  have b := cp_n3_v h1 h2
  have c := cp_n3_v h2 h0
  generalize cp_n3 h0 h1 = x at *
  generalize cp_n3 h1 h2 = y at *
  generalize cp_n3 h2 h0 = z at *
  rcases a with ⟨a1, a2, a3⟩ | ⟨a1, a2, a3⟩ | ⟨a1, a2, a3⟩ | ⟨a1, a2, a3⟩ <;> subst a3 <;> rcases b with ⟨b1, b2, b3⟩ | ⟨b1, b2, b3⟩ | ⟨b1, b2, b3⟩ | ⟨b1, b2, b3⟩ <;> subst b3 <;> rcases c with ⟨c1, c2, c3⟩ | ⟨c1, c2, c3⟩ | ⟨c1, c2, c3⟩ | ⟨c1, c2, c3⟩ <;> subst c3 <;> omega
/-- a triangle that a side cuts to four corners: their diagonals cross -/
theorem cp_tri (s : Nat) (V : Nat → cg_V) (h4 : (cp_st s 3 V 3).1 = 4) : cp_X (cp_st s 3 V 3).2 := by
  have n0 : cp_nx 3 0 = 1 := rfl
  have n1 : cp_nx 3 1 = 2 := rfl
  have n2 : cp_nx 3 2 = 0 := rfl
  simp only [cp_st, n0, n1, n2] at h4 ⊢
  rw [cp_step_n, cp_step_n, cp_step_n] at h4
  have h4' := cp_tri4 (by omega : cp_n3 (cg_dot (cg_s s) (V 0)) (cg_dot (cg_s s) (V 1)) + cp_n3 (cg_dot (cg_s s) (V 1)) (cg_dot (cg_s s) (V 2)) + cp_n3 (cg_dot (cg_s s) (V 2)) (cg_dot (cg_s s) (V 0)) = 4)
  obtain ⟨r0, p0, w0⟩ := cg_dot_red (cg_mix 1 0 (V 0) (V 1))
  obtain ⟨r1, p1, w1⟩ := cg_dot_red (cg_mix 1 0 (V 1) (V 2))
  obtain ⟨r2, p2, w2⟩ := cg_dot_red (cg_mix 1 0 (V 2) (V 0))
  rw [cg_mix10] at w0 w1 w2
  rcases h4' with ⟨a, b, c⟩ | ⟨a, b, c⟩ | ⟨a, b, c⟩
  · rw [cp_B1 a b, cp_A2 (u := V 1) (h := cg_dot (cg_s s) (V 1)) (t := cg_dot (cg_s s) (V 2)) (by omega) (by omega), cp_A1 c a]
    obtain ⟨t0, y0, z0⟩ := cg_dot_red (cg_mix (cg_dot (cg_s s) (V 1)) (-cg_dot (cg_s s) (V 0)) (V 0) (V 1))
    obtain ⟨t3, y3, z3⟩ := cg_dot_red (cg_mix (-cg_dot (cg_s s) (V 0)) (cg_dot (cg_s s) (V 2)) (V 2) (V 0))
    have m0 := Int.mul_pos c y0
    have m2 := Int.mul_pos (Int.mul_pos (show 0 < -cg_dot (cg_s s) (V 0) by omega) b) p2
    have m1 := Int.mul_pos (Int.mul_pos (show 0 < -cg_dot (cg_s s) (V 0) by omega) c) p1
    have m3 := Int.mul_pos b y3
    refine ⟨_, _, _, _, Int.le_of_lt m0, Int.le_of_lt m1, Int.le_of_lt m2, Int.le_of_lt m3, by omega, fun w => ?_⟩
    simp only [cp_push, cg_mix10]
    have k := cp_tri_i (by rw [z0, cg_dot_mix] : t0 * cg_dot w (cg_red (cg_mix (cg_dot (cg_s s) (V 1)) (-cg_dot (cg_s s) (V 0)) (V 0) (V 1))) = cg_dot w (V 0) * cg_dot (cg_s s) (V 1) + cg_dot w (V 1) * (-cg_dot (cg_s s) (V 0))) (w1 w) (w2 w) (by rw [z3, cg_dot_mix] : t3 * cg_dot w (cg_red (cg_mix (-cg_dot (cg_s s) (V 0)) (cg_dot (cg_s s) (V 2)) (V 2) (V 0))) = cg_dot w (V 2) * (-cg_dot (cg_s s) (V 0)) + cg_dot w (V 0) * cg_dot (cg_s s) (V 2))
    exact k
  · rw [cp_A1 a b, cp_B1 (u := V 1) b c, cp_A2 (u := V 2) (h := cg_dot (cg_s s) (V 2)) (t := cg_dot (cg_s s) (V 0)) (by omega) (by omega)]
    obtain ⟨t0, y0, z0⟩ := cg_dot_red (cg_mix (cg_dot (cg_s s) (V 2)) (-cg_dot (cg_s s) (V 1)) (V 1) (V 2))
    obtain ⟨t3, y3, z3⟩ := cg_dot_red (cg_mix (-cg_dot (cg_s s) (V 1)) (cg_dot (cg_s s) (V 0)) (V 0) (V 1))
    have m0 := Int.mul_pos a y0
    have m2 := Int.mul_pos (Int.mul_pos (show 0 < -cg_dot (cg_s s) (V 1) by omega) c) p0
    have m1 := Int.mul_pos (Int.mul_pos (show 0 < -cg_dot (cg_s s) (V 1) by omega) a) p2
    have m3 := Int.mul_pos c y3
    refine ⟨_, _, _, _, Int.le_of_lt m2, Int.le_of_lt m3, Int.le_of_lt m0, Int.le_of_lt m1, by omega, fun w => ?_⟩
    simp only [cp_push, cg_mix10]
    have k := cp_tri_i (by rw [z0, cg_dot_mix] : t0 * cg_dot w (cg_red (cg_mix (cg_dot (cg_s s) (V 2)) (-cg_dot (cg_s s) (V 1)) (V 1) (V 2))) = cg_dot w (V 1) * cg_dot (cg_s s) (V 2) + cg_dot w (V 2) * (-cg_dot (cg_s s) (V 1))) (w2 w) (w0 w) (by rw [z3, cg_dot_mix] : t3 * cg_dot w (cg_red (cg_mix (-cg_dot (cg_s s) (V 1)) (cg_dot (cg_s s) (V 0)) (V 0) (V 1))) = cg_dot w (V 0) * (-cg_dot (cg_s s) (V 1)) + cg_dot w (V 1) * cg_dot (cg_s s) (V 0))
    exact (Int.add_comm _ _).trans (k.trans (Int.add_comm _ _))
  · rw [cp_A2 (u := V 0) (h := cg_dot (cg_s s) (V 0)) (t := cg_dot (cg_s s) (V 1)) (by omega) (by omega), cp_A1 (u := V 1) b c, cp_B1 c a]
    obtain ⟨t0, y0, z0⟩ := cg_dot_red (cg_mix (cg_dot (cg_s s) (V 0)) (-cg_dot (cg_s s) (V 2)) (V 2) (V 0))
    obtain ⟨t3, y3, z3⟩ := cg_dot_red (cg_mix (-cg_dot (cg_s s) (V 2)) (cg_dot (cg_s s) (V 1)) (V 1) (V 2))
    have m0 := Int.mul_pos b y0
    have m2 := Int.mul_pos (Int.mul_pos (show 0 < -cg_dot (cg_s s) (V 2) by omega) a) p1
    have m1 := Int.mul_pos (Int.mul_pos (show 0 < -cg_dot (cg_s s) (V 2) by omega) b) p0
    have m3 := Int.mul_pos a y3
    refine ⟨_, _, _, _, Int.le_of_lt m1, Int.le_of_lt m2, Int.le_of_lt m3, Int.le_of_lt m0, by omega, fun w => ?_⟩
    simp only [cp_push, cg_mix10]
    have k := cp_tri_i (by rw [z0, cg_dot_mix] : t0 * cg_dot w (cg_red (cg_mix (cg_dot (cg_s s) (V 0)) (-cg_dot (cg_s s) (V 2)) (V 2) (V 0))) = cg_dot w (V 2) * cg_dot (cg_s s) (V 0) + cg_dot w (V 0) * (-cg_dot (cg_s s) (V 2))) (w0 w) (w1 w) (by rw [z3, cg_dot_mix] : t3 * cg_dot w (cg_red (cg_mix (-cg_dot (cg_s s) (V 2)) (cg_dot (cg_s s) (V 1)) (V 1) (V 2))) = cg_dot w (V 1) * (-cg_dot (cg_s s) (V 2)) + cg_dot w (V 2) * cg_dot (cg_s s) (V 1))
    exact k.symm.trans (Int.add_comm _ _)
def cp_bd : Nat → Nat
  | 0 => 3
  | 1 => 4
  | 2 => 5
  | 3 => 7
  | 4 => 10
  | _ => 15
/-- the polygon in front of side s (6: behind the last) -/
def cp_Q (C : Nat → cg_V) (n : cg_V) (s m : Nat) (V : Nat → cg_V) : Prop :=
  m ≤ 16 ∧ (∀ k, k < m → cg_b 288000 (V k) ∧ ∀ r, r < s → 0 ≤ cg_dot (cg_s r) (V k)) ∧ (s < 6 → cp_P C n s m V ∧ m ≤ cp_bd s ∧ (s = 1 → m = 4 → cp_X V))
theorem cp_P_cong {C : Nat → cg_V} {n : cg_V} {s m : Nat} {V W : Nat → cg_V} (e : ∀ k, k < m → W k = V k) (h : cp_P C n s m V) : cp_P C n s m W := by
  intro k hk
  rw [e k hk, e _ (cp_nx_lt hk)]
  exact h k hk
theorem cp_X_cong {V W : Nat → cg_V} (e : ∀ k, k < 4 → W k = V k) (h : cp_X V) : cp_X W := by
  obtain ⟨a, b, c, d, a0, b0, c0, d0, hp, k⟩ := h
  refine ⟨a, b, c, d, a0, b0, c0, d0, hp, fun w => ?_⟩
  rw [e 0 (by omega), e 1 (by omega), e 2 (by omega), e 3 (by omega)]
  exact k w
theorem cp_Q_0 {C : Nat → cg_V} {n : cg_V} (hT : cg_T C n) {V : Nat → cg_V} (e : ∀ k, k < 3 → V k = C k) : cp_Q C n 0 3 V := by
  refine ⟨by omega, fun k hk => ⟨?_, fun r hr => absurd hr (Nat.not_lt_zero r)⟩, fun _ => ⟨cp_P_cong e (fun k hk => ⟨⟨cg_b_mono (by omega) (hT.1 k hk), hT.2.1 k hk, fun r hr => absurd hr (Nat.not_lt_zero r)⟩, ?_⟩), Nat.le_refl 3, fun z => absurd z (by omega)⟩⟩
  · rw [e k hk]
    exact cg_b_mono (by omega) (hT.1 k hk)
  · have en : cp_nx 3 k = (k + 1) % 3 := by
      unfold cp_nx
      split <;> omega
    rw [en]
    exact ⟨_, Or.inl ⟨k, hk, rfl⟩, cg_on_l _ _, cg_on_r _ _⟩
theorem cp_Q_next {C : Nat → cg_V} {n : cg_V} (hT : cg_T C n) {s m : Nat} (hs : s < 6) {V W : Nat → cg_V} (h : cp_Q C n s m V) (e : ∀ k, k < min (cp_st s m V m).1 16 → W k = (cp_st s m V m).2 k) : cp_Q C n (s + 1) (min (cp_st s m V m).1 16) W := by
  obtain ⟨h1, h2, h3⟩ := h
  obtain ⟨hP, hb, hX⟩ := h3 hs
  have hN := cp_P_next hT hs hP
  obtain ⟨c1, c2⟩ := cp_cnt_end s m V
  refine ⟨by omega, fun k hk => ?_, fun hs' => ?_⟩
  · obtain ⟨⟨a, _, b⟩, _⟩ := hN k (by omega)
    rw [e k hk]
    exact ⟨a, b⟩
  · have hb' : (cp_st s m V m).1 ≤ cp_bd (s + 1) := by
      match s, hs, hs', hb, hX, c1, c2 with
      | 0, _, _, hb, _, c1, _ => simp only [cp_bd] at hb ⊢; omega
      | 1, _, _, hb, hX, c1, c2 =>
        simp only [cp_bd] at hb ⊢
        by_cases z : m = 4
        · by_cases z' : 2 * (cp_st 1 m V m).1 = 3 * m
          · rw [z] at c2 z'
            exact absurd (cp_X_no (hX rfl z) 1 (c2 z')) id
          · omega
        · omega
      | 2, _, _, hb, _, c1, _ => simp only [cp_bd] at hb ⊢; omega
      | 3, _, _, hb, _, c1, _ => simp only [cp_bd] at hb ⊢; omega
      | 4, _, _, hb, _, c1, _ => simp only [cp_bd] at hb ⊢; omega
    have hle : ∀ t, cp_bd t ≤ 15 := by
      intro t
      unfold cp_bd
      split <;> omega
    have hl := hle (s + 1)
    have em : min (cp_st s m V m).1 16 = (cp_st s m V m).1 := by omega
    rw [em] at e ⊢
    refine ⟨cp_P_cong e hN, hb', fun z1 z4 => ?_⟩
    have s0 : s = 0 := by omega
    subst s0
    have m3 : m = 3 := by
      simp only [cp_bd] at hb
      omega
    subst m3
    exact cp_X_cong (fun k hk => e k (by omega)) (cp_tri 0 V z4)
end
section
theorem cw_mod2 {x y : Nat} (hy : y ≠ 0) (h : y < x) : 2 * (x % y) ≤ x := by
  have e := Nat.mod_add_div x y
  have l := Nat.mod_lt x (by omega : y > 0)
  have d : 0 < x / y := Nat.div_pos (by omega) (by omega)
  have m := Nat.le_mul_of_pos_right y d
  omega
theorem cw_euc {x y k : Nat} (hy : y ≠ 0) (hk : 0 < k → y < x) (h : x * y * 2 ^ k < 2 ^ 81) (h0 : k = 0 → x * y < 2 ^ 80) : y * (x % y) * 2 ^ (k + 1) < 2 ^ 81 := by
  by_cases z : k = 0
  · have l : y * (x % y) ≤ y * x := Nat.mul_le_mul_left y (Nat.mod_le x y)
    have l0 := h0 z
    rw [Nat.mul_comm] at l0
    rw [z]
    omega
  · have l := Nat.mul_le_mul_left y (cw_mod2 hy (hk (by omega)))
    have e : y * (x % y) * 2 ^ (k + 1) = y * (2 * (x % y)) * 2 ^ k := by
      rw [Nat.pow_succ]
      grind
    rw [e]
    rw [Nat.mul_comm x y] at h
    exact Nat.lt_of_le_of_lt (Nat.mul_le_mul_right _ l) h
theorem cw_prod {x y : Nat} (hx : x < 2 ^ 40) (hy : y < 2 ^ 40) : x * y < 2 ^ 80 := by
  have h : x * y ≤ (2 ^ 40 - 1) * (2 ^ 40 - 1) := Nat.mul_le_mul (by omega) (by omega)
  omega
theorem cw_lN0 {y : Nat} (h : y < 2 ^ 63) (h0 : y ≠ 0) : ¬ lN y = 0 := by
  intro z
  have e : lN y = lN 0 := z
  exact h0 ((pk_lEQ h (by omega)).mp e)
/-- Euclid's loop ends in less than 100 turns -/
theorem cw_div31 {post : Int64 → Prop} {x y : Nat} (hx : x < 2 ^ 40) (hy : y < 2 ^ 40) (H : post (lN (Nat.gcd x y))) : ∃ fu, wX_divisor_31 post fu (lN x) (lN y) 0 := by
  refine pk_loop (σ := Nat × Nat) (fun n i s => wX_divisor_31 post n (lN s.1) (lN s.2) (nI i)) (fun i s => s.1 < 2 ^ 40 ∧ s.2 < 2 ^ 40 ∧ Nat.gcd s.1 s.2 = Nat.gcd x y ∧ s.1 * s.2 * 2 ^ i < 2 ^ 81 ∧ (i = 0 → s.1 * s.2 < 2 ^ 80) ∧ (0 < i → s.2 < s.1)) 100 0 (x, y) (by omega) ⟨hx, hy, rfl, ?_, fun _ => cw_prod hx hy, fun z => absurd z (by omega)⟩ ?_ ?_
  · have k := cw_prod hx hy
    show x * y * 2 ^ 0 < 2 ^ 81
    omega
  · intro n s h
    obtain ⟨h1, h2, h3, h4, _, h6⟩ := h
    refine pk_le 100 100 (fun _ => ?_) (fun z => absurd z (by omega))
    have z : s.2 = 0 := by
      rcases Nat.eq_zero_or_pos s.2 with z | z
      · exact z
      · have l := h6 (by omega)
        have l2 : 1 * 1 ≤ s.1 * s.2 := Nat.mul_le_mul (by omega) z
        have l3 := Nat.mul_le_mul_right (2 ^ 100) l2
        omega
    rw [z, Nat.gcd_zero_right] at h3
    rw [h3]
    exact H
  · intro n i s hi h hw
    obtain ⟨h1, h2, h3, h4, h5, h6⟩ := h
    refine pk_le 100 i (fun z => absurd z (by omega)) (fun _ => ?_)
    by_cases z : s.2 = 0
    · rw [z]
      rw [z, Nat.gcd_zero_right] at h3
      refine br_t rfl ?_
      rw [h3]
      exact H
    · have l := Nat.mod_lt s.1 (by omega : s.2 > 0)
      refine br_f (cw_lN0 (by omega) z) ⟨cw_lN0 (by omega) z, nm_r (pk_lRem (by omega) (by omega) (by omega)) (nm_r (nI_1 i) (hw (s.2, s.1 % s.2) ⟨h2, ?_, ?_, cw_euc z h6 h4 h5, fun z => absurd z (by omega), fun _ => l⟩))⟩
      · show s.1 % s.2 < 2 ^ 40
        omega
      · show Nat.gcd s.2 (s.1 % s.2) = Nat.gcd x y
        rw [← h3, Nat.gcd_comm s.1 s.2, Nat.gcd_rec s.2 s.1, Nat.gcd_comm]
theorem cw_absP {p : Int64} (h : 0 ≤ p) : p = lN p.toInt.natAbs := by
  have a := p.toInt_lt
  have b := Jvm.Kit.i64_nonneg.mp h
  apply Int64.toInt_inj.mp
  rw [pk_lT (by omega)]
  omega
theorem cw_absN {p : Int64} (h : ¬ 0 ≤ p) (hp : p.toInt.natAbs < 2 ^ 40) : -p = lN p.toInt.natAbs := by
  have b : ¬ 0 ≤ p.toInt := fun z => h (Jvm.Kit.i64_nonneg.mpr z)
  apply Int64.toInt_inj.mp
  rw [pk_lT (by omega), Jvm.Kit.i64_neg (by omega)]
  omega
theorem cw_divisor {post : Int64 → Prop} {a b : Int64} (ha : a.toInt.natAbs < 2 ^ 40) (hb : b.toInt.natAbs < 2 ^ 40) (H : post (lN (Nat.gcd a.toInt.natAbs b.toInt.natAbs))) : wpX_divisor post () a b := by
  have key := cw_div31 ha hb H
  have hd : ∀ x : Int64, x = lN a.toInt.natAbs → wX_divisor_12 post b x := by
    intro x hx
    rw [hx]
    refine br_c (fun z => ?_) (fun z => nm_r (cw_absN z hb) key)
    have e := cw_absP z
    generalize lN a.toInt.natAbs = A at *
    generalize lN b.toInt.natAbs = B at *
    rw [e]
    exact key
  exact br_c (fun z => hd a (cw_absP z)) (fun z => hd (-a) (cw_absN z ha))
theorem cw_lin {a b c d : Int64} (ha : -288000 ≤ a.toInt ∧ a.toInt ≤ 288000) (hb : -576000 ≤ b.toInt ∧ b.toInt ≤ 576000) (hc : -288000 ≤ c.toInt ∧ c.toInt ≤ 288000) (hd : -576000 ≤ d.toInt ∧ d.toInt ≤ 576000) : (a * b + c * d).toInt = a.toInt * b.toInt + c.toInt * d.toInt ∧ (a * b + c * d).toInt.natAbs < 2 ^ 40 := by
  have k1 := cg_mulb ha hb
  have k2 := cg_mulb hc hd
  have e1 : (a * b).toInt = a.toInt * b.toInt := Jvm.Kit.i64_mul (by omega) (by omega)
  have e2 : (c * d).toInt = c.toInt * d.toInt := Jvm.Kit.i64_mul (by omega) (by omega)
  have e3 : (a * b + c * d).toInt = a.toInt * b.toInt + c.toInt * d.toInt := by
    rw [Jvm.Kit.i64_add (by omega) (by omega), e1, e2]
  exact ⟨e3, by omega⟩
theorem cw_gcd_lt {a b M : Nat} (ha : a < M) (hb : b < M) : Nat.gcd a b < M := by
  rcases Nat.eq_zero_or_pos a with z | z
  · rw [z, Nat.gcd_zero_left]
    exact hb
  · exact Nat.lt_of_le_of_lt (Nat.gcd_le_left b z) ha
def cw_vt (a b c d : Nat → Int64) (k : Nat) : cg_V := ((a k).toInt, (b k).toInt, (c k).toInt, (d k).toInt)
/-- the count f and the four arrays hold the first 16 of st -/
def cw_R (st : cp_S) (f : Int32) (a b c d : Nat → Int64) : Prop := f = nI (min st.1 16) ∧ ∀ j, j < min st.1 16 → cw_vt a b c d j = st.2 j
theorem cw_R_push {st : cp_S} {f : Int32} {a b c d : Nat → Int64} {q : cg_V} (h : cw_R st f a b c d) (h16 : st.1 < 16) {x y z w : Int64} (e : (x.toInt, y.toInt, z.toInt, w.toInt) = q) : cw_R (cp_push st q) (nI (st.1 + 1)) (vp_updL a st.1 x) (vp_updL b st.1 y) (vp_updL c st.1 z) (vp_updL d st.1 w) := by
  refine ⟨?_, fun j hj => ?_⟩
  · rw [cp_push_n, show min (st.1 + 1) 16 = st.1 + 1 by omega]
  · rw [cp_push_n] at hj
    by_cases ej : j = st.1
    · rw [ej, cp_push_hi]
      simp only [cw_vt, pk_uLs]
      exact e
    · rw [cp_push_lo st q (show j < st.1 by omega), ← h.2 j (by omega)]
      simp only [cw_vt, pk_uLn ej]
theorem cw_R_full {st : cp_S} {f : Int32} {a b c d : Nat → Int64} (q : cg_V) (h : cw_R st f a b c d) (h16 : 16 ≤ st.1) : cw_R (cp_push st q) f a b c d := by
  obtain ⟨h1, h2⟩ := h
  refine ⟨?_, fun j hj => ?_⟩
  · rw [h1, cp_push_n, show min (st.1 + 1) 16 = min st.1 16 by omega]
  · rw [cp_push_n] at hj
    rw [cp_push_lo st q (show j < st.1 by omega)]
    exact h2 j (by omega)
theorem cw_keep152 {post : St1 → Prop} {f0 f1 f3 : Int32} {a1 a2 a3 a4 a5 : Nat → Int32} {a6 a7 a8 a9 a10 a11 a12 a13 a14 a15 a16 a17 : Nat → Int64} {m : Nat} (hm : m < 16) {x y z w : Int64} (H : post (f0, f1, nI (m + 1), f3, a1, a2, a3, a4, a5, a6, a7, a8, a9, a10, a11, a12, a13, vp_updL a14 m x, vp_updL a15 m y, vp_updL a16 m z, vp_updL a17 m w)) : wX_keep_152 post x y z w f0 f1 (nI m) f3 a1 a2 a3 a4 a5 a6 a7 a8 a9 a10 a11 a12 a13 a14 a15 a16 a17 := by
  unfold wX_keep_152
  rw [nI_clamp (show m < 2 ^ 31 by omega)]
  exact ⟨pk_in m 16 hm, nm_e ⟨pk_in m 16 hm, nm_e ⟨pk_in m 16 hm, nm_e ⟨pk_in m 16 hm, nm_e (nm_r (nI_1 m) H)⟩⟩⟩⟩
theorem cw_tdiv01 {x : Int} {g : Nat} (h : g ≤ 1) (hd : (g : Int) ∣ x) : x = x.tdiv g := by
  rcases Nat.eq_zero_or_pos g with z | z
  · rw [z] at hd ⊢
    have e : x = 0 := by
      obtain ⟨c, hc⟩ := hd
      rw [hc]
      simp
    rw [e]
    rfl
  · have e : g = 1 := by omega
    rw [e]
    exact (Int.tdiv_one x).symm
theorem cw_ldiv {x : Int64} {g : Nat} (hx : x.toInt.natAbs < 2 ^ 40) (hg : g < 2 ^ 40) : (x / lN g).toInt = x.toInt.tdiv g := by
  rw [Jvm.Kit.i64_div (by omega), pk_lT (by omega)]
theorem cw_keep {post : St1 → Prop} {f0 f1 f2 f3 : Int32} {a1 a2 a3 a4 a5 : Nat → Int32} {a6 a7 a8 a9 a10 a11 a12 a13 a14 a15 a16 a17 : Nat → Int64} {st : cp_S} {k j : Nat} {z0 : Int32} {p q : Int64} {P Q : Int} (hk : k < 16) (hj : j < 16) (hz : z0 = nI j) (hR : cw_R st f2 a14 a15 a16 a17) (bk : cg_b 288000 (cw_vt a10 a11 a12 a13 k)) (bj : cg_b 288000 (cw_vt a10 a11 a12 a13 j)) (ep : p.toInt = P) (eq : q.toInt = Q) (hp : -576000 ≤ P ∧ P ≤ 576000) (hq : -576000 ≤ Q ∧ Q ≤ 576000)
    (H : ∀ (g2 : Int32) (b14 b15 b16 b17 : Nat → Int64), cw_R (cp_push st (cg_red (cg_mix P Q (cw_vt a10 a11 a12 a13 k) (cw_vt a10 a11 a12 a13 j)))) g2 b14 b15 b16 b17 → post (f0, f1, g2, f3, a1, a2, a3, a4, a5, a6, a7, a8, a9, a10, a11, a12, a13, b14, b15, b16, b17)) : wpX_keep post (f0, f1, f2, f3, a1, a2, a3, a4, a5, a6, a7, a8, a9, a10, a11, a12, a13, a14, a15, a16, a17) (nI k) z0 p q := by
  rw [hz]
  unfold wpX_keep
  dsimp only
  rw [nI_clamp (show k < 2 ^ 31 by omega), nI_clamp (show j < 2 ^ 31 by omega)]
  have hf := hR.1
  by_cases h16 : 16 ≤ st.1
  · have e : f2 = nI 16 := by rw [hf, show min st.1 16 = 16 by omega]
    exact br_t e (H _ _ _ _ _ (cw_R_full _ hR h16))
  · have e : f2 = nI st.1 := by rw [hf, show min st.1 16 = st.1 by omega]
    rw [← ep] at hp
    rw [← eq] at hq
    obtain ⟨bk1, bk2, bk3, bk4⟩ := bk
    obtain ⟨bj1, bj2, bj3, bj4⟩ := bj
    have v1 := cw_lin bk1 hp bj1 hq
    have v2 := cw_lin bk2 hp bj2 hq
    have v3 := cw_lin bk3 hp bj3 hq
    have v4 := cw_lin bk4 hp bj4 hq
    have hne : ¬ f2 = 16 := by
      rw [e]
      intro z
      have z' : nI st.1 = nI 16 := z
      have := (nI_eq (by omega) (by omega)).mp z'
      omega
    refine br_f hne ⟨pk_in k 16 hk, pk_in j 16 hj, nm_e ⟨pk_in k 16 hk, pk_in j 16 hj, nm_e ⟨pk_in k 16 hk, pk_in j 16 hj, nm_e ⟨pk_in k 16 hk, pk_in j 16 hj, nm_e ?_⟩⟩⟩⟩
    rw [ep, eq] at v1 v2 v3 v4
    have em : ((a10 k * p + a10 j * q).toInt, (a11 k * p + a11 j * q).toInt, (a12 k * p + a12 j * q).toInt, (a13 k * p + a13 j * q).toInt) = cg_mix P Q (cw_vt a10 a11 a12 a13 k) (cw_vt a10 a11 a12 a13 j) := by
      rw [v1.1, v2.1, v3.1, v4.1]
      rfl
    generalize cg_mix P Q (cw_vt a10 a11 a12 a13 k) (cw_vt a10 a11 a12 a13 j) = v at *
    have v1 := v1.2
    have v2 := v2.2
    have v3 := v3.2
    have v4 := v4.2
    generalize a10 k * p + a10 j * q = X at *
    generalize a11 k * p + a11 j * q = Y at *
    generalize a12 k * p + a12 j * q = Z at *
    generalize a13 k * p + a13 j * q = W at *
    subst em
    have g1 := cw_gcd_lt v1 v2
    have t1 := pk_lT (show Nat.gcd X.toInt.natAbs Y.toInt.natAbs < 2 ^ 63 by omega)
    have n1 : (lN (Nat.gcd X.toInt.natAbs Y.toInt.natAbs)).toInt.natAbs = Nat.gcd X.toInt.natAbs Y.toInt.natAbs := by rw [t1]; rfl
    refine cw_divisor v1 v2 (cw_divisor (by rw [n1]; exact g1) v3 ?_)
    rw [n1]
    have g2 := cw_gcd_lt g1 v3
    have t2 := pk_lT (show Nat.gcd (Nat.gcd X.toInt.natAbs Y.toInt.natAbs) Z.toInt.natAbs < 2 ^ 63 by omega)
    have n2 : (lN (Nat.gcd (Nat.gcd X.toInt.natAbs Y.toInt.natAbs) Z.toInt.natAbs)).toInt.natAbs = Nat.gcd (Nat.gcd X.toInt.natAbs Y.toInt.natAbs) Z.toInt.natAbs := by rw [t2]; rfl
    refine cw_divisor (by rw [n2]; exact g2) v4 ?_
    rw [n2]
    have g3 := cw_gcd_lt g2 v4
    have hg : Nat.gcd (Nat.gcd (Nat.gcd X.toInt.natAbs Y.toInt.natAbs) Z.toInt.natAbs) W.toInt.natAbs = cg_g (X.toInt, Y.toInt, Z.toInt, W.toInt) := rfl
    rw [hg] at g3 ⊢
    have d1 := cg_dvd1 (X.toInt, Y.toInt, Z.toInt, W.toInt)
    have d2 := cg_dvd2 (X.toInt, Y.toInt, Z.toInt, W.toInt)
    have d3 := cg_dvd3 (X.toInt, Y.toInt, Z.toInt, W.toInt)
    have d4 := cg_dvd4 (X.toInt, Y.toInt, Z.toInt, W.toInt)
    have er : cg_red (X.toInt, Y.toInt, Z.toInt, W.toInt) = (X.toInt.tdiv (cg_g (X.toInt, Y.toInt, Z.toInt, W.toInt)), Y.toInt.tdiv (cg_g (X.toInt, Y.toInt, Z.toInt, W.toInt)), Z.toInt.tdiv (cg_g (X.toInt, Y.toInt, Z.toInt, W.toInt)), W.toInt.tdiv (cg_g (X.toInt, Y.toInt, Z.toInt, W.toInt))) := rfl
    rw [er] at H
    simp only at d1 d2 d3 d4
    clear er hg n1 n2 t1 t2
    generalize cg_g (X.toInt, Y.toInt, Z.toInt, W.toInt) = G at *
    have k1 : lN G ≤ 1 ↔ G ≤ 1 := pk_lLE (a := G) (b := 1) (by omega) (by omega)
    rw [e]
    refine br_c (fun z => cw_keep152 (by omega) (H _ _ _ _ _ (cw_R_push hR (by omega) ?_))) (fun z => ?_)
    · have z' := k1.mp z
      rw [← cw_tdiv01 z' d1, ← cw_tdiv01 z' d2, ← cw_tdiv01 z' d3, ← cw_tdiv01 z' d4]
    · have z' : ¬ G ≤ 1 := fun t => z (k1.mpr t)
      have ne := cw_lN0 (show G < 2 ^ 63 by omega) (show G ≠ 0 by omega)
      refine ⟨ne, nm_e ⟨ne, nm_e ⟨ne, nm_e ⟨ne, nm_e (cw_keep152 (by omega) (H _ _ _ _ _ (cw_R_push hR (by omega) ?_)))⟩⟩⟩⟩
      rw [cw_ldiv v1 g3, cw_ldiv v2 g3, cw_ldiv v3 g3, cw_ldiv v4 g3]
end
section
theorem cw_le0 {x : Int64} : x ≤ 0 ↔ x.toInt ≤ 0 := by rw [Int64.le_iff_toInt_le, Int64.toInt_zero]
theorem cw_lt0 {x : Int64} : x < 0 ↔ x.toInt < 0 := by rw [Int64.lt_iff_toInt_lt, Int64.toInt_zero]
theorem cw_0lt {x : Int64} : 0 < x ↔ 0 < x.toInt := by rw [Int64.lt_iff_toInt_lt, Int64.toInt_zero]
theorem cw_0le {x : Int64} : 0 ≤ x ↔ 0 ≤ x.toInt := Jvm.Kit.i64_nonneg
theorem cw_eq0 {x : Int64} : x = 0 ↔ x.toInt = 0 := by rw [← Int64.toInt_inj, Int64.toInt_zero]
theorem cw_add {x y : Int64} {A : Int} (hA : A ≤ 2 ^ 61) (hx : -A ≤ x.toInt ∧ x.toInt ≤ A) (hy : -A ≤ y.toInt ∧ y.toInt ≤ A) : (x + y).toInt = x.toInt + y.toInt := Jvm.Kit.i64_add (by omega) (by omega)
theorem cw_sub {x y : Int64} {A : Int} (hA : A ≤ 2 ^ 61) (hx : -A ≤ x.toInt ∧ x.toInt ≤ A) (hy : -A ≤ y.toInt ∧ y.toInt ≤ A) : (x - y).toInt = x.toInt - y.toInt := Jvm.Kit.i64_sub (by omega) (by omega)
theorem cw_inside {post : Int64 → Prop} {f0 f1 f2 f3 : Int32} {a1 a2 a3 a4 a5 : Nat → Int32} {a6 a7 a8 a9 a10 a11 a12 a13 a14 a15 a16 a17 : Nat → Int64} {s k : Nat} {z0 : Int32} (hs : s < 6) (hk : k < 16) (hz : z0 = nI k) (b : cg_b 288000 (cw_vt a10 a11 a12 a13 k)) (H : ∀ r : Int64, r.toInt = cg_dot (cg_s s) (cw_vt a10 a11 a12 a13 k) → post r) : wpX_inside post (f0, f1, f2, f3, a1, a2, a3, a4, a5, a6, a7, a8, a9, a10, a11, a12, a13, a14, a15, a16, a17) (nI s) z0 := by
  rw [hz]
  unfold wpX_inside
  dsimp only
  rw [nI_clamp (show k < 2 ^ 31 by omega)]
  have i := pk_in (x := nI k) k 16 hk
  obtain ⟨b1, b2, b3, b4⟩ := b
  simp only [cw_vt] at b1 b2 b3 b4
  match s, hs, H with
  | 0, _, H => exact br_f (by decide) (br_t (by decide) ⟨i, i, H _ (by rw [cw_add (by omega) b4 b1]; simp only [cg_dot, cg_s, cw_vt]; omega)⟩)
  | 1, _, H => exact br_f (by decide) (br_f (by decide) ⟨i, i, H _ (by rw [cw_sub (by omega) b4 b1]; simp only [cg_dot, cg_s, cw_vt]; omega)⟩)
  | 2, _, H => exact br_t (by decide) (br_f (by decide) (br_t (by decide) ⟨i, i, H _ (by rw [cw_add (by omega) b4 b2]; simp only [cg_dot, cg_s, cw_vt]; omega)⟩))
  | 3, _, H => exact br_t (by decide) (br_f (by decide) (br_f (by decide) ⟨i, i, H _ (by rw [cw_sub (by omega) b4 b2]; simp only [cg_dot, cg_s, cw_vt]; omega)⟩))
  | 4, _, H => exact br_t (by decide) (br_t (by decide) (br_t (by decide) ⟨i, H _ (by simp only [cg_dot, cg_s, cw_vt]; omega)⟩))
  | 5, _, H => exact br_t (by decide) (br_t (by decide) (br_f (by decide) ⟨i, i, H _ (by rw [cw_sub (by omega) b4 b3]; simp only [cg_dot, cg_s, cw_vt]; omega)⟩))
abbrev cw_J : Type := Int32 → Int32 → Int32 → Int32 → Int32 → (Nat → Int32) → (Nat → Int32) → (Nat → Int32) → (Nat → Int32) → (Nat → Int32) → (Nat → Int64) → (Nat → Int64) → (Nat → Int64) → (Nat → Int64) → (Nat → Int64) → (Nat → Int64) → (Nat → Int64) → (Nat → Int64) → (Nat → Int64) → (Nat → Int64) → (Nat → Int64) → (Nat → Int64) → Prop
theorem cw_neg {x : Int64} {h : Int} (e : x.toInt = h) (b : -576000 ≤ h ∧ h ≤ 576000) : (-x).toInt = -h := by
  rw [Jvm.Kit.i64_neg (by omega), e]
theorem cw_89 {post : St1 → Prop} {J : cw_J} {f0 f1 f2 f3 : Int32} {a1 a2 a3 a4 a5 : Nat → Int32} {a6 a7 a8 a9 a10 a11 a12 a13 a14 a15 a16 a17 : Nat → Int64} {st : cp_S} {x1 : Int32} {k j : Nat} {z0 : Int32} {x4 x6 : Int64} {h t : Int} (hk : k < 16) (hj : j < 16) (hz : z0 = nI j) (hR : cw_R st f2 a14 a15 a16 a17) (bk : cg_b 288000 (cw_vt a10 a11 a12 a13 k)) (bj : cg_b 288000 (cw_vt a10 a11 a12 a13 j)) (eh : x4.toInt = h) (et : x6.toInt = t) (hh : -576000 ≤ h ∧ h ≤ 576000) (ht : -576000 ≤ t ∧ t ≤ 576000)
    (H : ∀ (g2 : Int32) (b14 b15 b16 b17 : Nat → Int64), cw_R (cp_3 (cw_vt a10 a11 a12 a13 k) (cw_vt a10 a11 a12 a13 j) h t st) g2 b14 b15 b16 b17 → J (nI (k + 1)) f0 f1 g2 f3 a1 a2 a3 a4 a5 a6 a7 a8 a9 a10 a11 a12 a13 b14 b15 b16 b17) : wX_clip_89 post J x1 (nI k) z0 x4 x6 f0 f1 f2 f3 a1 a2 a3 a4 a5 a6 a7 a8 a9 a10 a11 a12 a13 a14 a15 a16 a17 := by
  unfold wX_clip_89
  unfold cp_3 at H
  refine br_c (fun z => nm_r (nI_1 k) (H _ _ _ _ _ ?_)) (fun z => br_c (fun z' => nm_r (nI_1 k) (H _ _ _ _ _ ?_)) (fun z' => ?_))
  · rw [cw_0le, eh] at z
    rw [if_neg (show ¬ (h < 0 ∧ 0 < t) by omega)]
    exact hR
  · rw [cw_le0, et] at z'
    rw [if_neg (show ¬ (h < 0 ∧ 0 < t) by omega)]
    exact hR
  · rw [cw_0le, eh] at z
    rw [cw_le0, et] at z'
    rw [if_pos (show h < 0 ∧ 0 < t by omega)] at H
    exact cw_keep hk hj hz hR bk bj et (cw_neg eh hh) ht (by omega) (fun g2 b14 b15 b16 b17 r => nm_r (nI_1 k) (H g2 b14 b15 b16 b17 r))
theorem cw_64 {post : St1 → Prop} {J : cw_J} {f0 f1 f2 f3 : Int32} {a1 a2 a3 a4 a5 : Nat → Int32} {a6 a7 a8 a9 a10 a11 a12 a13 a14 a15 a16 a17 : Nat → Int64} {st : cp_S} {x1 : Int32} {k j : Nat} {z0 : Int32} {x4 x6 : Int64} {h t : Int} (hk : k < 16) (hj : j < 16) (hz : z0 = nI j) (hR : cw_R st f2 a14 a15 a16 a17) (bk : cg_b 288000 (cw_vt a10 a11 a12 a13 k)) (bj : cg_b 288000 (cw_vt a10 a11 a12 a13 j)) (eh : x4.toInt = h) (et : x6.toInt = t) (hh : -576000 ≤ h ∧ h ≤ 576000) (ht : -576000 ≤ t ∧ t ≤ 576000)
    (H : ∀ (g2 : Int32) (b14 b15 b16 b17 : Nat → Int64), cw_R (cp_3 (cw_vt a10 a11 a12 a13 k) (cw_vt a10 a11 a12 a13 j) h t (cp_2 (cw_vt a10 a11 a12 a13 k) (cw_vt a10 a11 a12 a13 j) h t st)) g2 b14 b15 b16 b17 → J (nI (k + 1)) f0 f1 g2 f3 a1 a2 a3 a4 a5 a6 a7 a8 a9 a10 a11 a12 a13 b14 b15 b16 b17) : wX_clip_64 post J x1 (nI k) z0 x4 x6 f0 f1 f2 f3 a1 a2 a3 a4 a5 a6 a7 a8 a9 a10 a11 a12 a13 a14 a15 a16 a17 := by
  unfold wX_clip_64
  have n89 : ¬ (0 < h ∧ t < 0) → wX_clip_89 post J x1 (nI k) z0 x4 x6 f0 f1 f2 f3 a1 a2 a3 a4 a5 a6 a7 a8 a9 a10 a11 a12 a13 a14 a15 a16 a17 := by
    intro n
    unfold cp_2 at H
    rw [if_neg n] at H
    exact cw_89 hk hj hz hR bk bj eh et hh ht H
  refine br_c (fun z => n89 ?_) (fun z => br_c (fun z' => n89 ?_) (fun z' => ?_))
  · rw [cw_le0, eh] at z
    omega
  · rw [cw_0le, et] at z'
    omega
  · rw [cw_le0, eh] at z
    rw [cw_0le, et] at z'
    unfold cp_2 at H
    rw [if_pos (show 0 < h ∧ t < 0 by omega)] at H
    exact cw_keep hk hj hz hR bk bj (cw_neg et ht) eh (by omega) hh (fun g2 b14 b15 b16 b17 r => cw_89 hk hj hz r bk bj eh et hh ht H)
theorem cw_32 {post : St1 → Prop} {J : cw_J} {f0 f1 f2 f3 : Int32} {a1 a2 a3 a4 a5 : Nat → Int32} {a6 a7 a8 a9 a10 a11 a12 a13 a14 a15 a16 a17 : Nat → Int64} {st : cp_S} {s k j : Nat} {z0 : Int32} (hs : s < 6) (hk : k < 16) (hj : j < 16) (hz : z0 = nI j) (hR : cw_R st f2 a14 a15 a16 a17) (bk : cg_b 288000 (cw_vt a10 a11 a12 a13 k)) (bj : cg_b 288000 (cw_vt a10 a11 a12 a13 j))
    (H : ∀ (g2 : Int32) (b14 b15 b16 b17 : Nat → Int64), cw_R (cp_step (cw_vt a10 a11 a12 a13 k) (cw_vt a10 a11 a12 a13 j) (cg_dot (cg_s s) (cw_vt a10 a11 a12 a13 k)) (cg_dot (cg_s s) (cw_vt a10 a11 a12 a13 j)) st) g2 b14 b15 b16 b17 → J (nI (k + 1)) f0 f1 g2 f3 a1 a2 a3 a4 a5 a6 a7 a8 a9 a10 a11 a12 a13 b14 b15 b16 b17) : wX_clip_32 post J (nI s) (nI k) z0 f0 f1 f2 f3 a1 a2 a3 a4 a5 a6 a7 a8 a9 a10 a11 a12 a13 a14 a15 a16 a17 := by
  unfold wX_clip_32
  have hh := cg_sd_b bk hs
  have ht := cg_sd_b bj hs
  refine cw_inside hs hk rfl bk (fun r eh => cw_inside hs hj hz bj (fun r' et => br_c (fun z => ?_) (fun z => ?_)))
  · rw [cw_lt0, eh] at z
    unfold cp_step cp_1 at H
    rw [if_neg (show ¬ 0 ≤ cg_dot (cg_s s) (cw_vt a10 a11 a12 a13 k) by omega)] at H
    exact cw_64 hk hj hz hR bk bj eh et (by omega) (by omega) H
  · rw [cw_lt0, eh] at z
    unfold cp_step cp_1 at H
    rw [if_pos (show 0 ≤ cg_dot (cg_s s) (cw_vt a10 a11 a12 a13 k) by omega)] at H
    exact cw_keep hk hj hz hR bk bj (P := 1) (Q := 0) rfl rfl (by omega) (by omega) (fun g2 b14 b15 b16 b17 r'' => cw_64 hk hj hz r'' bk bj eh et (by omega) (by omega) H)
/-- the second loop: the corners made are copied back -/
theorem cw_122 {post : St1 → Prop} {f0 f1 f3 : Int32} {a1 a2 a3 a4 a5 : Nat → Int32} {a6 a7 a8 a9 a10 a11 a12 a13 a14 a15 a16 a17 : Nat → Int64} {m : Nat} (hm : m ≤ 16) (H : ∀ b10 b11 b12 b13 : Nat → Int64, (∀ j, j < m → cw_vt b10 b11 b12 b13 j = cw_vt a14 a15 a16 a17 j) → post (f0, nI m, nI m, f3, a1, a2, a3, a4, a5, a6, a7, a8, a9, b10, b11, b12, b13, a14, a15, a16, a17)) : ∃ fu, wX_clip_122 post f0 f1 (nI m) f3 fu 0 a1 a2 a3 a4 a5 a6 a7 a8 a9 a10 a11 a12 a13 a14 a15 a16 a17 := by
  refine pk_loop (σ := (Nat → Int64) × (Nat → Int64) × (Nat → Int64) × (Nat → Int64)) (fun n i s => wX_clip_122 post f0 f1 (nI m) f3 n (nI i) a1 a2 a3 a4 a5 a6 a7 a8 a9 s.1 s.2.1 s.2.2.1 s.2.2.2 a14 a15 a16 a17) (fun i s => ∀ j, j < i → cw_vt s.1 s.2.1 s.2.2.1 s.2.2.2 j = cw_vt a14 a15 a16 a17 j) m 0 (a10, a11, a12, a13) (by omega) (fun j hj => absurd hj (Nat.not_lt_zero j)) ?_ ?_
  · intro n s h
    exact pk_le m m (fun _ => H _ _ _ _ h) (fun z => absurd z (by omega))
  · intro n i s hi h hw
    refine pk_le m i (fun z => absurd z (by omega)) (fun _ => ?_)
    have p := pk_in (x := nI i) i 16 (by omega)
    rw [nI_clamp (show i < 2 ^ 31 by omega)]
    refine ⟨p, p, nm_e ⟨p, p, nm_e ⟨p, p, nm_e ⟨p, p, nm_e (nm_r (nI_1 i) (hw (vp_updL s.1 i (a14 i), vp_updL s.2.1 i (a15 i), vp_updL s.2.2.1 i (a16 i), vp_updL s.2.2.2 i (a17 i)) (fun j hj => ?_)))⟩⟩⟩⟩
    by_cases e : j = i
    · rw [e]
      simp only [cw_vt, pk_uLs]
    · have k := h j (by omega)
      simp only [cw_vt, pk_uLn e] at k ⊢
      exact k
theorem cw_clip {post : St1 → Prop} {f0 f2 f3 : Int32} {a1 a2 a3 a4 a5 : Nat → Int32} {a6 a7 a8 a9 a10 a11 a12 a13 a14 a15 a16 a17 : Nat → Int64} {s m : Nat} (hs : s < 6) (hm : m ≤ 16) (hb : ∀ k, k < m → cg_b 288000 (cw_vt a10 a11 a12 a13 k))
    (H : ∀ (g1 g2 : Int32) (b10 b11 b12 b13 b14 b15 b16 b17 : Nat → Int64), g1 = nI (min (cp_st s m (cw_vt a10 a11 a12 a13) m).1 16) → (∀ j, j < min (cp_st s m (cw_vt a10 a11 a12 a13) m).1 16 → cw_vt b10 b11 b12 b13 j = (cp_st s m (cw_vt a10 a11 a12 a13) m).2 j) → post (f0, g1, g2, f3, a1, a2, a3, a4, a5, a6, a7, a8, a9, b10, b11, b12, b13, b14, b15, b16, b17)) : wpX_clip post (f0, nI m, f2, f3, a1, a2, a3, a4, a5, a6, a7, a8, a9, a10, a11, a12, a13, a14, a15, a16, a17) (nI s) := by
  unfold wpX_clip
  dsimp only
  refine pk_loop (σ := Int32 × (Nat → Int64) × (Nat → Int64) × (Nat → Int64) × (Nat → Int64)) (fun n i q => wX_clip_7 post (nI s) n (nI i) f0 (nI m) q.1 f3 a1 a2 a3 a4 a5 a6 a7 a8 a9 a10 a11 a12 a13 q.2.1 q.2.2.1 q.2.2.2.1 q.2.2.2.2) (fun i q => cw_R (cp_st s m (cw_vt a10 a11 a12 a13) i) q.1 q.2.1 q.2.2.1 q.2.2.2.1 q.2.2.2.2) m 0 (0, a14, a15, a16, a17) (by omega) ⟨rfl, fun j hj => absurd hj (Nat.not_lt_zero j)⟩ ?_ ?_
  · intro n q h
    refine pk_le m m (fun _ => ?_) (fun z => absurd z (by omega))
    obtain ⟨h1, h2⟩ := h
    rw [h1]
    refine cw_122 (by omega) (fun b10 b11 b12 b13 hb' => H _ _ b10 b11 b12 b13 _ _ _ _ rfl (fun j hj => ?_))
    rw [hb' j hj]
    exact h2 j hj
  · intro n i q hi h hw
    have step : ∀ (j : Nat) (z0 : Int32), j = cp_nx m i → z0 = nI j → wX_clip_32 post (wX_clip_7 post (nI s) n) (nI s) (nI i) z0 f0 (nI m) q.1 f3 a1 a2 a3 a4 a5 a6 a7 a8 a9 a10 a11 a12 a13 q.2.1 q.2.2.1 q.2.2.2.1 q.2.2.2.2 := by
      intro j z0 ej hz
      have hj : j < m := by
        rw [ej]
        exact cp_nx_lt hi
      refine cw_32 hs (by omega) (by omega) hz h (hb i hi) (hb j hj) (fun g2 b14 b15 b16 b17 r => hw (g2, b14, b15, b16, b17) ?_)
      rw [ej] at r
      exact r
    refine pk_le m i (fun z => absurd z (by omega)) (fun _ => pk_le m (i + 1) (fun z => step 0 _ ?_ rfl) (fun z => step (i + 1) _ ?_ (nI_1 i)) rfl (nI_1 i))
    · unfold cp_nx
      rw [if_neg (by omega)]
    · unfold cp_nx
      rw [if_pos (by omega)]
end
section
def cw_row (a3 a4 : Nat → Int32) (i : Nat) : Prop := 0 ≤ (a3 i).toInt ∧ (a3 i).toInt ≤ 16 ∧ -1 ≤ (a4 i).toInt ∧ (a4 i).toInt ≤ 15
def cw_oth (i : Nat) (a3 a4 b3 b4 : Nat → Int32) : Prop := ∀ j, j ≠ i → b3 j = a3 j ∧ b4 j = a4 j
theorem cw_at (t j : Nat) : 16 * nI t + nI j = nI (16 * t + j) := by
  rw [show (16 : Int32) = nI 16 from rfl, pk_mul, nI_add]
theorem cw_i32_1 {x : Int64} {v : Int} (e : x.toInt = v) (h0 : 0 ≤ v) (h1 : v ≤ 100) : (x.toInt32 - 1).toInt = v - 1 := by
  have e1 : x.toInt32.toInt = v := by rw [Jvm.Kit.i32_of_i64 (by omega) (by omega), e]
  have e2 : (1 : Int32).toInt = 1 := rfl
  rw [Jvm.Kit.i32_sub (by omega) (by omega), e1, e2]
theorem cw_l16 : (16 : Int64).toInt = 16 := rfl
theorem cw_l17 : (17 : Int64).toInt = 17 := rfl
theorem cw_l2 : (2 : Int64).toInt = 2 := rfl
theorem cw_l1 : (1 : Int64).toInt = 1 := rfl
/-- the two columns of a crossing x / w, -w ≤ x ≤ w -/
theorem cw_cols {x w : Int64} (hw : 0 < w.toInt) (hw' : w.toInt < 2 ^ 43) (h1 : -w.toInt ≤ x.toInt) (h2 : x.toInt ≤ w.toInt) :
    (2 * w).toInt = 2 * w.toInt ∧
    (0 ≤ (((16 * x + 17 * w + 2 * w - 1) / (2 * w)).toInt32 - 1).toInt ∧ (((16 * x + 17 * w + 2 * w - 1) / (2 * w)).toInt32 - 1).toInt ≤ 16) ∧
    (-1 ≤ (((16 * x + 17 * w) / (2 * w)).toInt32 - 1).toInt ∧ (((16 * x + 17 * w) / (2 * w)).toInt32 - 1).toInt ≤ 15) := by
  have e1 : (16 * x).toInt = 16 * x.toInt := by rw [Jvm.Kit.i64_mul (by rw [cw_l16]; omega) (by rw [cw_l16]; omega), cw_l16]
  have e2 : (17 * w).toInt = 17 * w.toInt := by rw [Jvm.Kit.i64_mul (by rw [cw_l17]; omega) (by rw [cw_l17]; omega), cw_l17]
  have e3 : (2 * w).toInt = 2 * w.toInt := by rw [Jvm.Kit.i64_mul (by rw [cw_l2]; omega) (by rw [cw_l2]; omega), cw_l2]
  have e4 : (16 * x + 17 * w).toInt = 16 * x.toInt + 17 * w.toInt := by rw [Jvm.Kit.i64_add (by omega) (by omega), e1, e2]
  have e5 : (16 * x + 17 * w + 2 * w).toInt = 16 * x.toInt + 17 * w.toInt + 2 * w.toInt := by rw [Jvm.Kit.i64_add (by omega) (by omega), e4, e3]
  have e6 : (16 * x + 17 * w + 2 * w - 1).toInt = 16 * x.toInt + 17 * w.toInt + 2 * w.toInt - 1 := by rw [Jvm.Kit.i64_sub (by rw [cw_l1]; omega) (by rw [cw_l1]; omega), e5, cw_l1]
  have d1 : ((16 * x + 17 * w) / (2 * w)).toInt = (16 * x.toInt + 17 * w.toInt) / (2 * w.toInt) := by
    rw [lg_ldiv_nonneg (by omega) (by omega), e4, e3]
  have d2 : ((16 * x + 17 * w + 2 * w - 1) / (2 * w)).toInt = (16 * x.toInt + 17 * w.toInt + 2 * w.toInt - 1) / (2 * w.toInt) := by
    rw [lg_ldiv_nonneg (by omega) (by omega), e6, e3]
  have b1 : 0 ≤ (16 * x.toInt + 17 * w.toInt) / (2 * w.toInt) := Int.ediv_nonneg (by omega) (by omega)
  have b2 : (16 * x.toInt + 17 * w.toInt) / (2 * w.toInt) < 17 := Int.ediv_lt_of_lt_mul (by omega) (by omega)
  have b3 : 1 ≤ (16 * x.toInt + 17 * w.toInt + 2 * w.toInt - 1) / (2 * w.toInt) := Int.le_ediv_of_mul_le (by omega) (by omega)
  have b4 : (16 * x.toInt + 17 * w.toInt + 2 * w.toInt - 1) / (2 * w.toInt) < 18 := Int.ediv_lt_of_lt_mul (by omega) (by omega)
  refine ⟨e3, ?_, ?_⟩
  · rw [cw_i32_1 d2 (by omega) (by omega)]
    omega
  · rw [cw_i32_1 d1 (by omega) (by omega)]
    omega
theorem cw_meet {post : St1 → Prop} {f0 f1 f2 f3 : Int32} {a1 a2 a3 a4 a5 : Nat → Int32} {a6 a7 a8 a9 a10 a11 a12 a13 a14 a15 a16 a17 : Nat → Int64} {t j : Nat} {x w : Int64} (ht : t < 10) (hj : j < 16) (hw : w.toInt < 2 ^ 43) (h1 : -w.toInt ≤ x.toInt) (h2 : x.toInt ≤ w.toInt) (hr : cw_row a3 a4 (16 * t + j)) (H : ∀ b3 b4 : Nat → Int32, cw_row b3 b4 (16 * t + j) → cw_oth (16 * t + j) a3 a4 b3 b4 → post (f0, f1, f2, f3, a1, a2, b3, b4, a5, a6, a7, a8, a9, a10, a11, a12, a13, a14, a15, a16, a17)) : wpX_meet post (f0, f1, f2, f3, a1, a2, a3, a4, a5, a6, a7, a8, a9, a10, a11, a12, a13, a14, a15, a16, a17) (nI t) (nI j) x w := by
  unfold wpX_meet
  dsimp only
  refine br_c (fun z => ?_) (fun _ => H a3 a4 hr (fun _ _ => ⟨rfl, rfl⟩))
  have hw0 := cw_0lt.mp z
  obtain ⟨e, c1, c2⟩ := cw_cols hw0 hw h1 h2
  have ne : ¬ (2 * w = 0) := fun z => by
    rw [cw_eq0, e] at z
    omega
  have p := pk_in (x := nI (16 * t + j)) (16 * t + j) 160 (by omega)
  refine nm_e (nm_e ⟨ne, nm_e ⟨ne, nm_e (nm_r (cw_at t j) ⟨p, ?_⟩)⟩⟩)
  rw [nI_clamp (show 16 * t + j < 2 ^ 31 by omega)]
  have s84 : ∀ b3 : Nat → Int32, 0 ≤ (b3 (16 * t + j)).toInt → (b3 (16 * t + j)).toInt ≤ 16 → (∀ i, i ≠ 16 * t + j → b3 i = a3 i) → wX_meet_84 post (((16 * x + 17 * w) / (2 * w)).toInt32 - 1) (nI (16 * t + j)) f0 f1 f2 f3 a1 a2 b3 a4 a5 a6 a7 a8 a9 a10 a11 a12 a13 a14 a15 a16 a17 := by
    intro b3 l1 l2 l3
    unfold wX_meet_84
    rw [nI_clamp (show 16 * t + j < 2 ^ 31 by omega)]
    refine ⟨p, br_c (fun _ => H b3 a4 ⟨l1, l2, hr.2.2.1, hr.2.2.2⟩ (fun i hi => ⟨l3 i hi, rfl⟩)) (fun _ => ⟨p, nm_e (H b3 _ ?_ (fun i hi => ⟨l3 i hi, pk_un hi⟩))⟩)⟩
    unfold cw_row
    rw [pk_us]
    exact ⟨l1, l2, c2.1, c2.2⟩
  refine br_c (fun _ => s84 a3 hr.1 hr.2.1 (fun _ _ => rfl)) (fun _ => ⟨p, nm_e (s84 _ ?_ ?_ (fun i hi => pk_un hi))⟩)
  · rw [pk_us]
    exact c1.1
  · rw [pk_us]
    exact c1.2
theorem cw_oth_trans {i : Nat} {a3 a4 b3 b4 c3 c4 : Nat → Int32} (h : cw_oth i a3 a4 b3 b4) (h' : cw_oth i b3 b4 c3 c4) : cw_oth i a3 a4 c3 c4 := fun j hj => ⟨(h' j hj).1.trans (h j hj).1, (h' j hj).2.trans (h j hj).2⟩
/-- what the filling asks of a corner -/
def cw_in (v : cg_V) : Prop := cg_b 288000 v ∧ -v.2.2.2 ≤ v.1 ∧ v.1 ≤ v.2.2.2
theorem cw_lin2 {a b c d : Int64} (ha : -288000 ≤ a.toInt ∧ a.toInt ≤ 288000) (hb : 0 ≤ b.toInt ∧ b.toInt ≤ 8928000) (hc : -288000 ≤ c.toInt ∧ c.toInt ≤ 288000) (hd : 0 ≤ d.toInt ∧ d.toInt ≤ 8928000) : (a * b + c * d).toInt = a.toInt * b.toInt + c.toInt * d.toInt ∧ (a * b + c * d).toInt < 2 ^ 43 := by
  have k1 := cg_mulb ha (show -8928000 ≤ b.toInt ∧ b.toInt ≤ 8928000 by omega)
  have k2 := cg_mulb hc (show -8928000 ≤ d.toInt ∧ d.toInt ≤ 8928000 by omega)
  have e1 : (a * b).toInt = a.toInt * b.toInt := Jvm.Kit.i64_mul (by omega) (by omega)
  have e2 : (c * d).toInt = c.toInt * d.toInt := Jvm.Kit.i64_mul (by omega) (by omega)
  have e3 : (a * b + c * d).toInt = a.toInt * b.toInt + c.toInt * d.toInt := by
    rw [Jvm.Kit.i64_add (by omega) (by omega), e1, e2]
  exact ⟨e3, by omega⟩
theorem cw_between {x y v w a b : Int} (ha : 0 ≤ a) (hb : 0 ≤ b) (h1 : -v ≤ x ∧ x ≤ v) (h2 : -w ≤ y ∧ y ≤ w) : -(v * a + w * b) ≤ x * a + y * b ∧ x * a + y * b ≤ v * a + w * b := by
  have k1 := Int.mul_le_mul_of_nonneg_right h1.2 ha
  have k2 := Int.mul_le_mul_of_nonneg_right h2.2 hb
  have k3 := Int.mul_le_mul_of_nonneg_right h1.1 ha
  have k4 := Int.mul_le_mul_of_nonneg_right h2.1 hb
  rw [Int.neg_mul] at k3 k4
  omega
theorem cw_177 {post : St1 → Prop} {J : cw_J} {f0 f1 f2 f3 : Int32} {a1 a2 a3 a4 a5 : Nat → Int32} {a6 a7 a8 a9 a10 a11 a12 a13 a14 a15 a16 a17 : Nat → Int64} {t j k n : Nat} {z0 : Int32} {x3 x11 z : Int64} (ht : t < 10) (hj : j < 16) (hk : k < 16) (hn : n < 16) (hz : z0 = nI n) (vk : cw_in (cw_vt a10 a11 a12 a13 k)) (vn : cw_in (cw_vt a10 a11 a12 a13 n)) (h1 : 0 ≤ x11.toInt ∧ x11.toInt ≤ 8928000) (h2 : 0 ≤ z.toInt ∧ z.toInt ≤ 8928000) (hr : cw_row a3 a4 (16 * t + j)) (H : ∀ b3 b4 : Nat → Int32, cw_row b3 b4 (16 * t + j) → cw_oth (16 * t + j) a3 a4 b3 b4 → J (nI (k + 1)) f0 f1 f2 f3 a1 a2 b3 b4 a5 a6 a7 a8 a9 a10 a11 a12 a13 a14 a15 a16 a17) : wX_fillRow_177 post J (nI t) (nI j) x3 (nI k) z0 x11 z f0 f1 f2 f3 a1 a2 a3 a4 a5 a6 a7 a8 a9 a10 a11 a12 a13 a14 a15 a16 a17 := by
  rw [hz]
  unfold wX_fillRow_177
  rw [nI_clamp (show k < 2 ^ 31 by omega), nI_clamp (show n < 2 ^ 31 by omega)]
  obtain ⟨⟨k1, _, _, k4⟩, k5⟩ := vk
  obtain ⟨⟨n1, _, _, n4⟩, n5⟩ := vn
  simp only [cw_vt] at k1 k4 k5 n1 n4 n5
  have e1 := cw_lin2 k1 h2 n1 h1
  have e2 := cw_lin2 k4 h2 n4 h1
  have q := cw_between h2.1 h1.1 k5 n5
  have pk := pk_in (x := nI k) k 16 hk
  have pn := pk_in (x := nI n) n 16 hn
  refine ⟨pk, pn, pk, pn, cw_meet ht hj e2.2 ?_ ?_ hr (fun b3 b4 r o => nm_r (nI_1 k) (H b3 b4 r o))⟩
  · rw [e1.1, e2.1]
    exact q.1
  · rw [e1.1, e2.1]
    exact q.2
theorem cw_abs8 {x : Int64} (h : -8928000 ≤ x.toInt ∧ x.toInt ≤ 8928000) (n : ¬ 0 ≤ x) : 0 ≤ (-x).toInt ∧ (-x).toInt ≤ 8928000 := by
  rw [cw_0le] at n
  rw [Jvm.Kit.i64_neg (by omega)]
  omega
theorem cw_145 {post : St1 → Prop} {J : cw_J} {f0 f1 f2 f3 : Int32} {a1 a2 a3 a4 a5 : Nat → Int32} {a6 a7 a8 a9 a10 a11 a12 a13 a14 a15 a16 a17 : Nat → Int64} {t j k n : Nat} {z0 : Int32} {x3 x7 x9 : Int64} (ht : t < 10) (hj : j < 16) (hk : k < 16) (hn : n < 16) (hz : z0 = nI n) (vk : cw_in (cw_vt a10 a11 a12 a13 k)) (vn : cw_in (cw_vt a10 a11 a12 a13 n)) (h7 : -8928000 ≤ x7.toInt ∧ x7.toInt ≤ 8928000) (h9 : -8928000 ≤ x9.toInt ∧ x9.toInt ≤ 8928000) (hr : cw_row a3 a4 (16 * t + j)) (H : ∀ b3 b4 : Nat → Int32, cw_row b3 b4 (16 * t + j) → cw_oth (16 * t + j) a3 a4 b3 b4 → J (nI (k + 1)) f0 f1 f2 f3 a1 a2 b3 b4 a5 a6 a7 a8 a9 a10 a11 a12 a13 a14 a15 a16 a17) : wX_fillRow_145 post J (nI t) (nI j) x3 (nI k) z0 x7 x9 f0 f1 f2 f3 a1 a2 a3 a4 a5 a6 a7 a8 a9 a10 a11 a12 a13 a14 a15 a16 a17 := by
  have s160 : ∀ z : Int64, 0 ≤ z.toInt ∧ z.toInt ≤ 8928000 → wX_fillRow_160 post J (nI t) (nI j) x3 (nI k) z0 x9 z f0 f1 f2 f3 a1 a2 a3 a4 a5 a6 a7 a8 a9 a10 a11 a12 a13 a14 a15 a16 a17 := by
    intro z q
    exact br_c (fun g => cw_177 ht hj hk hn hz vk vn q ⟨cw_0le.mp g, h9.2⟩ hr H) (fun g => cw_177 ht hj hk hn hz vk vn q (cw_abs8 h9 g) hr H)
  exact br_c (fun g => s160 x7 ⟨cw_0le.mp g, h7.2⟩) (fun g => s160 _ (cw_abs8 h7 g))
theorem cw_here {p w l : Int64} {j : Nat} (hj : j < 16) (hl : l.toInt = 2 * j - 15) (hp : -288000 ≤ p.toInt ∧ p.toInt ≤ 288000) (hw : -288000 ≤ w.toInt ∧ w.toInt ≤ 288000) : -8928000 ≤ (16 * p - l * w).toInt ∧ (16 * p - l * w).toInt ≤ 8928000 := by
  have e1 : (16 * p).toInt = 16 * p.toInt := by rw [Jvm.Kit.i64_mul (by rw [cw_l16]; omega) (by rw [cw_l16]; omega), cw_l16]
  have k := cg_mulb (show -15 ≤ l.toInt ∧ l.toInt ≤ 15 by omega) hw
  have e2 : (l * w).toInt = l.toInt * w.toInt := Jvm.Kit.i64_mul (by omega) (by omega)
  rw [Jvm.Kit.i64_sub (by omega) (by omega), e1, e2]
  omega
theorem cw_39 {post : St1 → Prop} {J : cw_J} {f0 f1 f2 f3 : Int32} {a1 a2 a3 a4 a5 : Nat → Int32} {a6 a7 a8 a9 a10 a11 a12 a13 a14 a15 a16 a17 : Nat → Int64} {t j k n : Nat} {z0 : Int32} {x3 : Int64} (ht : t < 10) (hj : j < 16) (hk : k < 16) (hn : n < 16) (hz : z0 = nI n) (hl : x3.toInt = 2 * j - 15) (vk : cw_in (cw_vt a10 a11 a12 a13 k)) (vn : cw_in (cw_vt a10 a11 a12 a13 n)) (hr : cw_row a3 a4 (16 * t + j)) (H : ∀ b3 b4 : Nat → Int32, cw_row b3 b4 (16 * t + j) → cw_oth (16 * t + j) a3 a4 b3 b4 → J (nI (k + 1)) f0 f1 f2 f3 a1 a2 b3 b4 a5 a6 a7 a8 a9 a10 a11 a12 a13 a14 a15 a16 a17) : wX_fillRow_39 post J (nI t) (nI j) x3 (nI k) z0 f0 f1 f2 f3 a1 a2 a3 a4 a5 a6 a7 a8 a9 a10 a11 a12 a13 a14 a15 a16 a17 := by
  subst hz
  unfold wX_fillRow_39
  rw [nI_clamp (show k < 2 ^ 31 by omega), nI_clamp (show n < 2 ^ 31 by omega)]
  have pk := pk_in (x := nI k) k 16 hk
  have pn := pk_in (x := nI n) n 16 hn
  have h7 := cw_here hj hl vk.1.2.1 vk.1.2.2.2
  have h9 := cw_here hj hl vn.1.2.1 vn.1.2.2.2
  have skip : J (nI (k + 1)) f0 f1 f2 f3 a1 a2 a3 a4 a5 a6 a7 a8 a9 a10 a11 a12 a13 a14 a15 a16 a17 := H a3 a4 hr (fun _ _ => ⟨rfl, rfl⟩)
  have s131 : ∀ x7 x9 : Int64, -8928000 ≤ x7.toInt ∧ x7.toInt ≤ 8928000 → -8928000 ≤ x9.toInt ∧ x9.toInt ≤ 8928000 → wX_fillRow_131 post J (nI t) (nI j) x3 (nI k) (nI n) x7 x9 f0 f1 f2 f3 a1 a2 a3 a4 a5 a6 a7 a8 a9 a10 a11 a12 a13 a14 a15 a16 a17 := by
    intro x7 x9 q7 q9
    exact br_c (fun _ => nm_r (nI_1 k) skip) (fun _ => br_c (fun _ => nm_r (nI_1 k) skip) (fun _ => cw_145 ht hj hk hn rfl vk vn q7 q9 hr H))
  refine ⟨pk, pk, nm_e ⟨pn, pn, nm_e (br_c (fun _ => ⟨pk, pk, ?_⟩) (fun _ => br_c (fun _ => s131 _ _ h7 h9) (fun _ => br_c (fun _ => cw_145 ht hj hk hn rfl vk vn h7 h9 hr H) (fun _ => s131 _ _ h7 h9))))⟩⟩
  obtain ⟨⟨k1, _, _, k4⟩, k5⟩ := vk
  simp only [cw_vt] at k1 k4 k5
  exact cw_meet ht hj (by omega) k5.1 k5.2 hr (fun b3 b4 r o => nm_r (nI_1 k) (H b3 b4 r o))
theorem cw_fillRow {post : St1 → Prop} {f0 f2 f3 : Int32} {a1 a2 a3 a4 a5 : Nat → Int32} {a6 a7 a8 a9 a10 a11 a12 a13 a14 a15 a16 a17 : Nat → Int64} {t j m : Nat} (ht : t < 10) (hj : j < 16) (hm : m ≤ 16) (hv : ∀ k, k < m → cw_in (cw_vt a10 a11 a12 a13 k)) (hr : cw_row a3 a4 (16 * t + j)) (H : ∀ b3 b4 : Nat → Int32, cw_row b3 b4 (16 * t + j) → cw_oth (16 * t + j) a3 a4 b3 b4 → post (f0, nI m, f2, f3, a1, a2, b3, b4, a5, a6, a7, a8, a9, a10, a11, a12, a13, a14, a15, a16, a17)) : wpX_fillRow post (f0, nI m, f2, f3, a1, a2, a3, a4, a5, a6, a7, a8, a9, a10, a11, a12, a13, a14, a15, a16, a17) (nI t) (nI j) := by
  unfold wpX_fillRow
  dsimp only
  have hl : ((2 * nI j - 15 : Int32).toInt64).toInt = 2 * j - 15 := by
    have e1 : (2 * nI j : Int32) = nI (2 * j) := by rw [show (2 : Int32) = nI 2 from rfl, pk_mul]
    rw [Jvm.Kit.i64_of_i32, e1, show (15 : Int32) = nI 15 from rfl, pk_sub_toInt (by omega) (by omega)]
    omega
  intro x3 e3
  rw [← e3] at hl
  refine pk_loop (σ := (Nat → Int32) × (Nat → Int32)) (fun n i s => wX_fillRow_11 post (nI t) (nI j) x3 n (nI i) f0 (nI m) f2 f3 a1 a2 s.1 s.2 a5 a6 a7 a8 a9 a10 a11 a12 a13 a14 a15 a16 a17) (fun i s => cw_row s.1 s.2 (16 * t + j) ∧ cw_oth (16 * t + j) a3 a4 s.1 s.2) m 0 (a3, a4) (by omega) ⟨hr, fun _ _ => ⟨rfl, rfl⟩⟩ ?_ ?_
  · intro n s h
    exact pk_le m m (fun _ => H _ _ h.1 h.2) (fun z => absurd z (by omega))
  · intro n i s hi h hw
    refine pk_le m i (fun z => absurd z (by omega)) (fun _ => pk_le m (i + 1) (fun z => ?_) (fun z => ?_) rfl (nI_1 i))
    · exact cw_39 (n := 0) ht hj (by omega) (by decide) rfl hl (hv i hi) (hv 0 (by omega)) h.1 (fun b3 b4 r o => hw (b3, b4) ⟨r, cw_oth_trans h.2 o⟩)
    · exact cw_39 ht hj (by omega) (by omega) (nI_1 i) hl (hv i hi) (hv (i + 1) z) h.1 (fun b3 b4 r o => hw (b3, b4) ⟨r, cw_oth_trans h.2 o⟩)
end
section
/-- corner k of triangle t -/
def cw_C (a2 : Nat → Int32) (t k : Nat) : cg_V := ((a2 (12 * t + 4 * k)).toInt, (a2 (12 * t + 4 * k + 1)).toInt, (a2 (12 * t + 4 * k + 2)).toInt, (a2 (12 * t + 4 * k + 3)).toInt)
theorem cg_min_b {a b c d : Int} (ha : -20 ≤ a ∧ a ≤ 20) (hb : -20 ≤ b ∧ b ≤ 20) (hc : -20 ≤ c ∧ c ≤ 20) (hd : -20 ≤ d ∧ d ≤ 20) : -800 ≤ a * b - c * d ∧ a * b - c * d ≤ 800 := by
  have k1 := cg_mulb ha hb
  have k2 := cg_mulb hc hd
  omega
theorem cg_three_b {a b c m n o : Int} (ha : -20 ≤ a ∧ a ≤ 20) (hb : -20 ≤ b ∧ b ≤ 20) (hc : -20 ≤ c ∧ c ≤ 20) (hm : -800 ≤ m ∧ m ≤ 800) (hn : -800 ≤ n ∧ n ≤ 800) (ho : -800 ≤ o ∧ o ≤ 800) : -48000 ≤ a * m + b * n + c * o ∧ a * m + b * n + c * o ≤ 48000 := by
  have k1 := cg_mulb ha hm
  have k2 := cg_mulb hb hn
  have k3 := cg_mulb hc ho
  omega
theorem cg_T_of {C : Nat → cg_V} (hb : ∀ k, k < 3 → cg_b 20 (C k)) (hD : cg_det (C 0) (C 1) (C 2) ≠ 0) : ∃ n, cg_T C n := by
  have h0 := hb 0 (by omega)
  have h1 := hb 1 (by omega)
  have h2 := hb 2 (by omega)
  have d1 : cg_det (C 1) (C 2) (C 0) = cg_det (C 0) (C 1) (C 2) := by
    simp only [cg_det]
    grind
  have d2 : cg_det (C 2) (C 0) (C 1) = cg_det (C 0) (C 1) (C 2) := by
    simp only [cg_det]
    grind
  have hd : ∀ f, f < 3 → cg_det (C f) (C ((f + 1) % 3)) (C ((f + 2) % 3)) ≠ 0 := by
    intro f hf
    match f, hf with
    | 0, _ => exact hD
    | 1, _ => exact fun z => hD (d1.symm.trans z)
    | 2, _ => exact fun z => hD (d2.symm.trans z)
  obtain ⟨x0, y0, z0, w0⟩ := h0
  obtain ⟨x1, y1, z1, w1⟩ := h1
  obtain ⟨x2, y2, z2, w2⟩ := h2
  have bD : -48000 ≤ -cg_det (C 0) (C 1) (C 2) ∧ -cg_det (C 0) (C 1) (C 2) ≤ 48000 := by
    have k := cg_three_b x0 y0 w0 (cg_min_b y1 w2 w1 y2) (cg_min_b w1 x2 x1 w2) (cg_min_b x1 y2 y1 x2)
    have e : cg_det (C 0) (C 1) (C 2) = (C 0).1 * ((C 1).2.1 * (C 2).2.2.2 - (C 1).2.2.2 * (C 2).2.1) + (C 0).2.1 * ((C 1).2.2.2 * (C 2).1 - (C 1).1 * (C 2).2.2.2) + (C 0).2.2.2 * ((C 1).1 * (C 2).2.1 - (C 1).2.1 * (C 2).1) := by
      simp only [cg_det]
      grind
    rw [e]
    omega
  have ba := cg_three_b z0 z1 z2 (cg_min_b y1 w2 y2 w1) (cg_min_b y2 w0 y0 w2) (cg_min_b y0 w1 y1 w0)
  have bb := cg_three_b z0 z1 z2 (cg_min_b x2 w1 x1 w2) (cg_min_b x0 w2 x2 w0) (cg_min_b x1 w0 x0 w1)
  have bc := cg_three_b z0 z1 z2 (cg_min_b x1 y2 x2 y1) (cg_min_b x2 y0 x0 y2) (cg_min_b x0 y1 x1 y0)
  refine ⟨(_, _, _, _), hb, ?_, ⟨ba, bb, bD, bc⟩, fun z => hD (by have z' : -cg_det (C 0) (C 1) (C 2) = 0 := z; omega), hd⟩
  intro f hf
  match f, hf with
  | 0, _ => simp only [cg_dot, cg_det]; clear hd hb d1 d2 hD bD ba bb bc x0 y0 z0 w0 x1 y1 z1 w1 x2 y2 z2 w2; grind
  | 1, _ => simp only [cg_dot, cg_det]; clear hd hb d1 d2 hD bD ba bb bc x0 y0 z0 w0 x1 y1 z1 w1 x2 y2 z2 w2; grind
  | 2, _ => simp only [cg_dot, cg_det]; clear hd hb d1 d2 hD bD ba bb bc x0 y0 z0 w0 x1 y1 z1 w1 x2 y2 z2 w2; grind
theorem cw_ix (t a : Nat) : 12 * nI t + 4 * nI a = nI (12 * t + 4 * a) := by
  rw [show (12 : Int32) = nI 12 from rfl, show (4 : Int32) = nI 4 from rfl, pk_mul, pk_mul, nI_add]
theorem cw_ix1 (t a : Nat) : 12 * nI t + 4 * nI a + 1 = nI (12 * t + 4 * a + 1) := by rw [cw_ix, nI_1]
theorem cw_ix2 (t a : Nat) : 12 * nI t + 4 * nI a + 2 = nI (12 * t + 4 * a + 2) := by rw [cw_ix, show (2 : Int32) = nI 2 from rfl, nI_add]
theorem cw_ix3 (t a : Nat) : 12 * nI t + 4 * nI a + 3 = nI (12 * t + 4 * a + 3) := by rw [cw_ix, show (3 : Int32) = nI 3 from rfl, nI_add]
theorem cw_minor {post : Int64 → Prop} {f0 f1 f2 f3 : Int32} {a1 a2 a3 a4 a5 : Nat → Int32} {a6 a7 a8 a9 a10 a11 a12 a13 a14 a15 a16 a17 : Nat → Int64} {t a b f g : Nat} {y1 y2 y3 y4 : Int32} (ht : t < 10) (ha : a < 3) (hb : b < 3) (hf : f < 4) (hg : g < 4) (e1 : y1 = nI a) (e2 : y2 = nI b) (e3 : y3 = nI f) (e4 : y4 = nI g) (H : post ((a2 (12 * t + 4 * a + f)).toInt64 * (a2 (12 * t + 4 * b + g)).toInt64 - (a2 (12 * t + 4 * b + f)).toInt64 * (a2 (12 * t + 4 * a + g)).toInt64)) : wpX_minor post (f0, f1, f2, f3, a1, a2, a3, a4, a5, a6, a7, a8, a9, a10, a11, a12, a13, a14, a15, a16, a17) (nI t) y1 y2 y3 y4 := by
  rw [e1, e2, e3, e4]
  unfold wpX_minor
  dsimp only
  intro x6 e6
  rw [e6, cw_ix, cw_ix, nI_add, nI_add, nI_add, nI_add, nI_clamp (show 12 * t + 4 * a + f < 2 ^ 31 by omega), nI_clamp (show 12 * t + 4 * b + g < 2 ^ 31 by omega), nI_clamp (show 12 * t + 4 * b + f < 2 ^ 31 by omega), nI_clamp (show 12 * t + 4 * a + g < 2 ^ 31 by omega)]
  exact ⟨pk_in (12 * t + 4 * a + f) 120 (by omega), pk_in (12 * t + 4 * b + g) 120 (by omega), nm_e ⟨pk_in (12 * t + 4 * b + f) 120 (by omega), pk_in (12 * t + 4 * a + g) 120 (by omega), nm_e H⟩⟩
theorem cw_50 {post : St1 → Prop} {J : Int64 → Int64 → Int64 → Int64 → Int32 → Prop} {f0 f1 f2 f3 : Int32} {a1 a2 a3 a4 a5 : Nat → Int32} {a6 a7 a8 a9 a10 a11 a12 a13 a14 a15 a16 a17 : Nat → Int64} {t k a b : Nat} {x2 x4 x6 x8 : Int64} {x10 x11 z0 : Int32} (ht : t < 10) (hk : k < 3) (ha : a < 3) (hb : b < 3) (e10 : x10 = nI k) (e11 : x11 = nI a) (ez : z0 = nI b) (H : ∀ y2 y4 y6 : Int64, J y2 y4 y6 (x8 + (a2 (12 * t + 4 * k + 3)).toInt64 * ((a2 (12 * t + 4 * a + 0)).toInt64 * (a2 (12 * t + 4 * b + 1)).toInt64 - (a2 (12 * t + 4 * b + 0)).toInt64 * (a2 (12 * t + 4 * a + 1)).toInt64)) (nI (k + 1))) : wX_findDepth_50 post J (nI t) x2 x4 x6 x8 x10 x11 z0 f0 f1 f2 f3 a1 a2 a3 a4 a5 a6 a7 a8 a9 a10 a11 a12 a13 a14 a15 a16 a17 := by
  rw [e10]
  unfold wX_findDepth_50
  rw [cw_ix2, cw_ix3, nI_clamp (show 12 * t + 4 * k + 3 < 2 ^ 31 by omega)]
  refine ⟨pk_in (12 * t + 4 * k + 2) 120 (by omega), nm_e (cw_minor (f := 1) (g := 3) ht ha hb (by omega) (by omega) e11 ez rfl rfl (cw_minor (f := 0) (g := 3) ht ha hb (by omega) (by omega) e11 ez rfl rfl (nm_e (cw_minor (f := 0) (g := 1) ht ha hb (by omega) (by omega) e11 ez rfl rfl (nm_e (nm_e (nm_e ⟨pk_in (12 * t + 4 * k + 3) 120 (by omega), nm_e (nm_r (nI_1 k) (H _ _ _))⟩)))))))⟩
theorem cw_184 {post : St1 → Prop} {f0 f1 f2 f3 : Int32} {a1 a2 a3 a4 a5 : Nat → Int32} {a6 a7 a8 a9 a10 a11 a12 a13 a14 a15 a16 a17 : Nat → Int64} {t : Nat} {x2 x4 x6 x8 z0 : Int64} (ht : t < 10) (H : ∀ b6 b7 b8 b9 : Nat → Int64, b9 t = z0 * x8 * 16 → post (f0, f1, f2, f3, a1, a2, a3, a4, a5, b6, b7, b8, b9, a10, a11, a12, a13, a14, a15, a16, a17)) : wX_findDepth_184 post (nI t) x2 x4 x6 x8 z0 f0 f1 f2 f3 a1 a2 a3 a4 a5 a6 a7 a8 a9 a10 a11 a12 a13 a14 a15 a16 a17 := by
  unfold wX_findDepth_184
  rw [nI_clamp (show t < 2 ^ 31 by omega)]
  have p := pk_in (x := nI t) t 10 ht
  exact ⟨p, nm_e ⟨p, nm_e ⟨p, nm_e ⟨p, nm_e (H _ _ _ _ pk_uLs)⟩⟩⟩⟩
theorem cw_vol {a2 : Nat → Int32} {t : Nat} (h : cg_det (cw_C a2 t 0) (cw_C a2 t 1) (cw_C a2 t 2) = 0) :
    0 + (a2 (12 * t + 4 * 0 + 3)).toInt64 * ((a2 (12 * t + 4 * 1 + 0)).toInt64 * (a2 (12 * t + 4 * 2 + 1)).toInt64 - (a2 (12 * t + 4 * 2 + 0)).toInt64 * (a2 (12 * t + 4 * 1 + 1)).toInt64)
      + (a2 (12 * t + 4 * 1 + 3)).toInt64 * ((a2 (12 * t + 4 * 2 + 0)).toInt64 * (a2 (12 * t + 4 * 0 + 1)).toInt64 - (a2 (12 * t + 4 * 0 + 0)).toInt64 * (a2 (12 * t + 4 * 2 + 1)).toInt64)
      + (a2 (12 * t + 4 * 2 + 3)).toInt64 * ((a2 (12 * t + 4 * 0 + 0)).toInt64 * (a2 (12 * t + 4 * 1 + 1)).toInt64 - (a2 (12 * t + 4 * 1 + 0)).toInt64 * (a2 (12 * t + 4 * 0 + 1)).toInt64) = (0 : Int64) := by
  simp only [cg_det, cw_C] at h
  simp only [Nat.add_zero, ← Int64.ofInt_int32ToInt, ← Int64.ofInt_mul, ← Int64.ofInt_sub, ← Int64.ofInt_add, Int64.zero_add]
  have e : ∀ z : Int, z = 0 → Int64.ofInt z = 0 := by
    intro z hz
    rw [hz]
    rfl
  apply e
  rw [← h]
  clear h e
  generalize (a2 (12 * t + 4 * 0)).toInt = p0
  generalize (a2 (12 * t + 4 * 0 + 1)).toInt = p1
  generalize (a2 (12 * t + 4 * 0 + 3)).toInt = p3
  generalize (a2 (12 * t + 4 * 1)).toInt = q0
  generalize (a2 (12 * t + 4 * 1 + 1)).toInt = q1
  generalize (a2 (12 * t + 4 * 1 + 3)).toInt = q3
  generalize (a2 (12 * t + 4 * 2)).toInt = r0
  generalize (a2 (12 * t + 4 * 2 + 1)).toInt = r1
  generalize (a2 (12 * t + 4 * 2 + 3)).toInt = r3
  grind
theorem cw_findDepth {post : St1 → Prop} {f0 f1 f2 f3 : Int32} {a1 a2 a3 a4 a5 : Nat → Int32} {a6 a7 a8 a9 a10 a11 a12 a13 a14 a15 a16 a17 : Nat → Int64} {t : Nat} (ht : t < 10) (H : ∀ b6 b7 b8 b9 : Nat → Int64, (cg_det (cw_C a2 t 0) (cw_C a2 t 1) (cw_C a2 t 2) = 0 → b9 t = 0) → post (f0, f1, f2, f3, a1, a2, a3, a4, a5, b6, b7, b8, b9, a10, a11, a12, a13, a14, a15, a16, a17)) : wpX_findDepth post (f0, f1, f2, f3, a1, a2, a3, a4, a5, a6, a7, a8, a9, a10, a11, a12, a13, a14, a15, a16, a17) (nI t) := by
  unfold wpX_findDepth
  dsimp only
  refine ⟨4, br_f (by decide) (br_f (by decide) (br_f (by decide) (cw_50 (k := 0) (a := 1) (b := 2) ht (by omega) (by omega) (by omega) rfl rfl rfl (fun y2 y4 y6 => ?_))))⟩
  refine br_f (by decide) (br_f (by decide) (br_t (by decide) (cw_50 (k := 1) (a := 2) (b := 0) ht (by omega) (by omega) (by omega) rfl rfl rfl (fun y2 y4 y6 => ?_))))
  refine br_f (by decide) (br_t (by decide) (br_f (by decide) (cw_50 (k := 2) (a := 0) (b := 1) ht (by omega) (by omega) (by omega) rfl rfl rfl (fun y2 y4 y6 => ?_))))
  refine br_t (by decide) (br_c (fun _ => cw_184 ht (fun b6 b7 b8 b9 e => H b6 b7 b8 b9 (fun z => ?_))) (fun _ => cw_184 ht (fun b6 b7 b8 b9 e => H b6 b7 b8 b9 (fun z => ?_))))
  · rw [e, cw_vol z]
    decide
  · rw [e, cw_vol z]
    decide
theorem cw_clear {post : St1 → Prop} {f0 f1 f2 f3 : Int32} {a1 a2 a3 a4 a5 : Nat → Int32} {a6 a7 a8 a9 a10 a11 a12 a13 a14 a15 a16 a17 : Nat → Int64} {t : Nat} (ht : t < 10) (H : ∀ b3 b4 : Nat → Int32, (∀ j, j < 16 → b3 (16 * t + j) = 16 ∧ b4 (16 * t + j) = -1) → (∀ i, i < 16 * t ∨ 16 * t + 16 ≤ i → b3 i = a3 i ∧ b4 i = a4 i) → post (f0, f1, f2, f3, a1, a2, b3, b4, a5, a6, a7, a8, a9, a10, a11, a12, a13, a14, a15, a16, a17)) : wpX_clear post (f0, f1, f2, f3, a1, a2, a3, a4, a5, a6, a7, a8, a9, a10, a11, a12, a13, a14, a15, a16, a17) (nI t) := by
  unfold wpX_clear
  dsimp only
  refine pk_loop (σ := (Nat → Int32) × (Nat → Int32)) (fun n i s => wX_clear_2 post (nI t) f0 f1 f2 f3 n (nI i) a1 a2 s.1 s.2 a5 a6 a7 a8 a9 a10 a11 a12 a13 a14 a15 a16 a17) (fun i s => (∀ j, j < i → s.1 (16 * t + j) = 16 ∧ s.2 (16 * t + j) = -1) ∧ (∀ i, i < 16 * t ∨ 16 * t + 16 ≤ i → s.1 i = a3 i ∧ s.2 i = a4 i)) 16 0 (a3, a4) (by omega) ⟨fun j hj => absurd hj (Nat.not_lt_zero j), fun _ _ => ⟨rfl, rfl⟩⟩ ?_ ?_
  · intro n s h
    exact pk_le 16 16 (fun _ => H _ _ h.1 h.2) (fun z => absurd z (by omega))
  · intro n i s hi h hw
    refine pk_le 16 i (fun z => absurd z (by omega)) (fun _ => ?_)
    rw [cw_at, nI_clamp (show 16 * t + i < 2 ^ 31 by omega)]
    have p := pk_in (x := nI (16 * t + i)) (16 * t + i) 160 (by omega)
    refine ⟨p, nm_e ⟨p, nm_e (nm_r (nI_1 i) (hw (upd s.1 (16 * t + i) 16, upd s.2 (16 * t + i) (-1)) ⟨fun j hj => ?_, fun k hk => ?_⟩))⟩⟩
    · by_cases e : j = i
      · rw [e]
        exact ⟨pk_us, pk_us⟩
      · have ne : 16 * t + j ≠ 16 * t + i := by omega
        show upd s.1 (16 * t + i) 16 (16 * t + j) = 16 ∧ upd s.2 (16 * t + i) (-1) (16 * t + j) = -1
        rw [pk_un ne, pk_un ne]
        exact h.1 j (by omega)
    · have ne : k ≠ 16 * t + i := by omega
      show upd s.1 (16 * t + i) 16 k = a3 k ∧ upd s.2 (16 * t + i) (-1) k = a4 k
      rw [pk_un ne, pk_un ne]
      exact h.2 k hk
theorem cw_loadCorners {post : St1 → Prop} {f0 f1 f2 f3 : Int32} {a1 a2 a3 a4 a5 : Nat → Int32} {a6 a7 a8 a9 a10 a11 a12 a13 a14 a15 a16 a17 : Nat → Int64} {t : Nat} (ht : t < 10) (H : ∀ b10 b11 b12 b13 : Nat → Int64, (∀ k, k < 3 → cw_vt b10 b11 b12 b13 k = cw_C a2 t k) → post (f0, nI 3, f2, f3, a1, a2, a3, a4, a5, a6, a7, a8, a9, b10, b11, b12, b13, a14, a15, a16, a17)) : wpX_loadCorners post (f0, f1, f2, f3, a1, a2, a3, a4, a5, a6, a7, a8, a9, a10, a11, a12, a13, a14, a15, a16, a17) (nI t) := by
  unfold wpX_loadCorners
  dsimp only
  refine pk_loop (σ := (Nat → Int64) × (Nat → Int64) × (Nat → Int64) × (Nat → Int64)) (fun n i s => wX_loadCorners_2 post (nI t) f0 f1 f2 f3 n (nI i) a1 a2 a3 a4 a5 a6 a7 a8 a9 s.1 s.2.1 s.2.2.1 s.2.2.2 a14 a15 a16 a17) (fun i s => ∀ k, k < i → cw_vt s.1 s.2.1 s.2.2.1 s.2.2.2 k = cw_C a2 t k) 3 0 (a10, a11, a12, a13) (by omega) (fun j hj => absurd hj (Nat.not_lt_zero j)) ?_ ?_
  · intro n s h
    exact pk_le 3 3 (fun _ => H _ _ _ _ h) (fun z => absurd z (by omega))
  · intro n i s hi h hw
    refine pk_le 3 i (fun z => absurd z (by omega)) (fun _ => ?_)
    rw [cw_ix1, cw_ix2, cw_ix3, cw_ix, nI_clamp (show 12 * t + 4 * i < 2 ^ 31 by omega), nI_clamp (show 12 * t + 4 * i + 1 < 2 ^ 31 by omega), nI_clamp (show 12 * t + 4 * i + 2 < 2 ^ 31 by omega), nI_clamp (show 12 * t + 4 * i + 3 < 2 ^ 31 by omega), nI_clamp (show i < 2 ^ 31 by omega)]
    have p := pk_in (x := nI i) i 16 (by omega)
    refine ⟨pk_in (12 * t + 4 * i) 120 (by omega), p, nm_e ⟨pk_in (12 * t + 4 * i + 1) 120 (by omega), p, nm_e ⟨pk_in (12 * t + 4 * i + 2) 120 (by omega), p, nm_e ⟨pk_in (12 * t + 4 * i + 3) 120 (by omega), p, nm_e (nm_r (nI_1 i) (hw (vp_updL s.1 i (a2 (12 * t + 4 * i)).toInt64, vp_updL s.2.1 i (a2 (12 * t + 4 * i + 1)).toInt64, vp_updL s.2.2.1 i (a2 (12 * t + 4 * i + 2)).toInt64, vp_updL s.2.2.2 i (a2 (12 * t + 4 * i + 3)).toInt64) (fun k hk => ?_)))⟩⟩⟩⟩
    by_cases e : k = i
    · rw [e]
      simp only [cw_vt, cw_C, pk_uLs, Jvm.Kit.i64_of_i32]
    · have q := h k (by omega)
      simp only [cw_vt, pk_uLn e] at q ⊢
      exact q
end
section
/-- who owns which cell: a triangle in front of t, or t itself in a row ahead of j; its row covers the cell -/
def cw_own (t j : Nat) (a3 a4 a5 : Nat → Int32) : Prop := ∀ i k, i < 16 → k < 16 → a5 (16 * k + i) = -2 ∨ ∃ q, (q < t ∨ (q = t ∧ k < j)) ∧ a5 (16 * k + i) = nI q ∧ (a3 (16 * q + k)).toInt ≤ i ∧ (i : Int) ≤ (a4 (16 * q + k)).toInt
def cw_rows (t : Nat) (a3 a4 : Nat → Int32) : Prop := ∀ q k, q < t → k < 16 → cw_row a3 a4 (16 * q + k)
theorem cw_top {post : Int64 → Prop} {f0 f1 f2 f3 : Int32} {a1 a2 a3 a4 a5 : Nat → Int32} {a6 a7 a8 a9 a10 a11 a12 a13 a14 a15 a16 a17 : Nat → Int64} {t : Nat} {p1 p2 : Int32} (ht : t < 10) (H : ∀ r, post r) : wpX_top post (f0, f1, f2, f3, a1, a2, a3, a4, a5, a6, a7, a8, a9, a10, a11, a12, a13, a14, a15, a16, a17) (nI t) p1 p2 := by
  have p := pk_in (x := nI t) t 10 ht
  exact ⟨p, p, p, H _⟩
theorem cw_own_put {t j i : Nat} {a3 a4 a5 : Nat → Int32} (hj : j < 16) (hi : i < 16) (h : cw_own t (j + 1) a3 a4 a5) (h1 : (a3 (16 * t + j)).toInt ≤ i) (h2 : (i : Int) ≤ (a4 (16 * t + j)).toInt) : cw_own t (j + 1) a3 a4 (upd a5 (16 * j + i) (nI t)) := by
  intro i' k hi' hk
  by_cases e : 16 * k + i' = 16 * j + i
  · have ek : k = j := by omega
    have ei : i' = i := by omega
    subst ek ei
    refine Or.inr ⟨t, Or.inr ⟨rfl, by omega⟩, pk_us, h1, h2⟩
  · rw [pk_un e]
    exact h i' k hi' hk
theorem cw_i32_nat {x : Int32} {v : Int} (h0 : 0 ≤ x.toInt) : x = nI x.toInt.toNat := by
  have a := x.toInt_lt
  apply Int32.toInt_inj.mp
  rw [nI_toInt (by omega)]
  omega
theorem cw_lt_nI {x : Int32} {i : Nat} (hi : i < 2 ^ 31) : x < nI i ↔ x.toInt < i := by rw [Int32.lt_iff_toInt_lt, nI_toInt hi]
theorem cw_showRow {post : St1 → Prop} {f0 f1 f2 f3 : Int32} {a1 a2 a3 a4 a5 : Nat → Int32} {a6 a7 a8 a9 a10 a11 a12 a13 a14 a15 a16 a17 : Nat → Int64} {t j : Nat} (ht : t < 10) (hj : j < 16) (hr : cw_row a3 a4 (16 * t + j)) (ho : cw_own t j a3 a4 a5) (H : ∀ b5 : Nat → Int32, cw_own t (j + 1) a3 a4 b5 → post (f0, f1, f2, f3, a1, a2, a3, a4, b5, a6, a7, a8, a9, a10, a11, a12, a13, a14, a15, a16, a17)) : wpX_showRow post (f0, f1, f2, f3, a1, a2, a3, a4, a5, a6, a7, a8, a9, a10, a11, a12, a13, a14, a15, a16, a17) (nI t) (nI j) := by
  unfold wpX_showRow
  dsimp only
  rw [cw_at, nI_clamp (show 16 * t + j < 2 ^ 31 by omega)]
  obtain ⟨r1, r2, r3, r4⟩ := hr
  refine ⟨pk_in (16 * t + j) 160 (by omega), fun x3 e3 => ?_⟩
  rw [e3, cw_i32_nat (v := 0) r1]
  have e1 : (((a3 (16 * t + j)).toInt.toNat : Nat) : Int) = (a3 (16 * t + j)).toInt := by omega
  generalize hi0 : (a3 (16 * t + j)).toInt.toNat = i0 at *
  refine pk_loop (σ := Nat → Int32) (fun n i s => wX_showRow_12 post (nI t) (nI j) f0 f1 f2 f3 n (nI i) a1 a2 a3 a4 s a6 a7 a8 a9 a10 a11 a12 a13 a14 a15 a16 a17) (fun i s => i0 ≤ i ∧ cw_own t (j + 1) a3 a4 s) (max i0 ((a4 (16 * t + j)).toInt + 1).toNat) i0 a5 (by omega) ⟨Nat.le_refl _, ?_⟩ ?_ ?_
  · intro i k hi hk
    rcases ho i k hi hk with z | ⟨q, z, z'⟩
    · exact Or.inl z
    · exact Or.inr ⟨q, by omega, z'⟩
  · intro n s h
    show wX_showRow_12 post (nI t) (nI j) f0 f1 f2 f3 (n + 1) (nI _) a1 a2 a3 a4 s a6 a7 a8 a9 a10 a11 a12 a13 a14 a15 a16 a17
    unfold wX_showRow_12
    rw [cw_at, nI_clamp (show 16 * t + j < 2 ^ 31 by omega)]
    exact ⟨pk_in (16 * t + j) 160 (by omega), br_t ((cw_lt_nI (by omega)).mpr (by omega)) (H s h.2)⟩
  · intro n i s hi h hw
    show wX_showRow_12 post (nI t) (nI j) f0 f1 f2 f3 (n + 1) (nI i) a1 a2 a3 a4 s a6 a7 a8 a9 a10 a11 a12 a13 a14 a15 a16 a17
    unfold wX_showRow_12
    have hi' : (i : Int) ≤ (a4 (16 * t + j)).toInt := by omega
    have l1 : (a3 (16 * t + j)).toInt ≤ i := by omega
    rw [cw_at, cw_at, nI_clamp (show 16 * t + j < 2 ^ 31 by omega), nI_clamp (show 16 * j + i < 2 ^ 31 by omega)]
    have p := pk_in (x := nI (16 * j + i)) (16 * j + i) 256 (by omega)
    have put := hw (upd s (16 * j + i) (nI t)) ⟨by omega, cw_own_put hj (by omega) h.2 l1 hi'⟩
    refine ⟨pk_in (16 * t + j) 160 (by omega), br_f (fun z => absurd ((cw_lt_nI (by omega)).mp z) (by omega)) ⟨p, fun x4 e4 => br_c (fun _ => ⟨p, nm_e (nm_r (nI_1 i) put)⟩) (fun z => ?_)⟩⟩
    obtain ⟨q, hq, eq, _⟩ : ∃ q, (q < t ∨ (q = t ∧ j < j + 1)) ∧ x4 = nI q ∧ True := by
      rcases h.2 i j (by omega) hj with z' | ⟨q, h1, h2, _⟩
      · exact absurd (e4.trans z') z
      · exact ⟨q, h1, e4.trans h2, trivial⟩
    rw [eq]
    have hq' : q < 10 := by omega
    refine cw_top ht (fun r => ⟨pk_in q 10 hq', nm_e (cw_top hq' (fun r' => ⟨pk_in t 10 ht, nm_e (br_c (fun _ => nm_r (nI_1 i) (hw s ⟨by omega, h.2⟩)) (fun _ => ⟨p, nm_e (nm_r (nI_1 i) put)⟩))⟩))⟩)
theorem cw_own_oth {t j : Nat} {a3 a4 b3 b4 a5 : Nat → Int32} (hj : j < 16) (ho : cw_own t j a3 a4 a5) (h : cw_oth (16 * t + j) a3 a4 b3 b4) : cw_own t j b3 b4 a5 := by
  intro i k hi hk
  rcases ho i k hi hk with z | ⟨q, z, z1, z2, z3⟩
  · exact Or.inl z
  · obtain ⟨e1, e2⟩ := h (16 * q + k) (by omega)
    refine Or.inr ⟨q, z, z1, ?_, ?_⟩
    · rw [e1]
      exact z2
    · rw [e2]
      exact z3
theorem cw_own_16 {t : Nat} {a3 a4 a5 : Nat → Int32} (ho : cw_own t 16 a3 a4 a5) : cw_own (t + 1) 0 a3 a4 a5 := by
  intro i k hi hk
  rcases ho i k hi hk with z | ⟨q, z, z'⟩
  · exact Or.inl z
  · exact Or.inr ⟨q, by omega, z'⟩
/-- one triangle's rows, behind the clips -/
theorem cw_93 {post : St1 → Prop} {J : cw_J} {f0 f2 f3 : Int32} {a1 a2 a3 a4 a5 : Nat → Int32} {a6 a7 a8 a9 a10 a11 a12 a13 a14 a15 a16 a17 : Nat → Int64} {t m : Nat} (ht : t < 10) (hm : m ≤ 16) (hv : ∀ k, k < m → cw_in (cw_vt a10 a11 a12 a13 k)) (hr : cw_rows (t + 1) a3 a4) (ho : cw_own t 0 a3 a4 a5) (H : ∀ b3 b4 b5 : Nat → Int32, cw_rows (t + 1) b3 b4 → cw_own (t + 1) 0 b3 b4 b5 → J (nI (t + 1)) f0 (nI m) f2 f3 a1 a2 b3 b4 b5 a6 a7 a8 a9 a10 a11 a12 a13 a14 a15 a16 a17) : ∃ fu, wX_refresh_93 post J (nI t) fu 0 f0 (nI m) f2 f3 a1 a2 a3 a4 a5 a6 a7 a8 a9 a10 a11 a12 a13 a14 a15 a16 a17 := by
  refine pk_loop (σ := (Nat → Int32) × (Nat → Int32) × (Nat → Int32)) (fun n i s => wX_refresh_93 post J (nI t) n (nI i) f0 (nI m) f2 f3 a1 a2 s.1 s.2.1 s.2.2 a6 a7 a8 a9 a10 a11 a12 a13 a14 a15 a16 a17) (fun i s => cw_rows (t + 1) s.1 s.2.1 ∧ cw_own t i s.1 s.2.1 s.2.2) 16 0 (a3, a4, a5) (by omega) ⟨hr, ho⟩ ?_ ?_
  · intro n s h
    exact pk_le 16 16 (fun _ => nm_r (nI_1 t) (H _ _ _ h.1 (cw_own_16 h.2))) (fun z => absurd z (by omega))
  · intro n j s hj h hw
    refine pk_le 16 j (fun z => absurd z (by omega)) (fun _ => ?_)
    refine cw_fillRow ht hj hm hv (h.1 t j (by omega) hj) (fun b3 b4 r o => cw_showRow ht hj r (cw_own_oth hj h.2 o) (fun b5 o5 => nm_r (nI_1 j) (hw (b3, b4, b5) ⟨fun q k hq hk => ?_, o5⟩)))
    by_cases e : 16 * q + k = 16 * t + j
    · rw [e]
      exact r
    · obtain ⟨e1, e2⟩ := o _ e
      have w := h.1 q k hq hk
      show cw_row b3 b4 (16 * q + k)
      unfold cw_row
      rw [e1, e2]
      exact w
/-- the six clips, then the rows -/
theorem cw_74 {post : St1 → Prop} {J : cw_J} {f0 f2 f3 : Int32} {a1 a2 a3 a4 a5 : Nat → Int32} {a6 a7 a8 a9 a10 a11 a12 a13 a14 a15 a16 a17 : Nat → Int64} {C : Nat → cg_V} {n : cg_V} {t : Nat} (ht : t < 10) (hT : cg_T C n) (hv : ∀ k, k < 3 → cw_vt a10 a11 a12 a13 k = C k) (hr : cw_rows (t + 1) a3 a4) (ho : cw_own t 0 a3 a4 a5) (H : ∀ (g1 g2 : Int32) (b3 b4 b5 : Nat → Int32) (b10 b11 b12 b13 b14 b15 b16 b17 : Nat → Int64), cw_rows (t + 1) b3 b4 → cw_own (t + 1) 0 b3 b4 b5 → J (nI (t + 1)) f0 g1 g2 f3 a1 a2 b3 b4 b5 a6 a7 a8 a9 b10 b11 b12 b13 b14 b15 b16 b17) : ∃ fu, wX_refresh_74 post J (nI t) fu 0 f0 (nI 3) f2 f3 a1 a2 a3 a4 a5 a6 a7 a8 a9 a10 a11 a12 a13 a14 a15 a16 a17 := by
  refine pk_loop (σ := Int32 × Int32 × (Nat → Int64) × (Nat → Int64) × (Nat → Int64) × (Nat → Int64) × (Nat → Int64) × (Nat → Int64) × (Nat → Int64) × (Nat → Int64)) (fun n i s => wX_refresh_74 post J (nI t) n (nI i) f0 s.1 s.2.1 f3 a1 a2 a3 a4 a5 a6 a7 a8 a9 s.2.2.1 s.2.2.2.1 s.2.2.2.2.1 s.2.2.2.2.2.1 s.2.2.2.2.2.2.1 s.2.2.2.2.2.2.2.1 s.2.2.2.2.2.2.2.2.1 s.2.2.2.2.2.2.2.2.2) (fun i s => ∃ m, s.1 = nI m ∧ cp_Q C n i m (cw_vt s.2.2.1 s.2.2.2.1 s.2.2.2.2.1 s.2.2.2.2.2.1)) 6 0 (nI 3, f2, a10, a11, a12, a13, a14, a15, a16, a17) (by omega) ⟨3, rfl, cp_Q_0 hT hv⟩ ?_ ?_
  · rintro fu ⟨g1, g2, b10, b11, b12, b13, b14, b15, b16, b17⟩ ⟨m, e, h1, h2, _⟩
    dsimp only at e h2 ⊢
    subst e
    refine pk_le 6 6 (fun _ => ?_) (fun z => absurd z (by omega))
    refine cw_93 ht h1 (fun k hk => ?_) hr ho (fun b3 b4 b5 r o => H _ _ b3 b4 b5 _ _ _ _ _ _ _ _ r o)
    obtain ⟨b, q⟩ := h2 k hk
    have q0 := q 0 (by omega)
    have q1 := q 1 (by omega)
    simp only [cg_dot, cg_s] at q0 q1
    exact ⟨b, by omega, by omega⟩
  · rintro fu i ⟨g1, g2, b10, b11, b12, b13, b14, b15, b16, b17⟩ hi ⟨m, e, hQ⟩ hw
    dsimp only at e hQ ⊢
    subst e
    refine pk_le 6 i (fun z => absurd z (by omega)) (fun _ => ?_)
    refine cw_clip hi hQ.1 (fun k hk => (hQ.2.1 k hk).1) (fun g1 g2 c10 c11 c12 c13 c14 c15 c16 c17 e1 e2 => nm_r (nI_1 i) (hw (g1, g2, c10, c11, c12, c13, c14, c15, c16, c17) ⟨_, e1, cp_Q_next hT hi hQ e2⟩))
/-- corners within reach -/
def cw_c20 (n : Nat) (a2 : Nat → Int32) : Prop := ∀ k, k < 12 * n → -20 ≤ (a2 k).toInt ∧ (a2 k).toInt ≤ 20
theorem cw_rows_clear {t : Nat} {a3 a4 b3 b4 : Nat → Int32} (hr : cw_rows t a3 a4) (h1 : ∀ j, j < 16 → b3 (16 * t + j) = 16 ∧ b4 (16 * t + j) = -1) (h2 : ∀ i, i < 16 * t ∨ 16 * t + 16 ≤ i → b3 i = a3 i ∧ b4 i = a4 i) : cw_rows (t + 1) b3 b4 := by
  intro q k hq hk
  unfold cw_row
  by_cases e : q = t
  · rw [e, (h1 k hk).1, (h1 k hk).2]
    decide
  · obtain ⟨e1, e2⟩ := h2 (16 * q + k) (by omega)
    rw [e1, e2]
    exact hr q k (by omega) hk
theorem cw_own_clear {t : Nat} {a3 a4 b3 b4 a5 : Nat → Int32} (ho : cw_own t 0 a3 a4 a5) (h2 : ∀ i, i < 16 * t ∨ 16 * t + 16 ≤ i → b3 i = a3 i ∧ b4 i = a4 i) : cw_own t 0 b3 b4 a5 := by
  intro i k hi hk
  rcases ho i k hi hk with z | ⟨q, z, z1, z2, z3⟩
  · exact Or.inl z
  · obtain ⟨e1, e2⟩ := h2 (16 * q + k) (by omega)
    refine Or.inr ⟨q, z, z1, ?_, ?_⟩
    · rw [e1]
      exact z2
    · rw [e2]
      exact z3
theorem cw_38 {post : St1 → Prop} {f1 f2 f3 : Int32} {a1 a2 a3 a4 a5 : Nat → Int32} {a6 a7 a8 a9 a10 a11 a12 a13 a14 a15 a16 a17 : Nat → Int64} {n : Nat} (hn : n ≤ 10) (hc : cw_c20 n a2) (h5 : ∀ k, k < 256 → a5 k = -2) (H : ∀ (g1 g2 : Int32) (b3 b4 b5 : Nat → Int32) (b6 b7 b8 b9 b10 b11 b12 b13 b14 b15 b16 b17 : Nat → Int64), cw_rows n b3 b4 → cw_own n 0 b3 b4 b5 → post (nI n, g1, g2, f3, a1, a2, b3, b4, b5, b6, b7, b8, b9, b10, b11, b12, b13, b14, b15, b16, b17)) : ∃ fu, wX_refresh_38 post fu 0 (nI n) f1 f2 f3 a1 a2 a3 a4 a5 a6 a7 a8 a9 a10 a11 a12 a13 a14 a15 a16 a17 := by
  refine pk_loop (σ := Int32 × Int32 × (Nat → Int32) × (Nat → Int32) × (Nat → Int32) × (Nat → Int64) × (Nat → Int64) × (Nat → Int64) × (Nat → Int64) × (Nat → Int64) × (Nat → Int64) × (Nat → Int64) × (Nat → Int64) × (Nat → Int64) × (Nat → Int64) × (Nat → Int64) × (Nat → Int64)) (fun fu i s => wX_refresh_38 post fu (nI i) (nI n) s.1 s.2.1 f3 a1 a2 s.2.2.1 s.2.2.2.1 s.2.2.2.2.1 s.2.2.2.2.2.1 s.2.2.2.2.2.2.1 s.2.2.2.2.2.2.2.1 s.2.2.2.2.2.2.2.2.1 s.2.2.2.2.2.2.2.2.2.1 s.2.2.2.2.2.2.2.2.2.2.1 s.2.2.2.2.2.2.2.2.2.2.2.1 s.2.2.2.2.2.2.2.2.2.2.2.2.1 s.2.2.2.2.2.2.2.2.2.2.2.2.2.1 s.2.2.2.2.2.2.2.2.2.2.2.2.2.2.1 s.2.2.2.2.2.2.2.2.2.2.2.2.2.2.2.1 s.2.2.2.2.2.2.2.2.2.2.2.2.2.2.2.2) (fun i s => cw_rows i s.2.2.1 s.2.2.2.1 ∧ cw_own i 0 s.2.2.1 s.2.2.2.1 s.2.2.2.2.1) n 0 (f1, f2, a3, a4, a5, a6, a7, a8, a9, a10, a11, a12, a13, a14, a15, a16, a17) (by omega) ⟨fun q k hq => absurd hq (Nat.not_lt_zero q), fun i k hi hk => Or.inl (h5 _ (by omega))⟩ ?_ ?_
  · rintro fu ⟨g1, g2, b3, b4, b5, b6, b7, b8, b9, b10, b11, b12, b13, b14, b15, b16, b17⟩ ⟨h1, h2⟩
    exact pk_le n n (fun _ => H g1 g2 b3 b4 b5 b6 b7 b8 b9 b10 b11 b12 b13 b14 b15 b16 b17 h1 h2) (fun z => absurd z (by omega))
  · rintro fu t ⟨g1, g2, b3, b4, b5, b6, b7, b8, b9, b10, b11, b12, b13, b14, b15, b16, b17⟩ hi ⟨h1, h2⟩ hw
    dsimp only at h1 h2 ⊢
    have ht : t < 10 := by omega
    refine pk_le n t (fun z => absurd z (by omega)) (fun _ => ?_)
    refine cw_findDepth ht (fun c6 c7 c8 c9 hD => cw_clear ht (fun c3 c4 k1 k2 => ⟨pk_in t 10 ht, ?_⟩))
    have r1 := cw_rows_clear h1 k1 k2
    have o1 := cw_own_clear h2 k2
    rw [nI_clamp (show t < 2 ^ 31 by omega)]
    refine br_c (fun _ => nm_r (nI_1 t) (hw (g1, g2, c3, c4, b5, c6, c7, c8, c9, b10, b11, b12, b13, b14, b15, b16, b17) ⟨r1, ?_⟩)) (fun z => ?_)
    · exact cw_own_16 (fun i k hi hk => by
        rcases o1 i k hi hk with z | ⟨q, z, z'⟩
        · exact Or.inl z
        · exact Or.inr ⟨q, by omega, z'⟩)
    · have hD' : cg_det (cw_C a2 t 0) (cw_C a2 t 1) (cw_C a2 t 2) ≠ 0 := fun e => z (hD e)
      obtain ⟨nn, hT⟩ := cg_T_of (C := cw_C a2 t) (fun k hk => ⟨hc _ (by omega), hc _ (by omega), hc _ (by omega), hc _ (by omega)⟩) hD'
      exact cw_loadCorners ht (fun c10 c11 c12 c13 hv => cw_74 ht hT hv r1 o1 (fun g1 g2 d3 d4 d5 d10 d11 d12 d13 d14 d15 d16 d17 r o => hw (g1, g2, d3, d4, d5, c6, c7, c8, c9, d10, d11, d12, d13, d14, d15, d16, d17) ⟨r, o⟩))
theorem cw_15 {post : St1 → Prop} {f0 f1 f2 f3 : Int32} {a1 a2 a3 a4 a5 : Nat → Int32} {a6 a7 a8 a9 a10 a11 a12 a13 a14 a15 a16 a17 : Nat → Int64} (H : ∀ b5 : Nat → Int32, (∀ k, k < 256 → b5 k = -2) → ∃ fu, wX_refresh_38 post fu 0 f0 f1 f2 f3 a1 a2 a3 a4 b5 a6 a7 a8 a9 a10 a11 a12 a13 a14 a15 a16 a17) : ∃ fu, wX_refresh_15 post f0 f1 f2 f3 fu 0 a1 a2 a3 a4 a5 a6 a7 a8 a9 a10 a11 a12 a13 a14 a15 a16 a17 := by
  refine pk_loop (σ := Nat → Int32) (fun n i s => wX_refresh_15 post f0 f1 f2 f3 n (nI i) a1 a2 a3 a4 s a6 a7 a8 a9 a10 a11 a12 a13 a14 a15 a16 a17) (fun i s => ∀ k, k < i → s k = -2) 256 0 a5 (by omega) (fun j hj => absurd hj (Nat.not_lt_zero j)) ?_ ?_
  · intro n s h
    exact pk_le 256 256 (fun _ => H s h) (fun z => absurd z (by omega))
  · intro n i s hi h hw
    refine pk_le 256 i (fun z => absurd z (by omega)) (fun _ => ⟨pk_in i 256 hi, ?_⟩)
    rw [nI_clamp (show i < 2 ^ 31 by omega)]
    refine nm_e (nm_r (nI_1 i) (hw (upd s i (-2)) (fun k hk => ?_)))
    by_cases e : k = i
    · rw [e, pk_us]
    · rw [pk_un e]
      exact h k (by omega)
/-- the picture: n triangles drawn; if current, the rows and owners stand -/
def cw_good (n : Nat) (a3 a4 a5 : Nat → Int32) : Prop := cw_rows n a3 a4 ∧ cw_own n 0 a3 a4 a5
theorem cw_refresh {post : St1 → Prop} {f1 f2 f3 : Int32} {a1 a2 a3 a4 a5 : Nat → Int32} {a6 a7 a8 a9 a10 a11 a12 a13 a14 a15 a16 a17 : Nat → Int64} {n : Nat} (hn : n ≤ 10) (hc : cw_c20 n a2) (h3 : ¬ f3 = 0 → cw_good n a3 a4 a5) (H : ∀ (g1 g2 g3 : Int32) (b3 b4 b5 : Nat → Int32) (b6 b7 b8 b9 b10 b11 b12 b13 b14 b15 b16 b17 : Nat → Int64), ¬ g3 = 0 → cw_good n b3 b4 b5 → (¬ f3 = 0 → b3 = a3 ∧ b4 = a4 ∧ b5 = a5) → post (nI n, g1, g2, g3, a1, a2, b3, b4, b5, b6, b7, b8, b9, b10, b11, b12, b13, b14, b15, b16, b17)) : wpX_refresh post (nI n, f1, f2, f3, a1, a2, a3, a4, a5, a6, a7, a8, a9, a10, a11, a12, a13, a14, a15, a16, a17) := by
  unfold wpX_refresh
  dsimp only
  refine br_c (fun z => ?_) (fun z => H _ _ _ _ _ _ _ _ _ _ _ _ _ _ _ _ _ _ z (h3 z) (fun _ => ⟨rfl, rfl, rfl⟩))
  refine cw_15 (fun b5 h5 => cw_38 hn hc h5 (fun g1 g2 b3 b4 b5 b6 b7 b8 b9 b10 b11 b12 b13 b14 b15 b16 b17 r o => H g1 g2 1 b3 b4 b5 b6 b7 b8 b9 b10 b11 b12 b13 b14 b15 b16 b17 (by decide) ⟨r, o⟩ (fun y => absurd z y)))
end
section
def cl_d20 (a1 : Nat → Int32) : Prop := ∀ k, k < 12 → -20 ≤ (a1 k).toInt ∧ (a1 k).toInt ≤ 20
/-- the picture of the object: n triangles drawn -/
def cl_inv (n : Nat) (u : St1) : Prop := match u with
  | (f0, f1, f2, f3, a1, a2, a3, a4, a5, a6, a7, a8, a9, a10, a11, a12, a13, a14, a15, a16, a17) => f0 = nI n ∧ n ≤ 10 ∧ cl_d20 a1 ∧ cw_c20 n a2 ∧ (¬ f3 = 0 → cw_good n a3 a4 a5)
/-- the same, behind a refresh -/
def cl_cur (n : Nat) (u : St1) : Prop := match u with
  | (f0, f1, f2, f3, a1, a2, a3, a4, a5, a6, a7, a8, a9, a10, a11, a12, a13, a14, a15, a16, a17) => f0 = nI n ∧ n ≤ 10 ∧ cl_d20 a1 ∧ cw_c20 n a2 ∧ ¬ f3 = 0 ∧ cw_good n a3 a4 a5
def cl_a5 (u : St1) : Nat → Int32 := match u with
  | (f0, f1, f2, f3, a1, a2, a3, a4, a5, a6, a7, a8, a9, a10, a11, a12, a13, a14, a15, a16, a17) => a5
theorem cl_cur_inv {n : Nat} {u : St1} (h : cl_cur n u) : cl_inv n u := by
  obtain ⟨f0, f1, f2, f3, a1, a2, a3, a4, a5, a6, a7, a8, a9, a10, a11, a12, a13, a14, a15, a16, a17⟩ := u
  obtain ⟨h1, h2, h3, h4, _, h6⟩ := h
  exact ⟨h1, h2, h3, h4, fun _ => h6⟩
theorem cl_refresh {post : St1 → Prop} {n : Nat} {u : St1} (h : cl_inv n u) (H : ∀ u', cl_cur n u' → (cl_cur n u → u' = u) → post u') : wpX_refresh post u := by
  obtain ⟨f0, f1, f2, f3, a1, a2, a3, a4, a5, a6, a7, a8, a9, a10, a11, a12, a13, a14, a15, a16, a17⟩ := u
  obtain ⟨h1, h2, h3, h4, h5⟩ := h
  subst h1
  by_cases z : f3 = 0
  · refine cw_refresh h2 h4 h5 (fun g1 g2 g3 b3 b4 b5 b6 b7 b8 b9 b10 b11 b12 b13 b14 b15 b16 b17 k1 k2 _ => H _ ⟨rfl, h2, h3, h4, k1, k2⟩ (fun k => absurd z k.2.2.2.2.1))
  · exact br_f z (H _ ⟨rfl, h2, h3, h4, z, h5 z⟩ (fun _ => rfl))
theorem cl_refresh' {post : St1 → Prop} {n : Nat} {u : St1} (h : cl_cur n u) (H : post u) : wpX_refresh post u := cl_refresh (cl_cur_inv h) (fun u' _ e => by rw [e h]; exact H)
theorem cl_isCell {post : Int32 → Prop} {i : Nat} (hi : i < 16) (H : post 1) : wpX_isCell post () (nI i) := br_f (nI_pos (by omega)) (pk_lt 15 i (fun z => absurd z (by omega)) (fun _ => H))
theorem cl_isDrawn {post : Int32 → Prop} {f1 f2 f3 : Int32} {a1 a2 a3 a4 a5 : Nat → Int32} {a6 a7 a8 a9 a10 a11 a12 a13 a14 a15 a16 a17 : Nat → Int64} {n t : Nat} (hn : n ≤ 10) (ht : t < n) (H : post 1) : wpX_isDrawn post (nI n, f1, f2, f3, a1, a2, a3, a4, a5, a6, a7, a8, a9, a10, a11, a12, a13, a14, a15, a16, a17) (nI t) := br_f (nI_pos (by omega)) (pk_le n t (fun z => absurd z (by omega)) (fun _ => H))
theorem cl_nlt {x : Int32} {i : Nat} (hi : i < 2 ^ 31) (h : (i : Int) ≤ x.toInt) : ¬ x < nI i := fun z => absurd ((cw_lt_nI hi).mp z) (by omega)
theorem cl_nlt' {x : Int32} {i : Nat} (hi : i < 2 ^ 31) (h : x.toInt ≤ i) : ¬ nI i < x := fun z => by
  rw [Int32.lt_iff_toInt_lt, nI_toInt hi] at z
  omega
theorem cl_covers {post : Int32 → St1 → Prop} {f1 f2 f3 : Int32} {a1 a2 a3 a4 a5 : Nat → Int32} {a6 a7 a8 a9 a10 a11 a12 a13 a14 a15 a16 a17 : Nat → Int64} {n t i j : Nat} (h : cl_cur n (nI n, f1, f2, f3, a1, a2, a3, a4, a5, a6, a7, a8, a9, a10, a11, a12, a13, a14, a15, a16, a17)) (ht : t < n) (hi : i < 16) (hj : j < 16) (h1 : (a3 (16 * t + j)).toInt ≤ i) (h2 : (i : Int) ≤ (a4 (16 * t + j)).toInt) (H : post 1 (nI n, f1, f2, f3, a1, a2, a3, a4, a5, a6, a7, a8, a9, a10, a11, a12, a13, a14, a15, a16, a17)) : wpX_covers post (nI n, f1, f2, f3, a1, a2, a3, a4, a5, a6, a7, a8, a9, a10, a11, a12, a13, a14, a15, a16, a17) (nI t) (nI i) (nI j) := by
  have hn := h.2.1
  unfold wpX_covers
  dsimp only
  refine cl_isDrawn hn ht (br_f (by decide) (cl_isCell hi (br_f (by decide) (cl_isCell hj (br_f (by decide) (cl_refresh' h ?_))))))
  dsimp only
  unfold wpX_within
  dsimp only
  rw [cw_at, nI_clamp (show 16 * t + j < 2 ^ 31 by omega)]
  have p := pk_in (x := nI (16 * t + j)) (16 * t + j) 160 (by omega)
  exact ⟨p, br_f (cl_nlt' (by omega) h1) ⟨p, br_f (cl_nlt (by omega) h2) (br_f (by decide) H)⟩⟩
theorem cl_owner {post : Int32 → St1 → Prop} {f1 f2 f3 : Int32} {a1 a2 a3 a4 a5 : Nat → Int32} {a6 a7 a8 a9 a10 a11 a12 a13 a14 a15 a16 a17 : Nat → Int64} {n i j : Nat} (h : cl_cur n (nI n, f1, f2, f3, a1, a2, a3, a4, a5, a6, a7, a8, a9, a10, a11, a12, a13, a14, a15, a16, a17)) (hi : i < 16) (hj : j < 16) (H : post (a5 (16 * j + i)) (nI n, f1, f2, f3, a1, a2, a3, a4, a5, a6, a7, a8, a9, a10, a11, a12, a13, a14, a15, a16, a17)) : wpX_owner post (nI n, f1, f2, f3, a1, a2, a3, a4, a5, a6, a7, a8, a9, a10, a11, a12, a13, a14, a15, a16, a17) (nI i) (nI j) := by
  unfold wpX_owner
  dsimp only
  refine cl_isCell hi (br_f (by decide) (cl_isCell hj (br_f (by decide) (cl_refresh' h ?_))))
  dsimp only
  rw [cw_at, nI_clamp (show 16 * j + i < 2 ^ 31 by omega)]
  exact ⟨pk_in (16 * j + i) 256 (by omega), H⟩
theorem cl_firstIn {post : Int32 → St1 → Prop} {f1 f2 f3 : Int32} {a1 a2 a3 a4 a5 : Nat → Int32} {a6 a7 a8 a9 a10 a11 a12 a13 a14 a15 a16 a17 : Nat → Int64} {n t j : Nat} (h : cl_cur n (nI n, f1, f2, f3, a1, a2, a3, a4, a5, a6, a7, a8, a9, a10, a11, a12, a13, a14, a15, a16, a17)) (ht : t < n) (hj : j < 16) (H1 : a4 (16 * t + j) < a3 (16 * t + j) → post (-3) (nI n, f1, f2, f3, a1, a2, a3, a4, a5, a6, a7, a8, a9, a10, a11, a12, a13, a14, a15, a16, a17)) (H2 : ¬ a4 (16 * t + j) < a3 (16 * t + j) → post (a3 (16 * t + j)) (nI n, f1, f2, f3, a1, a2, a3, a4, a5, a6, a7, a8, a9, a10, a11, a12, a13, a14, a15, a16, a17)) : wpX_firstIn post (nI n, f1, f2, f3, a1, a2, a3, a4, a5, a6, a7, a8, a9, a10, a11, a12, a13, a14, a15, a16, a17) (nI t) (nI j) := by
  have hn := h.2.1
  unfold wpX_firstIn
  dsimp only
  refine cl_isDrawn hn ht (br_f (by decide) (cl_isCell hj (br_f (by decide) (cl_refresh' h ?_))))
  dsimp only
  have p := pk_in (x := nI (16 * t + j)) (16 * t + j) 160 (by omega)
  refine nm_r (cw_at t j) ⟨p, p, ?_⟩
  rw [nI_clamp (show 16 * t + j < 2 ^ 31 by omega)]
  exact br_c H1 (fun z => ⟨p, H2 z⟩)
theorem cl_lastIn {post : Int32 → St1 → Prop} {f1 f2 f3 : Int32} {a1 a2 a3 a4 a5 : Nat → Int32} {a6 a7 a8 a9 a10 a11 a12 a13 a14 a15 a16 a17 : Nat → Int64} {n t j : Nat} (h : cl_cur n (nI n, f1, f2, f3, a1, a2, a3, a4, a5, a6, a7, a8, a9, a10, a11, a12, a13, a14, a15, a16, a17)) (ht : t < n) (hj : j < 16) (H1 : a4 (16 * t + j) < a3 (16 * t + j) → post (-3) (nI n, f1, f2, f3, a1, a2, a3, a4, a5, a6, a7, a8, a9, a10, a11, a12, a13, a14, a15, a16, a17)) (H2 : ¬ a4 (16 * t + j) < a3 (16 * t + j) → post (a4 (16 * t + j)) (nI n, f1, f2, f3, a1, a2, a3, a4, a5, a6, a7, a8, a9, a10, a11, a12, a13, a14, a15, a16, a17)) : wpX_lastIn post (nI n, f1, f2, f3, a1, a2, a3, a4, a5, a6, a7, a8, a9, a10, a11, a12, a13, a14, a15, a16, a17) (nI t) (nI j) := by
  have hn := h.2.1
  unfold wpX_lastIn
  dsimp only
  refine cl_isDrawn hn ht (br_f (by decide) (cl_isCell hj (br_f (by decide) (cl_refresh' h ?_))))
  dsimp only
  have p := pk_in (x := nI (16 * t + j)) (16 * t + j) 160 (by omega)
  refine nm_r (cw_at t j) ⟨p, p, ?_⟩
  rw [nI_clamp (show 16 * t + j < 2 ^ 31 by omega)]
  exact br_c H1 (fun z => ⟨p, H2 z⟩)
def cl_cnt (f : Nat → Int32) (v : Int32) : Nat → Nat
  | 0 => 0
  | k + 1 => cl_cnt f v k + (if f k = v then 1 else 0)
def cl_lit (f : Nat → Int32) : Nat → Nat
  | 0 => 0
  | k + 1 => cl_lit f k + (if f k = -2 then 0 else 1)
def cl_sum (f : Nat → Int32) (k : Nat) : Nat → Nat
  | 0 => 0
  | n + 1 => cl_sum f k n + cl_cnt f (nI n) k
theorem cl_owned {post : Int32 → St1 → Prop} {n t : Nat} {u : St1} (h : cl_inv n u) (ht : t < n) (H : ∀ u', cl_cur n u' → (cl_cur n u → u' = u) → post (nI (cl_cnt (cl_a5 u') (nI t) 256)) u') : wpX_owned post u (nI t) := by
  obtain ⟨f0, f1, f2, f3, a1, a2, a3, a4, a5, a6, a7, a8, a9, a10, a11, a12, a13, a14, a15, a16, a17⟩ := u
  have e0 := h.1
  have hn := h.2.1
  subst e0
  unfold wpX_owned
  dsimp only
  refine cl_isDrawn hn ht (br_f (by decide) (cl_refresh h ?_))
  rintro ⟨f0, f1, f2, f3, a1, a2, a3, a4, a5, a6, a7, a8, a9, a10, a11, a12, a13, a14, a15, a16, a17⟩ hc he
  have H' := H _ hc he
  refine pk_loop (σ := Unit) (fun fu i _ => wX_owned_18 post (nI t) f0 f1 f2 f3 a1 a2 a3 a4 a5 a6 a7 a8 a9 a10 a11 a12 a13 a14 a15 a16 a17 fu (nI (cl_cnt a5 (nI t) i)) (nI i)) (fun _ _ => True) 256 0 () (by omega) trivial ?_ ?_
  · intro fu _ _
    exact pk_le 256 256 (fun _ => H') (fun z => absurd z (by omega))
  · intro fu i _ hi _ hw
    refine pk_le 256 i (fun z => absurd z (by omega)) (fun _ => ⟨pk_in i 256 hi, ?_⟩)
    rw [nI_clamp (show i < 2 ^ 31 by omega)]
    have w := hw () trivial
    simp only [cl_cnt] at w
    refine br_c (fun z => nm_r (nI_1 _) (nm_r (nI_1 i) ?_)) (fun z => nm_r (nI_1 i) ?_)
    · rw [if_pos z] at w
      exact w
    · rw [if_neg z] at w
      exact w
theorem cl_litW {post : Int32 → St1 → Prop} {n : Nat} {u : St1} (h : cl_inv n u) (H : ∀ u', cl_cur n u' → (cl_cur n u → u' = u) → post (nI (cl_lit (cl_a5 u') 256)) u') : wpX_lit post u := by
  obtain ⟨f0, f1, f2, f3, a1, a2, a3, a4, a5, a6, a7, a8, a9, a10, a11, a12, a13, a14, a15, a16, a17⟩ := u
  refine cl_refresh h ?_
  rintro ⟨f0, f1, f2, f3, a1, a2, a3, a4, a5, a6, a7, a8, a9, a10, a11, a12, a13, a14, a15, a16, a17⟩ hc he
  have H' := H _ hc he
  refine pk_loop (σ := Unit) (fun fu i _ => wX_lit_8 post f0 f1 f2 f3 a1 a2 a3 a4 a5 a6 a7 a8 a9 a10 a11 a12 a13 a14 a15 a16 a17 fu (nI (cl_lit a5 i)) (nI i)) (fun _ _ => True) 256 0 () (by omega) trivial ?_ ?_
  · intro fu _ _
    exact pk_le 256 256 (fun _ => H') (fun z => absurd z (by omega))
  · intro fu i _ hi _ hw
    refine pk_le 256 i (fun z => absurd z (by omega)) (fun _ => ⟨pk_in i 256 hi, ?_⟩)
    rw [nI_clamp (show i < 2 ^ 31 by omega)]
    have w := hw () trivial
    simp only [cl_lit] at w
    refine br_c (fun z => nm_r (nI_1 i) ?_) (fun z => nm_r (nI_1 _) (nm_r (nI_1 i) ?_))
    · rw [if_pos z] at w
      exact w
    · rw [if_neg z] at w
      exact w
def cl_one (x : Int32) : Nat → Nat
  | 0 => 0
  | n + 1 => cl_one x n + (if x = nI n then 1 else 0)
theorem cl_sum_s (f : Nat → Int32) (k : Nat) : ∀ n, cl_sum f (k + 1) n = cl_sum f k n + cl_one (f k) n := by
  intro n
  induction n with
  | zero => rfl
  | succ n ih =>
    simp only [cl_sum, cl_one, cl_cnt, ih]
    omega
theorem cl_one_q {q : Nat} (hq : q < 10) : ∀ n, n ≤ 10 → cl_one (nI q) n = if q < n then 1 else 0 := by
  intro n
  induction n with
  | zero =>
    intro _
    rfl
  | succ n ih =>
    intro hn
    have e := nI_eq (a := q) (b := n) (by omega) (by omega)
    simp only [cl_one]
    rw [ih (by omega)]
    by_cases z : q = n
    · rw [if_neg (by omega), if_pos (e.mpr z), if_pos (by omega)]
    · rw [if_neg (c := nI q = nI n) (fun t => z (e.mp t))]
      by_cases z' : q < n
      · rw [if_pos z', if_pos (by omega)]
      · rw [if_neg z', if_neg (by omega)]
theorem cl_one_0 {x : Int32} (hx : x = -2) : ∀ n, n ≤ 10 → cl_one x n = 0 := by
  intro n
  induction n with
  | zero =>
    intro _
    rfl
  | succ n ih =>
    intro hn
    simp only [cl_one]
    rw [ih (by omega), if_neg]
    intro z
    rw [hx] at z
    have t := nI_toInt (n := n) (by omega)
    rw [← z] at t
    have t' : (-2 : Int32).toInt = -2 := rfl
    omega
/-- every lit cell is owned once -/
theorem cl_sum_lit {n : Nat} {f : Nat → Int32} (hn : n ≤ 10) (h : ∀ k, k < 256 → f k = -2 ∨ ∃ q, q < n ∧ f k = nI q) : ∀ k, k ≤ 256 → cl_sum f k n = cl_lit f k := by
  intro k
  induction k with
  | zero =>
    intro _
    have z : ∀ n, cl_sum f 0 n = 0 := by
      intro n
      induction n with
      | zero => rfl
      | succ n ih =>
        simp only [cl_sum, cl_cnt, ih]
    exact z n
  | succ k ih =>
    intro hk
    rw [cl_sum_s, ih (by omega)]
    simp only [cl_lit]
    rcases h k (by omega) with z | ⟨q, hq, z⟩
    · rw [cl_one_0 z n hn, if_pos z]
    · rw [z, cl_one_q (by omega) n hn, if_pos hq, if_neg]
      intro z
      have t := nI_toInt (n := q) (by omega)
      rw [z] at t
      have t' : (-2 : Int32).toInt = -2 := rfl
      omega
theorem cl_cur_own {n : Nat} {u : St1} (h : cl_cur n u) : ∀ k, k < 256 → cl_a5 u k = -2 ∨ ∃ q, q < n ∧ cl_a5 u k = nI q := by
  obtain ⟨f0, f1, f2, f3, a1, a2, a3, a4, a5, a6, a7, a8, a9, a10, a11, a12, a13, a14, a15, a16, a17⟩ := u
  obtain ⟨_, _, _, _, _, _, ho⟩ := h
  intro k hk
  have e : 16 * (k / 16) + k % 16 = k := by omega
  rcases ho (k % 16) (k / 16) (by omega) (by omega) with z | ⟨q, hq, z, _⟩
  · rw [e] at z
    exact Or.inl z
  · rw [e] at z
    exact Or.inr ⟨q, by omega, z⟩
theorem cl_count {n : Nat} {u : St1} (h : cl_cur n u) : cl_sum (cl_a5 u) 256 n = cl_lit (cl_a5 u) 256 := by
  have hn : n ≤ 10 := by
    obtain ⟨f0, f1, f2, f3, a1, a2, a3, a4, a5, a6, a7, a8, a9, a10, a11, a12, a13, a14, a15, a16, a17⟩ := u
    exact h.2.1
  exact cl_sum_lit hn (cl_cur_own h) 256 (Nat.le_refl _)
end
section
theorem cl_neg_r {x : Int32} (h : 0 ≤ x.toInt) : ¬ x < 0 := fun z => by
  rw [Int32.lt_iff_toInt_lt] at z
  have t : (0 : Int32).toInt = 0 := rfl
  omega
theorem cl_rows {post : Int32 → St1 → Prop} {f1 f2 f3 : Int32} {a1 a2 a3 a4 a5 : Nat → Int32} {a6 a7 a8 a9 a10 a11 a12 a13 a14 a15 a16 a17 : Nat → Int64} {n t : Nat} (h : cl_cur n (nI n, f1, f2, f3, a1, a2, a3, a4, a5, a6, a7, a8, a9, a10, a11, a12, a13, a14, a15, a16, a17)) (ht : t < n) (H : post 1 (nI n, f1, f2, f3, a1, a2, a3, a4, a5, a6, a7, a8, a9, a10, a11, a12, a13, a14, a15, a16, a17)) : wpL_rows post (nI n, f1, f2, f3, a1, a2, a3, a4, a5, a6, a7, a8, a9, a10, a11, a12, a13, a14, a15, a16, a17) (nI t) := by
  unfold wpL_rows
  dsimp only
  have hn := h.2.1
  obtain ⟨_, _, _, _, _, hr, _⟩ := id h
  refine pk_loop (σ := Unit) (fun fu j _ => wL_rows_2 post (nI t) fu (nI j) (nI n) f1 f2 f3 a1 a2 a3 a4 a5 a6 a7 a8 a9 a10 a11 a12 a13 a14 a15 a16 a17) (fun _ _ => True) 16 0 () (by omega) trivial ?_ ?_
  · intro fu _ _
    exact pk_le 16 16 (fun _ => H) (fun z => absurd z (by omega))
  · intro fu j _ hj _ hw
    have w := hw () trivial
    obtain ⟨r1, r2, r3, r4⟩ := hr t j ht hj
    refine pk_le 16 j (fun z => absurd z (by omega)) (fun _ => cl_firstIn h ht hj (fun z => cl_lastIn h ht hj (fun _ => ?_) (fun z' => absurd z z')) (fun z => cl_lastIn h ht hj (fun z' => absurd z' z) (fun _ => ?_)))
    · exact br_t (by decide) (nm_r (nI_1 j) w)
    · have le : (a3 (16 * t + j)).toInt ≤ (a4 (16 * t + j)).toInt := by
        rw [Int32.lt_iff_toInt_lt] at z
        omega
      have l15 : a4 (16 * t + j) ≤ 15 := by
        rw [Int32.le_iff_toInt_le]
        exact r4
      refine br_f (cl_neg_r r1) (br_f z (br_t l15 ?_))
      have e3 := cw_i32_nat (v := 0) r1
      have e4 := cw_i32_nat (x := a4 (16 * t + j)) (v := 0) (by omega)
      have k3 : (((a3 (16 * t + j)).toInt.toNat : Nat) : Int) = (a3 (16 * t + j)).toInt := by omega
      have k4 : (((a4 (16 * t + j)).toInt.toNat : Nat) : Int) = (a4 (16 * t + j)).toInt := by omega
      rw [e3, e4]
      generalize (a3 (16 * t + j)).toInt.toNat = i0 at *
      generalize (a4 (16 * t + j)).toInt.toNat = i1 at *
      refine pk_loop (σ := Unit) (fun fu' i _ => wL_rows_45 post (wL_rows_2 post (nI t) fu) (nI t) (nI j) (nI i1) fu' (nI i) (nI n) f1 f2 f3 a1 a2 a3 a4 a5 a6 a7 a8 a9 a10 a11 a12 a13 a14 a15 a16 a17) (fun i _ => i0 ≤ i) (i1 + 1) i0 () (by omega) (Nat.le_refl _) ?_ ?_
      · intro fu' _ _
        exact pk_lt i1 (i1 + 1) (fun _ => nm_r (nI_1 j) w) (fun z => absurd z (by omega))
      · intro fu' i _ hi hi0 hw'
        refine pk_lt i1 i (fun z => absurd z (by omega)) (fun _ => cl_covers h ht (by omega) hj (by omega) (by omega) (br_t rfl (nm_r (nI_1 i) (hw' () (by omega)))))
theorem cl_owners {post : Int32 → St1 → Prop} {n : Nat} {u : St1} (h : cl_cur n u) (H : post 1 u) : wpL_owners post u := by
  obtain ⟨f0, f1, f2, f3, a1, a2, a3, a4, a5, a6, a7, a8, a9, a10, a11, a12, a13, a14, a15, a16, a17⟩ := u
  have e0 := h.1
  have hn := h.2.1
  subst e0
  unfold wpL_owners
  dsimp only
  obtain ⟨_, _, _, _, _, _, ho⟩ := id h
  refine pk_loop (σ := Unit) (fun fu j _ => wL_owners_2 post fu (nI j) (nI n) f1 f2 f3 a1 a2 a3 a4 a5 a6 a7 a8 a9 a10 a11 a12 a13 a14 a15 a16 a17) (fun _ _ => True) 16 0 () (by omega) trivial ?_ ?_
  · intro fu _ _
    exact pk_le 16 16 (fun _ => H) (fun z => absurd z (by omega))
  · intro fu j _ hj _ hw
    have w := hw () trivial
    refine pk_le 16 j (fun z => absurd z (by omega)) (fun _ => ?_)
    refine pk_loop (σ := Unit) (fun fu' i _ => wL_owners_10 post (wL_owners_2 post fu) (nI j) fu' (nI i) (nI n) f1 f2 f3 a1 a2 a3 a4 a5 a6 a7 a8 a9 a10 a11 a12 a13 a14 a15 a16 a17) (fun _ _ => True) 16 0 () (by omega) trivial ?_ ?_
    · intro fu' _ _
      exact pk_le 16 16 (fun _ => nm_r (nI_1 j) w) (fun z => absurd z (by omega))
    · intro fu' i _ hi _ hw'
      have w' := hw' () trivial
      refine pk_le 16 i (fun z => absurd z (by omega)) (fun _ => cl_owner h hi hj ?_)
      rcases ho i j hi hj with z | ⟨q, hq, z, l1, l2⟩
      · rw [z]
        exact br_t (by decide) (nm_r (nI_1 i) w')
      · rw [z]
        exact br_f (nI_pos (by omega)) (cl_covers h (by omega) hi hj l1 l2 (br_t rfl (nm_r (nI_1 i) w')))
theorem cl_holds {post : Int32 → St1 → Prop} {n : Nat} {u : St1} (h : cl_inv n u) (H : ∀ u', cl_cur n u' → post 1 u') : wpL_holds post u := by
  obtain ⟨f0, f1, f2, f3, a1, a2, a3, a4, a5, a6, a7, a8, a9, a10, a11, a12, a13, a14, a15, a16, a17⟩ := u
  have e0 := h.1
  have hn := h.2.1
  subst e0
  unfold wpL_holds
  dsimp only
  unfold wpX_drawn
  dsimp only
  refine pk_loop (σ := Nat × St1) (fun fu i s => wL_holds_9 post (nI n) fu (nI s.1) (nI i) s.2.1 s.2.2.1 s.2.2.2.1 s.2.2.2.2.1 s.2.2.2.2.2.1 s.2.2.2.2.2.2.1 s.2.2.2.2.2.2.2.1 s.2.2.2.2.2.2.2.2.1 s.2.2.2.2.2.2.2.2.2.1 s.2.2.2.2.2.2.2.2.2.2.1 s.2.2.2.2.2.2.2.2.2.2.2.1 s.2.2.2.2.2.2.2.2.2.2.2.2.1 s.2.2.2.2.2.2.2.2.2.2.2.2.2.1 s.2.2.2.2.2.2.2.2.2.2.2.2.2.2.1 s.2.2.2.2.2.2.2.2.2.2.2.2.2.2.2.1 s.2.2.2.2.2.2.2.2.2.2.2.2.2.2.2.2.1 s.2.2.2.2.2.2.2.2.2.2.2.2.2.2.2.2.2.1 s.2.2.2.2.2.2.2.2.2.2.2.2.2.2.2.2.2.2.1 s.2.2.2.2.2.2.2.2.2.2.2.2.2.2.2.2.2.2.2.1 s.2.2.2.2.2.2.2.2.2.2.2.2.2.2.2.2.2.2.2.2.1 s.2.2.2.2.2.2.2.2.2.2.2.2.2.2.2.2.2.2.2.2.2) (fun i s => cl_inv n s.2 ∧ s.1 = cl_sum (cl_a5 s.2) 256 (min i n) ∧ (cl_cur n s.2 ∨ min i n = 0)) 10 0 (0, (nI n, f1, f2, f3, a1, a2, a3, a4, a5, a6, a7, a8, a9, a10, a11, a12, a13, a14, a15, a16, a17)) (by omega) ⟨h, by rw [Nat.zero_min]; rfl, Or.inr (Nat.zero_min n)⟩ ?_ ?_
  · rintro fu ⟨sum, f0, f1, f2, f3, a1, a2, a3, a4, a5, a6, a7, a8, a9, a10, a11, a12, a13, a14, a15, a16, a17⟩ ⟨k1, k2, k3⟩
    dsimp only at k1 k2 k3 ⊢
    refine pk_le 10 10 (fun _ => cl_litW k1 ?_) (fun z => absurd z (by omega))
    intro u' hc he
    have es : sum = cl_lit (cl_a5 u') 256 := by
      rw [← cl_count hc, k2, show min 10 n = n by omega]
      rcases k3 with z | z
      · rw [he z]
      · have n0 : n = 0 := by omega
        rw [n0]
        rfl
    obtain ⟨g0, g1, g2, g3, b1, b2, b3, b4, b5, b6, b7, b8, b9, b10, b11, b12, b13, b14, b15, b16, b17⟩ := u'
    refine br_t (by rw [es]) (cl_owners hc (br_f (by decide) (H _ hc)))
  · rintro fu i ⟨sum, f0, f1, f2, f3, a1, a2, a3, a4, a5, a6, a7, a8, a9, a10, a11, a12, a13, a14, a15, a16, a17⟩ hi ⟨k1, k2, k3⟩ hw
    dsimp only at k1 k2 k3 ⊢
    refine pk_le 10 i (fun z => absurd z (by omega)) (fun _ => pk_le n i (fun z => nm_r (nI_1 i) (hw (_, _) ⟨k1, ?_, ?_⟩)) (fun z => ?_))
    · rw [show min (i + 1) n = min i n by omega]
      exact k2
    · rw [show min (i + 1) n = min i n by omega]
      exact k3
    · refine cl_owned k1 z ?_
      intro u' hc he
      have es : sum = cl_sum (cl_a5 u') 256 i := by
        rw [k2, show min i n = i by omega]
        rcases k3 with z' | z'
        · rw [he z']
        · have i0 : i = 0 := by omega
          rw [i0]
          rfl
      obtain ⟨g0, g1, g2, g3, b1, b2, b3, b4, b5, b6, b7, b8, b9, b10, b11, b12, b13, b14, b15, b16, b17⟩ := u'
      have e0 := hc.1
      subst e0
      refine nm_r (nI_add _ _) (cl_rows hc z (br_f (by decide) (nm_r (nI_1 i) (hw (_, _) ⟨cl_cur_inv hc, ?_, Or.inl hc⟩))))
      rw [show min (i + 1) n = i + 1 by omega, es]
      rfl
end
section
theorem cl_inRange {post : Int32 → Prop} {p : Int32} (H0 : post 0) (H1 : -20 ≤ p.toInt ∧ p.toInt ≤ 20 → post 1) : wpX_inRange post () p := by
  refine br_c (fun _ => H0) (fun z => br_c (fun _ => H0) (fun z' => H1 ?_))
  rw [Int32.lt_iff_toInt_lt] at z z'
  have t1 : (-20 : Int32).toInt = -20 := rfl
  have t2 : (20 : Int32).toInt = 20 := rfl
  omega
theorem cl_d20_put {a1 : Nat → Int32} {k : Nat} {x : Int32} (h : cl_d20 a1) (hx : -20 ≤ x.toInt ∧ x.toInt ≤ 20) : cl_d20 (upd a1 k x) := by
  intro j hj
  by_cases e : j = k
  · rw [e, pk_us]
    exact hx
  · rw [pk_un e]
    exact h j hj
theorem cl_4 (k : Nat) : 4 * nI k = nI (4 * k) := by rw [show (4 : Int32) = nI 4 from rfl, pk_mul]
theorem cl_place {post : Int32 → St1 → Prop} {n : Nat} {u : St1} {p0 p1 p2 : Int32} (h : cl_inv n u) (H : ∀ r u', cl_inv n u' → post r u') : wpX_place post u p0 p1 p2 := by
  obtain ⟨f0, f1, f2, f3, a1, a2, a3, a4, a5, a6, a7, a8, a9, a10, a11, a12, a13, a14, a15, a16, a17⟩ := u
  obtain ⟨h1, h2, h3, h4, h5⟩ := id h
  unfold wpX_place
  dsimp only
  refine br_c (fun _ => H _ _ h) (fun z => br_c (fun z2 => cl_inRange (br_t rfl (H _ _ h)) (fun q1 => br_f (by decide) (cl_inRange (br_t rfl (H _ _ h)) (fun q2 => br_f (by decide) ?_)))) (fun _ => H _ _ h))
  obtain ⟨k, hk, e⟩ := nI_of2 (M := 2) (n := 2) rfl z z2
  rw [e, cl_4, nI_1]
  exact ⟨pk_in (4 * k) 12 (by omega), nm_e ⟨pk_in (4 * k + 1) 12 (by omega), nm_e (H _ _ ⟨h1, h2, cl_d20_put (cl_d20_put h3 q1) q2, h4, h5⟩)⟩⟩
theorem cl_depth {post : Int32 → St1 → Prop} {n : Nat} {u : St1} {p0 p1 p2 : Int32} (h : cl_inv n u) (H : ∀ r u', cl_inv n u' → post r u') : wpX_depth post u p0 p1 p2 := by
  obtain ⟨f0, f1, f2, f3, a1, a2, a3, a4, a5, a6, a7, a8, a9, a10, a11, a12, a13, a14, a15, a16, a17⟩ := u
  obtain ⟨h1, h2, h3, h4, h5⟩ := id h
  unfold wpX_depth
  dsimp only
  refine br_c (fun _ => H _ _ h) (fun z => br_c (fun z2 => cl_inRange (br_t rfl (H _ _ h)) (fun q1 => br_f (by decide) (cl_inRange (br_t rfl (H _ _ h)) (fun q2 => br_f (by decide) ?_)))) (fun _ => H _ _ h))
  obtain ⟨k, hk, e⟩ := nI_of2 (M := 2) (n := 2) rfl z z2
  rw [e, cl_4, show (2 : Int32) = nI 2 from rfl, show (3 : Int32) = nI 3 from rfl, nI_add, nI_add]
  exact ⟨pk_in (4 * k + 2) 12 (by omega), nm_e ⟨pk_in (4 * k + 3) 12 (by omega), nm_e (H _ _ ⟨h1, h2, cl_d20_put (cl_d20_put h3 q1) q2, h4, h5⟩)⟩⟩
theorem cl_12 (k : Nat) : 12 * nI k = nI (12 * k) := by rw [show (12 : Int32) = nI 12 from rfl, pk_mul]
theorem cl_51 {post : Int32 → St1 → Prop} {f1 f2 f3 : Int32} {a1 a2 a3 a4 a5 : Nat → Int32} {a6 a7 a8 a9 a10 a11 a12 a13 a14 a15 a16 a17 : Nat → Int64} {n : Nat} (hn : n < 10) (h : cl_inv n (nI n, f1, f2, f3, a1, a2, a3, a4, a5, a6, a7, a8, a9, a10, a11, a12, a13, a14, a15, a16, a17)) (H : ∀ r u', cl_inv (n + 1) u' → post r u') : ∃ fu, wX_draw_51 post (nI n) f1 f2 f3 fu 0 a1 a2 a3 a4 a5 a6 a7 a8 a9 a10 a11 a12 a13 a14 a15 a16 a17 := by
  obtain ⟨h1, h2, h3, h4, h5⟩ := h
  refine pk_loop (σ := Nat → Int32) (fun fu i s => wX_draw_51 post (nI n) f1 f2 f3 fu (nI i) a1 s a3 a4 a5 a6 a7 a8 a9 a10 a11 a12 a13 a14 a15 a16 a17) (fun i s => ∀ k, k < 12 * n + i → -20 ≤ (s k).toInt ∧ (s k).toInt ≤ 20) 12 0 a2 (by omega) h4 ?_ ?_
  · intro fu s k
    exact pk_le 12 12 (fun _ => nm_r (nI_1 n) (H _ _ ⟨rfl, by omega, h3, fun j hj => k j (by omega), fun z => absurd rfl z⟩)) (fun z => absurd z (by omega))
  · intro fu i s hi k hw
    refine pk_le 12 i (fun z => absurd z (by omega)) (fun _ => ⟨pk_in i 12 hi, ?_⟩)
    rw [cl_12, nI_add, nI_clamp (show 12 * n + i < 2 ^ 31 by omega), nI_clamp (show i < 2 ^ 31 by omega)]
    refine ⟨pk_in (12 * n + i) 120 (by omega), nm_e (nm_r (nI_1 i) (hw (upd s (12 * n + i) (a1 i)) (fun j hj => ?_)))⟩
    by_cases e : j = 12 * n + i
    · rw [e, pk_us]
      exact h3 i hi
    · rw [pk_un e]
      exact k j (by omega)
theorem cl_draw {post : Int32 → St1 → Prop} {n : Nat} {u : St1} {p0 : Int32} (h : cl_inv n u) (H : ∀ r m u', cl_inv m u' → post r u') : wpX_draw post u p0 := by
  obtain ⟨f0, f1, f2, f3, a1, a2, a3, a4, a5, a6, a7, a8, a9, a10, a11, a12, a13, a14, a15, a16, a17⟩ := u
  have e0 := h.1
  have hn := h.2.1
  subst e0
  have s0 := fun r => H r n _ h
  unfold wpX_draw
  dsimp only
  refine br_c (fun _ => s0 _) (fun _ => br_c (fun _ => br_c (fun _ => s0 _) (fun z => ?_)) (fun _ => s0 _))
  have hn' : n < 10 := by
    rcases Nat.lt_or_ge n 10 with y | y
    · exact y
    · exact absurd (show nI n = 10 by rw [show n = 10 by omega]; rfl) z
  have s37 : ∀ r4 : Int32, wX_draw_37 post p0 r4 (nI n) f1 f2 f3 a1 a2 a3 a4 a5 a6 a7 a8 a9 a10 a11 a12 a13 a14 a15 a16 a17 := by
    intro r4
    have k := cl_51 (post := post) hn' h (fun r u' hu => H r _ u' hu)
    exact br_c (fun _ => br_c (fun _ => k) (fun _ => s0 _)) (fun _ => k)
  exact nm_e (nm_e (nm_e (br_c (fun _ => br_c (fun _ => s0 _) (fun _ => s37 _)) (fun _ => s37 _))))
theorem cl_remove {post : Int32 → St1 → Prop} {n : Nat} {u : St1} {p0 : Int32} (h : cl_inv n u) (H : ∀ r m u', cl_inv m u' → post r u') : wpX_remove post u p0 := by
  obtain ⟨f0, f1, f2, f3, a1, a2, a3, a4, a5, a6, a7, a8, a9, a10, a11, a12, a13, a14, a15, a16, a17⟩ := u
  have e0 := h.1
  have hn := h.2.1
  subst e0
  have s0 := fun r => H r n _ h
  obtain ⟨h1, h2, h3, h4, h5⟩ := id h
  unfold wpX_remove
  dsimp only
  unfold wpX_isDrawn
  dsimp only
  refine br_c (fun _ => br_t rfl (s0 _)) (fun z => br_c (fun _ => br_t rfl (s0 _)) (fun z2 => br_f (by decide) ?_))
  obtain ⟨t, ht, e⟩ := nI_of z
  rw [e] at z2
  have htn : t < n := by
    rcases Nat.lt_or_ge t n with y | y
    · exact y
    · exact absurd (nI_le y ht) z2
  rw [e]
  refine nm_r (cl_12 t) ?_
  have e12 : 12 * nI n - 12 = nI (12 * n - 12) := by rw [cl_12, show (12 : Int32) = nI 12 from rfl, pk_sub (by omega)]
  refine pk_loop (σ := Nat → Int32) (fun fu i s => wX_remove_15 post (nI n) f1 f2 f3 fu (nI i) a1 s a3 a4 a5 a6 a7 a8 a9 a10 a11 a12 a13 a14 a15 a16 a17) (fun i s => ∀ k, k < 12 * n → -20 ≤ (s k).toInt ∧ (s k).toInt ≤ 20) (12 * n - 12) (12 * t) a2 (by omega) h4 ?_ ?_
  · intro fu s k
    refine pk_le (12 * n - 12) (12 * n - 12) (fun _ => nm_r (e' := nI (n - 1)) ?_ (H _ (n - 1) _ ⟨rfl, by omega, h3, fun j hj => k j (by omega), fun z => absurd rfl z⟩)) (fun z => absurd z (by omega)) e12
    rw [show (1 : Int32) = nI 1 from rfl, pk_sub (by omega)]
  · intro fu i s hi k hw
    refine pk_le (12 * n - 12) i (fun z => absurd z (by omega)) (fun _ => ?_) e12
    rw [show (12 : Int32) = nI 12 from rfl, nI_add, nI_clamp (show i + 12 < 2 ^ 31 by omega), nI_clamp (show i < 2 ^ 31 by omega)]
    refine ⟨pk_in (i + 12) 120 (by omega), pk_in i 120 (by omega), nm_e (nm_r (nI_1 i) (hw (upd s i (s (i + 12))) (fun j hj => ?_)))⟩
    by_cases e : j = i
    · rw [e, pk_us]
      exact k _ (by omega)
    · rw [pk_un e]
      exact k j hj
end
section
theorem cl_cell {post : Int32 → Prop} {L : Nat} {xs : Nat → Int32} {p : Int32} {k : Nat} (hL : L ≤ 260) (hk : k ≤ 1000) (e : p = nI k) (H : ∀ r, post r) : wpL_cell post L xs () p := by
  rw [e]
  exact pk_le L k (fun _ => H _) (fun z => ⟨pk_in k L z, H _⟩)
theorem cl_part {post : Int32 → Prop} {p : Int32} (H : ∀ r, post r) : wpL_part post () p := ⟨by decide, H _⟩
theorem cl_201 {post : Int32 → Prop} {L : Nat} {xs : Nat → Int32} {J : cw_J} {x2 x3 : Int32} {kc ks n k : Nat} {f0 f1 f2 f3 : Int32} {a1 a2 a3 a4 a5 : Nat → Int32} {a6 a7 a8 a9 a10 a11 a12 a13 a14 a15 a16 a17 : Nat → Int64} (h : cl_inv n (f0, f1, f2, f3, a1, a2, a3, a4, a5, a6, a7, a8, a9, a10, a11, a12, a13, a14, a15, a16, a17)) (e : x2 = nI k) (H : ∀ (m : Nat) (g0 g1 g2 g3 : Int32) (b1 b2 b3 b4 b5 : Nat → Int32) (b6 b7 b8 b9 b10 b11 b12 b13 b14 b15 b16 b17 : Nat → Int64), cl_inv m (g0, g1, g2, g3, b1, b2, b3, b4, b5, b6, b7, b8, b9, b10, b11, b12, b13, b14, b15, b16, b17) → J (nI (k + 3)) g0 g1 g2 g3 b1 b2 b3 b4 b5 b6 b7 b8 b9 b10 b11 b12 b13 b14 b15 b16 b17) : wL_law_201 post L xs J x2 x3 kc ks f0 f1 f2 f3 a1 a2 a3 a4 a5 a6 a7 a8 a9 a10 a11 a12 a13 a14 a15 a16 a17 := by
  have e3 : x2 + 3 = nI (k + 3) := by rw [e, show (3 : Int32) = nI 3 from rfl, nI_add]
  refine br_c (fun _ => cl_holds h ?_) (fun _ => nm_r e3 (H n _ _ _ _ _ _ _ _ _ _ _ _ _ _ _ _ _ _ _ _ _ h))
  rintro ⟨g0, g1, g2, g3, b1, b2, b3, b4, b5, b6, b7, b8, b9, b10, b11, b12, b13, b14, b15, b16, b17⟩ hc
  exact br_f (by decide) (nm_r e3 (H n _ _ _ _ _ _ _ _ _ _ _ _ _ _ _ _ _ _ _ _ _ (cl_cur_inv hc)))
theorem cl_law {L : Nat} {xs : Nat → Int32} (hL : L ≤ 260) (kc ks : Nat) {f0 f1 f2 f3 : Int32} {a1 a2 a3 a4 a5 : Nat → Int32} {a6 a7 a8 a9 a10 a11 a12 a13 a14 a15 a16 a17 : Nat → Int64} (h : cl_inv 0 (f0, f1, f2, f3, a1, a2, a3, a4, a5, a6, a7, a8, a9, a10, a11, a12, a13, a14, a15, a16, a17)) : ∃ fu, wL_law_10 (fun r => r = 1) L xs kc ks fu 0 f0 f1 f2 f3 a1 a2 a3 a4 a5 a6 a7 a8 a9 a10 a11 a12 a13 a14 a15 a16 a17 := by
  refine pk_loop (σ := St1) (fun fu i s => wL_law_10 (fun r => r = 1) L xs kc ks fu (nI (3 * i)) s.1 s.2.1 s.2.2.1 s.2.2.2.1 s.2.2.2.2.1 s.2.2.2.2.2.1 s.2.2.2.2.2.2.1 s.2.2.2.2.2.2.2.1 s.2.2.2.2.2.2.2.2.1 s.2.2.2.2.2.2.2.2.2.1 s.2.2.2.2.2.2.2.2.2.2.1 s.2.2.2.2.2.2.2.2.2.2.2.1 s.2.2.2.2.2.2.2.2.2.2.2.2.1 s.2.2.2.2.2.2.2.2.2.2.2.2.2.1 s.2.2.2.2.2.2.2.2.2.2.2.2.2.2.1 s.2.2.2.2.2.2.2.2.2.2.2.2.2.2.2.1 s.2.2.2.2.2.2.2.2.2.2.2.2.2.2.2.2.1 s.2.2.2.2.2.2.2.2.2.2.2.2.2.2.2.2.2.1 s.2.2.2.2.2.2.2.2.2.2.2.2.2.2.2.2.2.2.1 s.2.2.2.2.2.2.2.2.2.2.2.2.2.2.2.2.2.2.2.1 s.2.2.2.2.2.2.2.2.2.2.2.2.2.2.2.2.2.2.2.2) (fun _ s => ∃ n, cl_inv n s) ((L + 2) / 3) 0 (f0, f1, f2, f3, a1, a2, a3, a4, a5, a6, a7, a8, a9, a10, a11, a12, a13, a14, a15, a16, a17) (by omega) ⟨0, h⟩ ?_ ?_
  · rintro fu ⟨f0, f1, f2, f3, a1, a2, a3, a4, a5, a6, a7, a8, a9, a10, a11, a12, a13, a14, a15, a16, a17⟩ ⟨n, hn⟩
    refine pk_le L (3 * ((L + 2) / 3)) (fun _ => cl_holds hn ?_) (fun z => absurd z (by omega))
    rintro ⟨g0, g1, g2, g3, b1, b2, b3, b4, b5, b6, b7, b8, b9, b10, b11, b12, b13, b14, b15, b16, b17⟩ _
    rfl
  · rintro fu i ⟨f0, f1, f2, f3, a1, a2, a3, a4, a5, a6, a7, a8, a9, a10, a11, a12, a13, a14, a15, a16, a17⟩ hi ⟨n, hn⟩ hw
    have s201 : ∀ (m : Nat) (x3 : Int32) (u : St1), cl_inv m u → wL_law_201 (fun r => r = 1) L xs (wL_law_10 (fun r => r = 1) L xs kc ks fu) (nI (3 * i)) x3 kc ks u.1 u.2.1 u.2.2.1 u.2.2.2.1 u.2.2.2.2.1 u.2.2.2.2.2.1 u.2.2.2.2.2.2.1 u.2.2.2.2.2.2.2.1 u.2.2.2.2.2.2.2.2.1 u.2.2.2.2.2.2.2.2.2.1 u.2.2.2.2.2.2.2.2.2.2.1 u.2.2.2.2.2.2.2.2.2.2.2.1 u.2.2.2.2.2.2.2.2.2.2.2.2.1 u.2.2.2.2.2.2.2.2.2.2.2.2.2.1 u.2.2.2.2.2.2.2.2.2.2.2.2.2.2.1 u.2.2.2.2.2.2.2.2.2.2.2.2.2.2.2.1 u.2.2.2.2.2.2.2.2.2.2.2.2.2.2.2.2.1 u.2.2.2.2.2.2.2.2.2.2.2.2.2.2.2.2.2.1 u.2.2.2.2.2.2.2.2.2.2.2.2.2.2.2.2.2.2.1 u.2.2.2.2.2.2.2.2.2.2.2.2.2.2.2.2.2.2.2.1 u.2.2.2.2.2.2.2.2.2.2.2.2.2.2.2.2.2.2.2.2 := by
      intro m x3 u hu
      refine cl_201 (n := m) (k := 3 * i) hu rfl ?_
      intro m' g0 g1 g2 g3 b1 b2 b3 b4 b5 b6 b7 b8 b9 b10 b11 b12 b13 b14 b15 b16 b17 hu'
      exact hw (g0, g1, g2, g3, b1, b2, b3, b4, b5, b6, b7, b8, b9, b10, b11, b12, b13, b14, b15, b16, b17) ⟨m', hu'⟩
    have c1 : nI (3 * i) + 1 = nI (3 * i + 1) := nI_1 _
    have c2 : nI (3 * i) + 2 = nI (3 * i + 2) := by rw [show (2 : Int32) = nI 2 from rfl, nI_add]
    refine pk_le L (3 * i) (fun z => absurd z (by omega)) (fun _ => cl_cell hL (by omega) rfl (fun r119 => cl_cell hL (by omega) c1 (fun r120 => cl_cell hL (by omega) c2 (fun r121 => cl_part (fun r122 => cl_part (fun r123 => ⟨by decide, fun x8 _ => ?_⟩))))))
    refine br_c (fun _ => br_c (fun _ => br_c (fun _ => ?_) (fun _ => ⟨by decide, ?_⟩)) (fun _ => cl_part (fun r302 => cl_part (fun r303 => ?_)))) (fun _ => ?_)
    · exact cl_remove hn (fun r m u hu => s201 m r119 u hu)
    · exact cl_draw hn (fun r m u hu => s201 m r119 u hu)
    · exact cl_place hn (fun r u hu => cl_depth hu (fun r' u' hu' => s201 n r119 u' hu'))
    · exact cl_place hn (fun r u hu => cl_part (fun r472 => cl_depth hu (fun r' u' hu' => s201 n r119 u' hu')))
theorem i_vc (xs : Nat → Int32) (L : Nat) (hL : L ≤ 260) : wpL_law (fun r => r = 1) L xs := by
  refine ⟨17, 876, by omega, by omega, ?_⟩
  refine ⟨by omega, by omega, by omega, by omega, by omega, by omega, by omega, by omega, by omega, by omega, by omega, by omega, by omega, by omega, by omega, by omega, by omega, by omega, by omega, by omega, by omega, by omega, by omega, by omega, by omega, by omega, by omega, by omega, by omega, by omega, by omega, by omega, by omega, by omega, ?_⟩
  refine cl_law hL _ _ ⟨rfl, by omega, fun k _ => ?_, fun k hk => absurd hk (by omega), fun z => absurd rfl z⟩
  show -20 ≤ (0 : Int32).toInt ∧ (0 : Int32).toInt ≤ 20
  decide
end
